section
/-! rows pasted from PURE-ROWS.to-paste (starting text) -/
theorem pk_us {f : Nat → Int32} {k : Nat} {x : Int32} : upd f k x k = x := if_pos rfl
theorem pk_un {f : Nat → Int32} {k j : Nat} {x : Int32} (h : j ≠ k) : upd f k x j = f j := if_neg h
theorem pk_uLs {f : Nat → Int64} {k : Nat} {x : Int64} : vp_updL f k x k = x := if_pos rfl
theorem pk_uLn {f : Nat → Int64} {k j : Nat} {x : Int64} (h : j ≠ k) : vp_updL f k x j = f j := if_neg h
theorem pk_sub {a b : Nat} (h : b ≤ a) : nI a - nI b = nI (a - b) := by
  obtain ⟨c, rfl⟩ : ∃ c, a = c + b := ⟨a - b, by omega⟩
  rw [← nI_add, Int32.add_sub_cancel, Nat.add_sub_cancel]
theorem pk_m1 (n : Nat) : nI (n + 1) + (-1) = nI n := by
  rw [← nI_1, Int32.add_assoc, show (1 : Int32) + (-1) = 0 from rfl, Int32.add_zero]
theorem pk_mul (a b : Nat) : nI a * nI b = nI (a * b) := (Int32.ofNat_mul a b).symm
theorem pk_div {a d : Nat} (ha : a < 2 ^ 31) (h0 : 0 < d) (hd : d < 2 ^ 31) : nI a / nI d = nI (a / d) := by
  apply Int32.toInt_inj.mp
  rw [lg_idiv_nonneg (by rw [nI_toInt ha]; omega) (by rw [nI_toInt hd]; omega), nI_toInt ha, nI_toInt hd, nI_toInt (Nat.lt_of_le_of_lt (Nat.div_le_self a d) ha)]
  first | rfl | exact (Int.natCast_ediv _ _).symm
theorem pk_rem {a d : Nat} (ha : a < 2 ^ 31) (h0 : 0 < d) (hd : d < 2 ^ 31) : nI a - nI a / nI d * nI d = nI (a % d) := by
  rw [pk_div ha h0 hd, pk_mul, pk_sub (Nat.div_mul_le_self a d)]
  exact congrArg nI (by have := Nat.div_add_mod' a d; omega)
theorem pk_sub_toInt {a b : Nat} (ha : a < 2 ^ 30) (hb : b < 2 ^ 30) : (nI a - nI b).toInt = (a : Int) - b := by
  rw [Int32.toInt_sub, nI_toInt (by omega), nI_toInt (by omega)]
  exact Int.bmod_eq_of_le (by omega) (by omega)
theorem pk_sneg {a b : Nat} (hb : b < 2 ^ 30) (h : a < b) : nI a - nI b < 0 := by
  rw [Int32.lt_iff_toInt_lt, pk_sub_toInt (by omega) hb, show (0 : Int32).toInt = 0 from by decide]
  omega
theorem pk_ix (x : Int32) {n : Nat} (hn : n < 2 ^ 31) : x < 0 ∨ nI n ≤ x ∨ ∃ j : Nat, j < n ∧ x = nI j := by
  by_cases h : x < 0
  · exact Or.inl h
  · obtain ⟨j, hj, rfl⟩ := nI_of h
    by_cases h2 : j < n
    · exact Or.inr (Or.inr ⟨j, h2, rfl⟩)
    · exact Or.inr (Or.inl (nI_le (by omega) hj))
theorem pk_le {x y : Int32} {A B : Prop} (a b : Nat) (f : a ≤ b → A) (g : b < a → B) (hx : x = nI a := by rfl) (hy : y = nI b := by rfl) (ha : a < 2 ^ 31 := by omega) (hb : b < 2 ^ 31 := by omega) : (x ≤ y → A) ∧ (¬ x ≤ y → B) := by
  subst hx hy
  rw [nI_leI ha hb]
  exact ⟨f, fun z => g (by omega)⟩
theorem pk_lt {x y : Int32} {A B : Prop} (a b : Nat) (f : a < b → A) (g : b ≤ a → B) (hx : x = nI a := by rfl) (hy : y = nI b := by rfl) (ha : a < 2 ^ 31 := by omega) (hb : b < 2 ^ 31 := by omega) : (x < y → A) ∧ (¬ x < y → B) := by
  subst hx hy
  rw [nI_ltI ha hb]
  exact ⟨f, fun z => g (by omega)⟩
theorem pk_eq {x y : Int32} {A B : Prop} (a b : Nat) (f : a = b → A) (g : a ≠ b → B) (hx : x = nI a := by rfl) (hy : y = nI b := by rfl) (ha : a < 2 ^ 31 := by omega) (hb : b < 2 ^ 31 := by omega) : (x = y → A) ∧ (¬ x = y → B) := by
  subst hx hy
  rw [nI_eq ha hb]
  exact ⟨f, g⟩
theorem pk_in {x : Int32} (n N : Nat) (h : n < N) (hx : x = nI n := by rfl) (hN : N < 2 ^ 31 := by omega) : vp_in x N := by
  subst hx
  exact vp_in_nI h hN
theorem pk_cl {x : Int32} (n : Nat) (hx : x = nI n := by rfl) (h : n < 2 ^ 31 := by omega) : x.toNatClampNeg = n := by
  subst hx
  exact nI_clamp h
theorem pk_tn {n : Nat} (h : n < 2 ^ 32) : (nI n).toBitVec.toNat = n := Nat.mod_eq_of_lt h
theorem pk_and (x : Int32) {m : Int32} (k : Nat) (hm : m.toBitVec.toNat = 2 ^ k - 1) : x &&& m = nI (x.toBitVec.toNat % 2 ^ k) := by
  apply Int32.toBitVec_inj.mp
  apply BitVec.eq_of_toNat_eq
  rw [Int32.toBitVec_and, BitVec.toNat_and, hm, Nat.and_two_pow_sub_one_eq_mod]
  show _ = (BitVec.ofNat 32 _).toNat
  rw [BitVec.toNat_ofNat]
  exact (Nat.mod_eq_of_lt (Nat.lt_of_le_of_lt (Nat.mod_le _ _) x.toBitVec.isLt)).symm
theorem pk_andN {n : Nat} (h : n < 2 ^ 32) {m : Int32} (k : Nat) (hm : m.toBitVec.toNat = 2 ^ k - 1) : nI n &&& m = nI (n % 2 ^ k) := by
  rw [pk_and _ k hm, pk_tn h]
theorem pk_shl (a s : Int32) (k : Nat) (hs : (s.toBitVec.smod 32).toNat = k) : (a <<< s).toBitVec.toNat = a.toBitVec.toNat * 2 ^ k % 2 ^ 32 := by
  show (a.toBitVec <<< (s.toBitVec.smod 32).toNat).toNat = _
  rw [hs, BitVec.toNat_shiftLeft, Nat.shiftLeft_eq]
theorem pk_shlN {n : Nat} (s : Int32) (k : Nat) (hs : (s.toBitVec.smod 32).toNat = k) (h : n * 2 ^ k < 2 ^ 32) : nI n <<< s = nI (n * 2 ^ k) := by
  apply Int32.toBitVec_inj.mp
  apply BitVec.eq_of_toNat_eq
  have hn : n < 2 ^ 32 := Nat.lt_of_le_of_lt (Nat.le_mul_of_pos_right n (Nat.two_pow_pos k)) h
  rw [pk_shl _ _ k hs, pk_tn hn, pk_tn h, Nat.mod_eq_of_lt h]
theorem pk_shr (a s : Int32) (k : Nat) (hs : (s.toBitVec.smod 32).toNat = k) : (a >>> s).toInt = a.toInt >>> k := by
  show (a.toBitVec.sshiftRight (s.toBitVec.smod 32).toNat).toInt = _
  rw [hs, BitVec.toInt_sshiftRight]
  rfl
theorem pk_shrN {n : Nat} (h : n < 2 ^ 31) (s : Int32) (k : Nat) (hs : (s.toBitVec.smod 32).toNat = k) : nI n >>> s = nI (n / 2 ^ k) := by
  apply Int32.toInt_inj.mp
  have h2 : n / 2 ^ k ≤ n := Nat.div_le_self _ _
  rw [pk_shr _ _ k hs, nI_toInt h, nI_toInt (by omega), Int.shiftRight_eq_div_pow]
  rfl
theorem pk_ushr (x s : Int32) (k : Nat) (hs : ((s.toUInt32 &&& Int32.toUInt32 31).toBitVec % 32).toNat = k) : (x.toUInt32 >>> (s.toUInt32 &&& Int32.toUInt32 31)).toInt32.toBitVec.toNat = x.toBitVec.toNat / 2 ^ k := by
  have e : (x.toUInt32 >>> (s.toUInt32 &&& Int32.toUInt32 31)).toInt32.toBitVec = x.toBitVec >>> k := by
    rw [← hs]
    exact UInt32.toBitVec_shiftRight _ _
  rw [e, BitVec.toNat_ushiftRight, Nat.shiftRight_eq_div_pow]
theorem pk_ushrN {n : Nat} (hn : n < 2 ^ 32) (s : Int32) (k : Nat) (hs : ((s.toUInt32 &&& Int32.toUInt32 31).toBitVec % 32).toNat = k) : ((nI n).toUInt32 >>> (s.toUInt32 &&& Int32.toUInt32 31)).toInt32 = nI (n / 2 ^ k) := by
  apply Int32.toBitVec_inj.mp
  apply BitVec.eq_of_toNat_eq
  rw [pk_ushr _ s k hs, pk_tn hn, pk_tn (Nat.lt_of_le_of_lt (Nat.div_le_self _ _) hn)]
theorem ek_if {c d A B : Prop} (e : c ↔ d) (f : d → A) (g : ¬ d → B) : (c → A) ∧ (¬ c → B) :=
  ⟨fun z => f (e.mp z), fun z => g (fun y => z (e.mpr y))⟩
theorem ek_v {α : Sort _} {P : α → Prop} {a b : α} (e : a = b) (h : P b) : P a := e ▸ h
/-! ===== Int32 by its bits: bt x i ===== -/
def bt (x : Int32) (i : Nat) : Bool := x.toBitVec.getLsbD i
theorem b_ext {x y : Int32} (h : ∀ i, i < 32 → bt x i = bt y i) : x = y := Int32.toBitVec_inj.mp (BitVec.eq_of_getLsbD_eq (fun i hi => h i hi))
theorem b_or (x y : Int32) (i : Nat) : bt (x ||| y) i = (bt x i || bt y i) := by unfold bt; rw [Int32.toBitVec_or, BitVec.getLsbD_or]
theorem b_and (x y : Int32) (i : Nat) : bt (x &&& y) i = (bt x i && bt y i) := by unfold bt; rw [Int32.toBitVec_and, BitVec.getLsbD_and]
theorem b_xor (x y : Int32) (i : Nat) : bt (x ^^^ y) i = (bt x i ^^ bt y i) := by unfold bt; rw [Int32.toBitVec_xor, BitVec.getLsbD_xor]
theorem b_big {x : Int32} {i : Nat} (h : 32 ≤ i) : bt x i = false := BitVec.getLsbD_of_ge _ _ h
theorem b_255 (i : Nat) : bt 255 i = decide (i < 8) := by
  rcases Nat.lt_or_ge i 32 with h | h
  · exact (by decide +kernel : ∀ i, i < 32 → bt 255 i = decide (i < 8)) i h
  · rw [b_big h, decide_eq_false (by omega)]
theorem b_65535 (i : Nat) : bt 65535 i = decide (i < 16) := by
  rcases Nat.lt_or_ge i 32 with h | h
  · exact (by decide +kernel : ∀ i, i < 32 → bt 65535 i = decide (i < 16)) i h
  · rw [b_big h, decide_eq_false (by omega)]
theorem b_m1 : ∀ i, i < 32 → bt (-1) i = true := by decide +kernel
theorem b_0 (i : Nat) : bt 0 i = false := BitVec.getLsbD_zero
theorem s_l : ∀ n, n < 32 → ((nI n &&& 31).toBitVec.smod 32).toNat = n := by decide +kernel
theorem s_u : ∀ n, n < 32 → (((nI n).toUInt32 &&& Int32.toUInt32 31).toBitVec % 32).toNat = n := by decide +kernel
theorem b_shl (n : Nat) (hn : n < 32) (x : Int32) {i : Nat} (hi : i < 32) : bt (x <<< (nI n &&& 31)) i = (decide (n ≤ i) && bt x (i - n)) := by
  unfold bt
  rw [Int32.toBitVec_shiftLeft]
  show (x.toBitVec <<< ((nI n &&& 31).toBitVec.smod 32).toNat).getLsbD i = _
  rw [s_l n hn, BitVec.getLsbD_shiftLeft]
  rcases Nat.lt_or_ge i n with h | h
  · simp [h, Nat.not_le.mpr h]
  · simp [hi, h, Nat.not_lt.mpr h]
theorem b_ushr (n : Nat) (hn : n < 32) (x : Int32) (i : Nat) : bt ((x.toUInt32 >>> ((nI n).toUInt32 &&& Int32.toUInt32 31)).toInt32) i = bt x (n + i) := by
  show (x.toUInt32 >>> ((nI n).toUInt32 &&& Int32.toUInt32 31)).toBitVec.getLsbD i = x.toUInt32.toBitVec.getLsbD (n + i)
  rw [UInt32.toBitVec_shiftRight]
  show (x.toUInt32.toBitVec >>> (((nI n).toUInt32 &&& Int32.toUInt32 31).toBitVec % 32).toNat).getLsbD i = _
  rw [s_u n hn, BitVec.getLsbD_ushiftRight]
theorem b_sshr (n : Nat) (hn : n < 32) (x : Int32) {i : Nat} (hi : i < 32) : bt (x >>> (nI n &&& 31)) i = if n + i < 32 then bt x (n + i) else bt x 31 := by
  unfold bt
  rw [Int32.toBitVec_shiftRight]
  show (x.toBitVec.sshiftRight ((nI n &&& 31).toBitVec.smod 32).toNat).getLsbD i = _
  rw [s_l n hn, BitVec.getLsbD_sshiftRight, BitVec.msb_eq_getLsbD_last]
  simp [hi]
theorem b_shl8 (x : Int32) {i : Nat} (hi : i < 32) : bt (x <<< ((8 : Int32) &&& 31)) i = (decide (8 ≤ i) && bt x (i - 8)) := b_shl 8 (by omega) x hi
theorem b_shl16 (x : Int32) {i : Nat} (hi : i < 32) : bt (x <<< ((16 : Int32) &&& 31)) i = (decide (16 ≤ i) && bt x (i - 16)) := b_shl 16 (by omega) x hi
theorem b_shl24 (x : Int32) {i : Nat} (hi : i < 32) : bt (x <<< ((24 : Int32) &&& 31)) i = (decide (24 ≤ i) && bt x (i - 24)) := b_shl 24 (by omega) x hi
theorem b_sshr8 (x : Int32) {i : Nat} (hi : i < 32) : bt (x >>> ((8 : Int32) &&& 31)) i = if 8 + i < 32 then bt x (8 + i) else bt x 31 := b_sshr 8 (by omega) x hi
/-! ===== lN n to 2^64: shifts, and, or, masks, one bit ===== -/
theorem wb_tb (n : Nat) : (lN n).toBitVec = BitVec.ofNat 64 n := rfl
theorem wb_inj {a b : Int64} (h : a.toBitVec = b.toBitVec) : a = b := Int64.toBitVec_inj.mp h
theorem wb_tn {n : Nat} (h : n < 2 ^ 64) : (lN n).toBitVec.toNat = n := by rw [wb_tb, BitVec.toNat_ofNat, Nat.mod_eq_of_lt h]
theorem wb_of (x : Int64) : ∃ n, n < 2 ^ 64 ∧ x = lN n := ⟨x.toBitVec.toNat, x.toBitVec.isLt, wb_inj (by rw [wb_tb]; simp)⟩
theorem wb_of32 (x : Int32) : ∃ n, n < 2 ^ 32 ∧ x = nI n := ⟨x.toBitVec.toNat, x.toBitVec.isLt, Int32.toBitVec_inj.mp (by show _ = BitVec.ofNat 32 _; simp)⟩
theorem wb_c : ∀ k, k < 64 → ((nI k).toInt64 &&& 63) = lN k := by decide +kernel
theorem wb_cu : ∀ k, k < 64 → ((nI k).toInt64.toUInt64 &&& Int64.toUInt64 63) = UInt64.ofNat k := by decide +kernel
theorem wb_sm : ∀ k, k < 64 → (BitVec.ofNat 64 k).smod 64 = BitVec.ofNat 64 k := by decide +kernel
theorem wb_pw {a b : Nat} (h : a ≤ b) : 2 ^ b = 2 ^ a * 2 ^ (b - a) := by rw [← Nat.pow_add]; congr 1; omega
theorem wb_lt2 {a b : Nat} (h : a < b) : 2 ^ a < 2 ^ b := Nat.pow_lt_pow_right (by decide) h
theorem wb_mod (n : Nat) : lN n = lN (n % 2 ^ 64) := wb_inj (by rw [wb_tb, wb_tb]; apply BitVec.eq_of_toNat_eq; rw [BitVec.toNat_ofNat, BitVec.toNat_ofNat, Nat.mod_mod])
theorem wb_shr {n k : Nat} (hn : n < 2 ^ 64) (hk : k < 64) : ((lN n).toUInt64 >>> ((nI k).toInt64.toUInt64 &&& Int64.toUInt64 63)).toInt64 = lN (n / 2 ^ k) := by
  rw [wb_cu k hk]
  apply wb_inj
  apply BitVec.eq_of_toNat_eq
  show ((lN n).toUInt64 >>> UInt64.ofNat k).toNat = (BitVec.ofNat 64 _).toNat
  have h1 : (UInt64.ofNat k).toNat = k := by
    show (BitVec.ofNat 64 k).toNat = k
    rw [BitVec.toNat_ofNat, Nat.mod_eq_of_lt (by omega)]
  have h2 : (lN n).toUInt64.toNat = n := wb_tn hn
  rw [UInt64.toNat_shiftRight, h1, h2, Nat.mod_eq_of_lt hk, Nat.shiftRight_eq_div_pow, BitVec.toNat_ofNat, Nat.mod_eq_of_lt (Nat.lt_of_le_of_lt (Nat.div_le_self _ _) hn)]
theorem wb_shl (n : Nat) {k : Nat} (hk : k < 64) : lN n <<< ((nI k).toInt64 &&& 63) = lN (n * 2 ^ k) := by
  rw [wb_c k hk]
  apply wb_inj
  rw [Int64.toBitVec_shiftLeft, wb_tb, wb_tb, wb_tb, wb_sm k hk]
  apply BitVec.eq_of_toNat_eq
  rw [BitVec.shiftLeft_eq', BitVec.toNat_shiftLeft, BitVec.toNat_ofNat, BitVec.toNat_ofNat, BitVec.toNat_ofNat, Nat.mod_eq_of_lt (show k < 2 ^ 64 by omega), Nat.shiftLeft_eq, Nat.mul_mod, Nat.mod_mod, ← Nat.mul_mod]
theorem wb_and {a b : Nat} (ha : a < 2 ^ 64) (hb : b < 2 ^ 64) : lN a &&& lN b = lN (a &&& b) := by
  apply wb_inj
  rw [Int64.toBitVec_and, wb_tb, wb_tb, wb_tb]
  apply BitVec.eq_of_toNat_eq
  rw [BitVec.toNat_and, BitVec.toNat_ofNat, BitVec.toNat_ofNat, BitVec.toNat_ofNat, Nat.mod_eq_of_lt ha, Nat.mod_eq_of_lt hb, Nat.mod_eq_of_lt (Nat.and_lt_two_pow _ hb)]
theorem wb_or {a b : Nat} (ha : a < 2 ^ 64) (hb : b < 2 ^ 64) : lN a ||| lN b = lN (a ||| b) := by
  apply wb_inj
  rw [Int64.toBitVec_or, wb_tb, wb_tb, wb_tb]
  apply BitVec.eq_of_toNat_eq
  rw [BitVec.toNat_or, BitVec.toNat_ofNat, BitVec.toNat_ofNat, BitVec.toNat_ofNat, Nat.mod_eq_of_lt ha, Nat.mod_eq_of_lt hb, Nat.mod_eq_of_lt (Nat.or_lt_two_pow ha hb)]
theorem wb_mask {n k : Nat} (hn : n < 2 ^ 64) (hk : k < 64) : lN n &&& lN (2 ^ k - 1) = lN (n % 2 ^ k) := by
  rw [wb_and hn (by have := wb_lt2 hk; omega), Nat.and_two_pow_sub_one_eq_mod]
theorem wb_a1 {n : Nat} (hn : n < 2 ^ 64) : lN n &&& 1 = lN (n % 2) := wb_mask (k := 1) hn (by decide)
theorem wb_bit {n k : Nat} (hn : n < 2 ^ 64) (hk : k < 64) : ((lN n).toUInt64 >>> ((nI k).toInt64.toUInt64 &&& Int64.toUInt64 63)).toInt64 &&& 1 = lN (n / 2 ^ k % 2) := by
  rw [wb_shr hn hk, wb_a1 (Nat.lt_of_le_of_lt (Nat.div_le_self _ _) hn)]
theorem nx_and (a b : Nat) : nI a &&& nI b = nI (a &&& b) := by
  apply Int32.toBitVec_inj.1
  show BitVec.ofNat 32 a &&& BitVec.ofNat 32 b = BitVec.ofNat 32 (a &&& b)
  apply BitVec.eq_of_getLsbD_eq
  intro i hi
  simp [hi]
end
section
/-! booleans as ints, positions as q - 1, bits of longs and ints -/
def fx_b (b : Bool) : Int32 := if b then 1 else 0
def fx_m (q : Nat) : Int32 := nI q - 1
def fx_t (x : Int64) (c : Nat) : Bool := x.toBitVec.getLsbD c
theorem fx_b_inj : ∀ a b : Bool, fx_b a = fx_b b ↔ a = b := by decide
theorem fx_b_not (b : Bool) : 1 - fx_b b = fx_b (!b) := by cases b <;> decide
theorem fx_b_0 : ∀ b : Bool, fx_b b = 0 ↔ b = false := by decide
theorem fx_b_1 : ∀ b : Bool, fx_b b = 1 ↔ b = true := by decide
theorem fx_b_f : fx_b false = 0 := by decide
theorem fx_b_t : fx_b true = 1 := by decide
theorem fx_m_0 : fx_m 0 = -1 := by decide
theorem fx_m_s (q : Nat) : fx_m (q + 1) = nI q := nI_pred q
theorem fx_m_1 (q : Nat) : fx_m q + 1 = nI q := by unfold fx_m; exact Int32.sub_add_cancel _ _
theorem fx_m_d (q : Nat) : fx_m (q + 1) + (-1) = fx_m q := by
  rw [fx_m_s]
  cases q with
  | zero => decide
  | succ q => rw [fx_m_s]; exact pk_m1 q
theorem fx_i0 : (0 : Int32).toInt = 0 := by decide
theorem fx_i1 : (1 : Int32).toInt = 1 := by decide
theorem fx_im1 : (-1 : Int32).toInt = -1 := by decide
theorem fx_m_i {q : Nat} (h : q < 2 ^ 31) : (fx_m q).toInt = (q : Int) - 1 := by
  cases q with
  | zero => rw [fx_m_0, fx_im1]; rfl
  | succ q => rw [fx_m_s, nI_toInt (by omega)]; omega
theorem fx_m_neg {q : Nat} (h : q < 2 ^ 31) : fx_m q < 0 ↔ q = 0 := by
  rw [Int32.lt_iff_toInt_lt, fx_m_i h, fx_i0]; omega
theorem fx_m_nn {q : Nat} (h : q < 2 ^ 31) : 0 ≤ fx_m q ↔ 0 < q := by
  rw [Int32.le_iff_toInt_le, fx_m_i h, fx_i0]; omega
theorem fx_m_m1 {q : Nat} (h : q < 2 ^ 31) : fx_m q = -1 ↔ q = 0 := by
  rw [← Int32.toInt_inj, fx_m_i h, fx_im1]; omega
theorem fx_le_m {c q : Nat} (hc : c < 2 ^ 31) (h : q < 2 ^ 31) : nI c ≤ fx_m q ↔ c < q := by
  rw [Int32.le_iff_toInt_le, fx_m_i h, nI_toInt hc]; omega
theorem fx_m_eq {w q : Nat} (hc : w < 2 ^ 31) (h : q < 2 ^ 31) : fx_m q = nI w ↔ q = w + 1 := by
  rw [← Int32.toInt_inj, fx_m_i h, nI_toInt hc]; omega
theorem fx_m_lt {c q : Nat} (hc : c < 2 ^ 31) (h : q < 2 ^ 31) : fx_m q < nI c ↔ q < c + 1 := by
  rw [Int32.lt_iff_toInt_lt, fx_m_i h, nI_toInt hc]; omega
/-! longs by bits -/
theorem fx_t_ext {x y : Int64} (h : ∀ c, c < 64 → fx_t x c = fx_t y c) : x = y := Int64.toBitVec_inj.mp (BitVec.eq_of_getLsbD_eq (fun i hi => h i hi))
theorem fx_t_big {x : Int64} {c : Nat} (h : 64 ≤ c) : fx_t x c = false := BitVec.getLsbD_of_ge _ _ h
theorem fx_t_0 (c : Nat) : fx_t 0 c = false := BitVec.getLsbD_zero
theorem fx_t_m1 : ∀ c, c < 64 → fx_t (-1) c = true := by decide +kernel
theorem fx_t_or (x y : Int64) (c : Nat) : fx_t (x ||| y) c = (fx_t x c || fx_t y c) := by unfold fx_t; rw [Int64.toBitVec_or, BitVec.getLsbD_or]
theorem fx_t_and (x y : Int64) (c : Nat) : fx_t (x &&& y) c = (fx_t x c && fx_t y c) := by unfold fx_t; rw [Int64.toBitVec_and, BitVec.getLsbD_and]
theorem fx_t_xor (x y : Int64) (c : Nat) : fx_t (x ^^^ y) c = (fx_t x c ^^ fx_t y c) := by unfold fx_t; rw [Int64.toBitVec_xor, BitVec.getLsbD_xor]
theorem fx_t_clr {x y : Int64} {c : Nat} (hc : c < 64) : fx_t (x &&& (y ^^^ (-1))) c = (fx_t x c && !fx_t y c) := by
  rw [fx_t_and, fx_t_xor, fx_t_m1 c hc, Bool.xor_true]
theorem fx_t_lN {n c : Nat} (hc : c < 64) : fx_t (lN n) c = n.testBit c := by
  unfold fx_t
  rw [wb_tb, BitVec.getLsbD_ofNat]
  simp [hc]
theorem fx_bit {c : Nat} (hc : c < 64) (x : Int64) : (((x.toUInt64 >>> ((nI c).toInt64.toUInt64 &&& Int64.toUInt64 63)).toInt64) &&& 1).toInt32 = fx_b (fx_t x c) := by
  obtain ⟨n, hn, rfl⟩ := wb_of x
  rw [wb_bit hn hc, lN_i, fx_t_lN hc, Nat.testBit_eq_decide_div_mod_eq]
  rcases Nat.mod_two_eq_zero_or_one (n / 2 ^ c) with h | h
  · rw [h]; decide
  · rw [h]; decide
theorem fx_t_shl {n : Nat} (hn : n < 64) (x : Int64) {i : Nat} (hi : i < 64) : fx_t (x <<< ((nI n).toInt64 &&& 63)) i = (decide (n ≤ i) && fx_t x (i - n)) := by
  unfold fx_t
  rw [wb_c n hn, Int64.toBitVec_shiftLeft, wb_tb, wb_sm n hn, BitVec.shiftLeft_eq', BitVec.toNat_ofNat, Nat.mod_eq_of_lt (show n < 2 ^ 64 by omega), BitVec.getLsbD_shiftLeft]
  rcases Nat.lt_or_ge i n with h | h
  · simp [h, Nat.not_le.mpr h]
  · simp [hi, h, Nat.not_lt.mpr h]
theorem fx_t_ushr {n : Nat} (hn : n < 64) (x : Int64) (i : Nat) : fx_t ((x.toUInt64 >>> ((nI n).toInt64.toUInt64 &&& Int64.toUInt64 63)).toInt64) i = fx_t x (n + i) := by
  have e : (x.toUInt64 >>> ((nI n).toInt64.toUInt64 &&& Int64.toUInt64 63)).toInt64.toBitVec = x.toBitVec >>> n := by
    rw [wb_cu n hn]
    apply BitVec.eq_of_toNat_eq
    show (x.toUInt64 >>> UInt64.ofNat n).toNat = _
    have h1 : (UInt64.ofNat n).toNat = n := by
      show (BitVec.ofNat 64 n).toNat = n
      rw [BitVec.toNat_ofNat, Nat.mod_eq_of_lt (by omega)]
    rw [UInt64.toNat_shiftRight, h1, Nat.mod_eq_of_lt hn, BitVec.toNat_ushiftRight]
    rfl
  unfold fx_t
  rw [e, BitVec.getLsbD_ushiftRight]
theorem fx_t_msk {n : Nat} (hn : n < 64) {i : Nat} (hi : i < 64) : fx_t (((1 : Int64) <<< ((nI n).toInt64 &&& 63)) - 1) i = decide (i < n) := by
  have e : ((1 : Int64) <<< ((nI n).toInt64 &&& 63)) - 1 = lN (2 ^ n - 1) := by
    show (lN 1 <<< ((nI n).toInt64 &&& 63)) - lN 1 = _
    rw [wb_shl 1 hn, Nat.one_mul, lN_sub Nat.one_le_two_pow]
  rw [e, fx_t_lN hi, Nat.testBit_two_pow_sub_one]
theorem fx_t_one {n : Nat} (hn : n < 64) {i : Nat} (hi : i < 64) : fx_t ((1 : Int64) <<< ((nI n).toInt64 &&& 63)) i = decide (i = n) := by
  have e : ((1 : Int64) <<< ((nI n).toInt64 &&& 63)) = lN (2 ^ n) := by
    show (lN 1 <<< ((nI n).toInt64 &&& 63)) = _
    rw [wb_shl 1 hn, Nat.one_mul]
  rw [e, fx_t_lN hi, Nat.testBit_two_pow]
  by_cases z : i = n
  · subst z; simp
  · simp [z, show ¬ n = i from fun y => z y.symm]
/-! ints by bits -/
theorem fx_bt_1 (i : Nat) (hi : i < 32) : bt 1 i = decide (i = 0) := (by decide +kernel : ∀ i, i < 32 → bt 1 i = decide (i = 0)) i hi
theorem fx_bt_b (b : Bool) (i : Nat) (hi : i < 32) : bt (fx_b b) i = (b && decide (i = 0)) := by
  cases b
  · rw [fx_b_f, b_0]; rfl
  · rw [fx_b_t, fx_bt_1 i hi, Bool.true_and]
theorem fx_ub {n : Nat} (hn : n < 32) (x : Int32) : ((x.toUInt32 >>> ((nI n).toUInt32 &&& Int32.toUInt32 31)).toInt32 &&& 1) = fx_b (bt x n) := by
  apply b_ext
  intro i hi
  rw [b_and, b_ushr n hn, fx_bt_1 i hi, fx_bt_b _ i hi]
  by_cases z : i = 0
  · subst z; rfl
  · simp [z]
theorem fx_sb {n : Nat} (hn : n < 32) (x : Int32) : ((x >>> (nI n &&& 31)) &&& 1) = fx_b (bt x n) := by
  apply b_ext
  intro i hi
  rw [b_and, b_sshr n hn x hi, fx_bt_1 i hi, fx_bt_b _ i hi]
  by_cases z : i = 0
  · subst z; rw [if_pos (by omega)]; rfl
  · simp [z]
theorem fx_byte (b : Bool) : vp_nar .byte ((fx_b b).toInt8.toInt32) = fx_b b := by
  rw [vp_nar_byte]; cases b <;> decide
theorem fx_byte' {n : Nat} (hn : n < 32) (x : Int32) : vp_nar .byte ((((x.toUInt32 >>> ((nI n).toUInt32 &&& Int32.toUInt32 31)).toInt32) &&& 1).toInt8.toInt32) = fx_b (bt x n) := by
  rw [fx_ub hn, fx_byte]
theorem fx_flip (b : Bool) : vp_nar .byte ((1 - fx_b b).toInt8.toInt32) = fx_b (!b) := by
  rw [fx_b_not, fx_byte]
end
section
/-! the reference's numbers as one function of nineteen values -/
def fx_pt (p0 p1 p2 p3 p4 p5 p6 p7 p8 p9 p10 p11 p12 p13 p14 p15 p16 p17 p18 : Int32) : Nat → Int32 := fun i => match i with
  | 0 => p0
  | 1 => p1
  | 2 => p2
  | 3 => p3
  | 4 => p4
  | 5 => p5
  | 6 => p6
  | 7 => p7
  | 8 => p8
  | 9 => p9
  | 10 => p10
  | 11 => p11
  | 12 => p12
  | 13 => p13
  | 14 => p14
  | 15 => p15
  | 16 => p16
  | 17 => p17
  | 18 => p18
  | _ => 0
section
variable {p0 p1 p2 p3 p4 p5 p6 p7 p8 p9 p10 p11 p12 p13 p14 p15 p16 p17 p18 x : Int32}
theorem fx_pt_u0 : upd (fx_pt p0 p1 p2 p3 p4 p5 p6 p7 p8 p9 p10 p11 p12 p13 p14 p15 p16 p17 p18) 0 x = fx_pt x p1 p2 p3 p4 p5 p6 p7 p8 p9 p10 p11 p12 p13 p14 p15 p16 p17 p18 := by
  funext j
  by_cases z : j = 0
  · subst z; exact pk_us
  · rw [pk_un z]
    match j, z with
    | 0, z => exact absurd rfl z
    | 1, _ => rfl
    | 2, _ => rfl
    | 3, _ => rfl
    | 4, _ => rfl
    | 5, _ => rfl
    | 6, _ => rfl
    | 7, _ => rfl
    | 8, _ => rfl
    | 9, _ => rfl
    | 10, _ => rfl
    | 11, _ => rfl
    | 12, _ => rfl
    | 13, _ => rfl
    | 14, _ => rfl
    | 15, _ => rfl
    | 16, _ => rfl
    | 17, _ => rfl
    | 18, _ => rfl
    | _ + 19, _ => rfl
theorem fx_pt_u1 : upd (fx_pt p0 p1 p2 p3 p4 p5 p6 p7 p8 p9 p10 p11 p12 p13 p14 p15 p16 p17 p18) 1 x = fx_pt p0 x p2 p3 p4 p5 p6 p7 p8 p9 p10 p11 p12 p13 p14 p15 p16 p17 p18 := by
  funext j
  by_cases z : j = 1
  · subst z; exact pk_us
  · rw [pk_un z]
    match j, z with
    | 0, _ => rfl
    | 1, z => exact absurd rfl z
    | 2, _ => rfl
    | 3, _ => rfl
    | 4, _ => rfl
    | 5, _ => rfl
    | 6, _ => rfl
    | 7, _ => rfl
    | 8, _ => rfl
    | 9, _ => rfl
    | 10, _ => rfl
    | 11, _ => rfl
    | 12, _ => rfl
    | 13, _ => rfl
    | 14, _ => rfl
    | 15, _ => rfl
    | 16, _ => rfl
    | 17, _ => rfl
    | 18, _ => rfl
    | _ + 19, _ => rfl
theorem fx_pt_u2 : upd (fx_pt p0 p1 p2 p3 p4 p5 p6 p7 p8 p9 p10 p11 p12 p13 p14 p15 p16 p17 p18) 2 x = fx_pt p0 p1 x p3 p4 p5 p6 p7 p8 p9 p10 p11 p12 p13 p14 p15 p16 p17 p18 := by
  funext j
  by_cases z : j = 2
  · subst z; exact pk_us
  · rw [pk_un z]
    match j, z with
    | 0, _ => rfl
    | 1, _ => rfl
    | 2, z => exact absurd rfl z
    | 3, _ => rfl
    | 4, _ => rfl
    | 5, _ => rfl
    | 6, _ => rfl
    | 7, _ => rfl
    | 8, _ => rfl
    | 9, _ => rfl
    | 10, _ => rfl
    | 11, _ => rfl
    | 12, _ => rfl
    | 13, _ => rfl
    | 14, _ => rfl
    | 15, _ => rfl
    | 16, _ => rfl
    | 17, _ => rfl
    | 18, _ => rfl
    | _ + 19, _ => rfl
theorem fx_pt_u3 : upd (fx_pt p0 p1 p2 p3 p4 p5 p6 p7 p8 p9 p10 p11 p12 p13 p14 p15 p16 p17 p18) 3 x = fx_pt p0 p1 p2 x p4 p5 p6 p7 p8 p9 p10 p11 p12 p13 p14 p15 p16 p17 p18 := by
  funext j
  by_cases z : j = 3
  · subst z; exact pk_us
  · rw [pk_un z]
    match j, z with
    | 0, _ => rfl
    | 1, _ => rfl
    | 2, _ => rfl
    | 3, z => exact absurd rfl z
    | 4, _ => rfl
    | 5, _ => rfl
    | 6, _ => rfl
    | 7, _ => rfl
    | 8, _ => rfl
    | 9, _ => rfl
    | 10, _ => rfl
    | 11, _ => rfl
    | 12, _ => rfl
    | 13, _ => rfl
    | 14, _ => rfl
    | 15, _ => rfl
    | 16, _ => rfl
    | 17, _ => rfl
    | 18, _ => rfl
    | _ + 19, _ => rfl
theorem fx_pt_u4 : upd (fx_pt p0 p1 p2 p3 p4 p5 p6 p7 p8 p9 p10 p11 p12 p13 p14 p15 p16 p17 p18) 4 x = fx_pt p0 p1 p2 p3 x p5 p6 p7 p8 p9 p10 p11 p12 p13 p14 p15 p16 p17 p18 := by
  funext j
  by_cases z : j = 4
  · subst z; exact pk_us
  · rw [pk_un z]
    match j, z with
    | 0, _ => rfl
    | 1, _ => rfl
    | 2, _ => rfl
    | 3, _ => rfl
    | 4, z => exact absurd rfl z
    | 5, _ => rfl
    | 6, _ => rfl
    | 7, _ => rfl
    | 8, _ => rfl
    | 9, _ => rfl
    | 10, _ => rfl
    | 11, _ => rfl
    | 12, _ => rfl
    | 13, _ => rfl
    | 14, _ => rfl
    | 15, _ => rfl
    | 16, _ => rfl
    | 17, _ => rfl
    | 18, _ => rfl
    | _ + 19, _ => rfl
theorem fx_pt_u5 : upd (fx_pt p0 p1 p2 p3 p4 p5 p6 p7 p8 p9 p10 p11 p12 p13 p14 p15 p16 p17 p18) 5 x = fx_pt p0 p1 p2 p3 p4 x p6 p7 p8 p9 p10 p11 p12 p13 p14 p15 p16 p17 p18 := by
  funext j
  by_cases z : j = 5
  · subst z; exact pk_us
  · rw [pk_un z]
    match j, z with
    | 0, _ => rfl
    | 1, _ => rfl
    | 2, _ => rfl
    | 3, _ => rfl
    | 4, _ => rfl
    | 5, z => exact absurd rfl z
    | 6, _ => rfl
    | 7, _ => rfl
    | 8, _ => rfl
    | 9, _ => rfl
    | 10, _ => rfl
    | 11, _ => rfl
    | 12, _ => rfl
    | 13, _ => rfl
    | 14, _ => rfl
    | 15, _ => rfl
    | 16, _ => rfl
    | 17, _ => rfl
    | 18, _ => rfl
    | _ + 19, _ => rfl
theorem fx_pt_u6 : upd (fx_pt p0 p1 p2 p3 p4 p5 p6 p7 p8 p9 p10 p11 p12 p13 p14 p15 p16 p17 p18) 6 x = fx_pt p0 p1 p2 p3 p4 p5 x p7 p8 p9 p10 p11 p12 p13 p14 p15 p16 p17 p18 := by
  funext j
  by_cases z : j = 6
  · subst z; exact pk_us
  · rw [pk_un z]
    match j, z with
    | 0, _ => rfl
    | 1, _ => rfl
    | 2, _ => rfl
    | 3, _ => rfl
    | 4, _ => rfl
    | 5, _ => rfl
    | 6, z => exact absurd rfl z
    | 7, _ => rfl
    | 8, _ => rfl
    | 9, _ => rfl
    | 10, _ => rfl
    | 11, _ => rfl
    | 12, _ => rfl
    | 13, _ => rfl
    | 14, _ => rfl
    | 15, _ => rfl
    | 16, _ => rfl
    | 17, _ => rfl
    | 18, _ => rfl
    | _ + 19, _ => rfl
theorem fx_pt_u7 : upd (fx_pt p0 p1 p2 p3 p4 p5 p6 p7 p8 p9 p10 p11 p12 p13 p14 p15 p16 p17 p18) 7 x = fx_pt p0 p1 p2 p3 p4 p5 p6 x p8 p9 p10 p11 p12 p13 p14 p15 p16 p17 p18 := by
  funext j
  by_cases z : j = 7
  · subst z; exact pk_us
  · rw [pk_un z]
    match j, z with
    | 0, _ => rfl
    | 1, _ => rfl
    | 2, _ => rfl
    | 3, _ => rfl
    | 4, _ => rfl
    | 5, _ => rfl
    | 6, _ => rfl
    | 7, z => exact absurd rfl z
    | 8, _ => rfl
    | 9, _ => rfl
    | 10, _ => rfl
    | 11, _ => rfl
    | 12, _ => rfl
    | 13, _ => rfl
    | 14, _ => rfl
    | 15, _ => rfl
    | 16, _ => rfl
    | 17, _ => rfl
    | 18, _ => rfl
    | _ + 19, _ => rfl
theorem fx_pt_u8 : upd (fx_pt p0 p1 p2 p3 p4 p5 p6 p7 p8 p9 p10 p11 p12 p13 p14 p15 p16 p17 p18) 8 x = fx_pt p0 p1 p2 p3 p4 p5 p6 p7 x p9 p10 p11 p12 p13 p14 p15 p16 p17 p18 := by
  funext j
  by_cases z : j = 8
  · subst z; exact pk_us
  · rw [pk_un z]
    match j, z with
    | 0, _ => rfl
    | 1, _ => rfl
    | 2, _ => rfl
    | 3, _ => rfl
    | 4, _ => rfl
    | 5, _ => rfl
    | 6, _ => rfl
    | 7, _ => rfl
    | 8, z => exact absurd rfl z
    | 9, _ => rfl
    | 10, _ => rfl
    | 11, _ => rfl
    | 12, _ => rfl
    | 13, _ => rfl
    | 14, _ => rfl
    | 15, _ => rfl
    | 16, _ => rfl
    | 17, _ => rfl
    | 18, _ => rfl
    | _ + 19, _ => rfl
theorem fx_pt_u9 : upd (fx_pt p0 p1 p2 p3 p4 p5 p6 p7 p8 p9 p10 p11 p12 p13 p14 p15 p16 p17 p18) 9 x = fx_pt p0 p1 p2 p3 p4 p5 p6 p7 p8 x p10 p11 p12 p13 p14 p15 p16 p17 p18 := by
  funext j
  by_cases z : j = 9
  · subst z; exact pk_us
  · rw [pk_un z]
    match j, z with
    | 0, _ => rfl
    | 1, _ => rfl
    | 2, _ => rfl
    | 3, _ => rfl
    | 4, _ => rfl
    | 5, _ => rfl
    | 6, _ => rfl
    | 7, _ => rfl
    | 8, _ => rfl
    | 9, z => exact absurd rfl z
    | 10, _ => rfl
    | 11, _ => rfl
    | 12, _ => rfl
    | 13, _ => rfl
    | 14, _ => rfl
    | 15, _ => rfl
    | 16, _ => rfl
    | 17, _ => rfl
    | 18, _ => rfl
    | _ + 19, _ => rfl
theorem fx_pt_u10 : upd (fx_pt p0 p1 p2 p3 p4 p5 p6 p7 p8 p9 p10 p11 p12 p13 p14 p15 p16 p17 p18) 10 x = fx_pt p0 p1 p2 p3 p4 p5 p6 p7 p8 p9 x p11 p12 p13 p14 p15 p16 p17 p18 := by
  funext j
  by_cases z : j = 10
  · subst z; exact pk_us
  · rw [pk_un z]
    match j, z with
    | 0, _ => rfl
    | 1, _ => rfl
    | 2, _ => rfl
    | 3, _ => rfl
    | 4, _ => rfl
    | 5, _ => rfl
    | 6, _ => rfl
    | 7, _ => rfl
    | 8, _ => rfl
    | 9, _ => rfl
    | 10, z => exact absurd rfl z
    | 11, _ => rfl
    | 12, _ => rfl
    | 13, _ => rfl
    | 14, _ => rfl
    | 15, _ => rfl
    | 16, _ => rfl
    | 17, _ => rfl
    | 18, _ => rfl
    | _ + 19, _ => rfl
theorem fx_pt_u11 : upd (fx_pt p0 p1 p2 p3 p4 p5 p6 p7 p8 p9 p10 p11 p12 p13 p14 p15 p16 p17 p18) 11 x = fx_pt p0 p1 p2 p3 p4 p5 p6 p7 p8 p9 p10 x p12 p13 p14 p15 p16 p17 p18 := by
  funext j
  by_cases z : j = 11
  · subst z; exact pk_us
  · rw [pk_un z]
    match j, z with
    | 0, _ => rfl
    | 1, _ => rfl
    | 2, _ => rfl
    | 3, _ => rfl
    | 4, _ => rfl
    | 5, _ => rfl
    | 6, _ => rfl
    | 7, _ => rfl
    | 8, _ => rfl
    | 9, _ => rfl
    | 10, _ => rfl
    | 11, z => exact absurd rfl z
    | 12, _ => rfl
    | 13, _ => rfl
    | 14, _ => rfl
    | 15, _ => rfl
    | 16, _ => rfl
    | 17, _ => rfl
    | 18, _ => rfl
    | _ + 19, _ => rfl
theorem fx_pt_u12 : upd (fx_pt p0 p1 p2 p3 p4 p5 p6 p7 p8 p9 p10 p11 p12 p13 p14 p15 p16 p17 p18) 12 x = fx_pt p0 p1 p2 p3 p4 p5 p6 p7 p8 p9 p10 p11 x p13 p14 p15 p16 p17 p18 := by
  funext j
  by_cases z : j = 12
  · subst z; exact pk_us
  · rw [pk_un z]
    match j, z with
    | 0, _ => rfl
    | 1, _ => rfl
    | 2, _ => rfl
    | 3, _ => rfl
    | 4, _ => rfl
    | 5, _ => rfl
    | 6, _ => rfl
    | 7, _ => rfl
    | 8, _ => rfl
    | 9, _ => rfl
    | 10, _ => rfl
    | 11, _ => rfl
    | 12, z => exact absurd rfl z
    | 13, _ => rfl
    | 14, _ => rfl
    | 15, _ => rfl
    | 16, _ => rfl
    | 17, _ => rfl
    | 18, _ => rfl
    | _ + 19, _ => rfl
theorem fx_pt_u13 : upd (fx_pt p0 p1 p2 p3 p4 p5 p6 p7 p8 p9 p10 p11 p12 p13 p14 p15 p16 p17 p18) 13 x = fx_pt p0 p1 p2 p3 p4 p5 p6 p7 p8 p9 p10 p11 p12 x p14 p15 p16 p17 p18 := by
  funext j
  by_cases z : j = 13
  · subst z; exact pk_us
  · rw [pk_un z]
    match j, z with
    | 0, _ => rfl
    | 1, _ => rfl
    | 2, _ => rfl
    | 3, _ => rfl
    | 4, _ => rfl
    | 5, _ => rfl
    | 6, _ => rfl
    | 7, _ => rfl
    | 8, _ => rfl
    | 9, _ => rfl
    | 10, _ => rfl
    | 11, _ => rfl
    | 12, _ => rfl
    | 13, z => exact absurd rfl z
    | 14, _ => rfl
    | 15, _ => rfl
    | 16, _ => rfl
    | 17, _ => rfl
    | 18, _ => rfl
    | _ + 19, _ => rfl
theorem fx_pt_u14 : upd (fx_pt p0 p1 p2 p3 p4 p5 p6 p7 p8 p9 p10 p11 p12 p13 p14 p15 p16 p17 p18) 14 x = fx_pt p0 p1 p2 p3 p4 p5 p6 p7 p8 p9 p10 p11 p12 p13 x p15 p16 p17 p18 := by
  funext j
  by_cases z : j = 14
  · subst z; exact pk_us
  · rw [pk_un z]
    match j, z with
    | 0, _ => rfl
    | 1, _ => rfl
    | 2, _ => rfl
    | 3, _ => rfl
    | 4, _ => rfl
    | 5, _ => rfl
    | 6, _ => rfl
    | 7, _ => rfl
    | 8, _ => rfl
    | 9, _ => rfl
    | 10, _ => rfl
    | 11, _ => rfl
    | 12, _ => rfl
    | 13, _ => rfl
    | 14, z => exact absurd rfl z
    | 15, _ => rfl
    | 16, _ => rfl
    | 17, _ => rfl
    | 18, _ => rfl
    | _ + 19, _ => rfl
theorem fx_pt_u15 : upd (fx_pt p0 p1 p2 p3 p4 p5 p6 p7 p8 p9 p10 p11 p12 p13 p14 p15 p16 p17 p18) 15 x = fx_pt p0 p1 p2 p3 p4 p5 p6 p7 p8 p9 p10 p11 p12 p13 p14 x p16 p17 p18 := by
  funext j
  by_cases z : j = 15
  · subst z; exact pk_us
  · rw [pk_un z]
    match j, z with
    | 0, _ => rfl
    | 1, _ => rfl
    | 2, _ => rfl
    | 3, _ => rfl
    | 4, _ => rfl
    | 5, _ => rfl
    | 6, _ => rfl
    | 7, _ => rfl
    | 8, _ => rfl
    | 9, _ => rfl
    | 10, _ => rfl
    | 11, _ => rfl
    | 12, _ => rfl
    | 13, _ => rfl
    | 14, _ => rfl
    | 15, z => exact absurd rfl z
    | 16, _ => rfl
    | 17, _ => rfl
    | 18, _ => rfl
    | _ + 19, _ => rfl
theorem fx_pt_u16 : upd (fx_pt p0 p1 p2 p3 p4 p5 p6 p7 p8 p9 p10 p11 p12 p13 p14 p15 p16 p17 p18) 16 x = fx_pt p0 p1 p2 p3 p4 p5 p6 p7 p8 p9 p10 p11 p12 p13 p14 p15 x p17 p18 := by
  funext j
  by_cases z : j = 16
  · subst z; exact pk_us
  · rw [pk_un z]
    match j, z with
    | 0, _ => rfl
    | 1, _ => rfl
    | 2, _ => rfl
    | 3, _ => rfl
    | 4, _ => rfl
    | 5, _ => rfl
    | 6, _ => rfl
    | 7, _ => rfl
    | 8, _ => rfl
    | 9, _ => rfl
    | 10, _ => rfl
    | 11, _ => rfl
    | 12, _ => rfl
    | 13, _ => rfl
    | 14, _ => rfl
    | 15, _ => rfl
    | 16, z => exact absurd rfl z
    | 17, _ => rfl
    | 18, _ => rfl
    | _ + 19, _ => rfl
theorem fx_pt_u17 : upd (fx_pt p0 p1 p2 p3 p4 p5 p6 p7 p8 p9 p10 p11 p12 p13 p14 p15 p16 p17 p18) 17 x = fx_pt p0 p1 p2 p3 p4 p5 p6 p7 p8 p9 p10 p11 p12 p13 p14 p15 p16 x p18 := by
  funext j
  by_cases z : j = 17
  · subst z; exact pk_us
  · rw [pk_un z]
    match j, z with
    | 0, _ => rfl
    | 1, _ => rfl
    | 2, _ => rfl
    | 3, _ => rfl
    | 4, _ => rfl
    | 5, _ => rfl
    | 6, _ => rfl
    | 7, _ => rfl
    | 8, _ => rfl
    | 9, _ => rfl
    | 10, _ => rfl
    | 11, _ => rfl
    | 12, _ => rfl
    | 13, _ => rfl
    | 14, _ => rfl
    | 15, _ => rfl
    | 16, _ => rfl
    | 17, z => exact absurd rfl z
    | 18, _ => rfl
    | _ + 19, _ => rfl
theorem fx_pt_u18 : upd (fx_pt p0 p1 p2 p3 p4 p5 p6 p7 p8 p9 p10 p11 p12 p13 p14 p15 p16 p17 p18) 18 x = fx_pt p0 p1 p2 p3 p4 p5 p6 p7 p8 p9 p10 p11 p12 p13 p14 p15 p16 p17 x := by
  funext j
  by_cases z : j = 18
  · subst z; exact pk_us
  · rw [pk_un z]
    match j, z with
    | 0, _ => rfl
    | 1, _ => rfl
    | 2, _ => rfl
    | 3, _ => rfl
    | 4, _ => rfl
    | 5, _ => rfl
    | 6, _ => rfl
    | 7, _ => rfl
    | 8, _ => rfl
    | 9, _ => rfl
    | 10, _ => rfl
    | 11, _ => rfl
    | 12, _ => rfl
    | 13, _ => rfl
    | 14, _ => rfl
    | 15, _ => rfl
    | 16, _ => rfl
    | 17, _ => rfl
    | 18, z => exact absurd rfl z
    | _ + 19, _ => rfl
end
end
section
/-! searches along a row: nextOf and first, findB1 and change; pixel -/
def fx_nx (f : Nat → Bool) (k : Bool) (w : Nat) : Nat → Nat → Nat
  | 0, _ => w
  | d + 1, c => if f c = k then c else fx_nx f k w d (c + 1)
def fx_pv (f : Nat → Bool) (c : Nat) : Bool := match c with
  | 0 => false
  | c + 1 => f c
def fx_cx (f : Nat → Bool) (k : Bool) (w : Nat) : Nat → Nat → Nat
  | 0, _ => w
  | d + 1, c => if f c = k then fx_cx f k w d (c + 1) else if fx_pv f c = k then c else fx_cx f k w d (c + 1)
def fx_nw (f : Nat → Bool) (k : Bool) (w q : Nat) : Nat := fx_nx f k w (w - q) q
def fx_cw (f : Nat → Bool) (k : Bool) (w q : Nat) : Nat := fx_cx f k w (w - q) q
theorem fx_nx_le (f : Nat → Bool) (k : Bool) (w : Nat) : ∀ d c, d = w - c → fx_nx f k w d c ≤ w ∧ (c ≤ w → c ≤ fx_nx f k w d c) := by
  intro d
  induction d with
  | zero => intro c hd; exact ⟨Nat.le_refl w, fun h => h⟩
  | succ d ih =>
    intro c hd
    have := ih (c + 1) (by omega)
    rw [fx_nx]
    split
    · omega
    · omega
theorem fx_cx_le (f : Nat → Bool) (k : Bool) (w : Nat) : ∀ d c, d = w - c → fx_cx f k w d c ≤ w ∧ (c ≤ w → c ≤ fx_cx f k w d c) := by
  intro d
  induction d with
  | zero => intro c hd; exact ⟨Nat.le_refl w, fun h => h⟩
  | succ d ih =>
    intro c hd
    have := ih (c + 1) (by omega)
    rw [fx_cx]
    split
    · omega
    · split
      · omega
      · omega
theorem fx_nw_le (f : Nat → Bool) (k : Bool) (w q : Nat) : fx_nw f k w q ≤ w := (fx_nx_le f k w _ q rfl).1
theorem fx_nw_ge (f : Nat → Bool) (k : Bool) {w q : Nat} (h : q ≤ w) : q ≤ fx_nw f k w q := (fx_nx_le f k w _ q rfl).2 h
theorem fx_cw_le (f : Nat → Bool) (k : Bool) (w q : Nat) : fx_cw f k w q ≤ w := (fx_cx_le f k w _ q rfl).1
theorem fx_cw_ge (f : Nat → Bool) (k : Bool) {w q : Nat} (h : q ≤ w) : q ≤ fx_cw f k w q := (fx_cx_le f k w _ q rfl).2 h
section
variable {f_pageWidth f_pageHeight f_limit f_coded f_finished f_used f_untouched f_state f_taken f_rows f_phase f_position f_current f_pending f_pendingBits f_makeUp f_firstRun f_passes f_horizontals f_verticals : Int32} {a_wordBits a_wordSize a_stream : Nat → Int32} {a_source a_decoded : Nat → Int64}
variable {w q : Nat} {k : Bool}
theorem fx_X_nx {post : Int32 → Prop} (b : Int64) (hw : w ≤ 64) : ∀ d n c, d = w - c → c < 2 ^ 31 → d < n → post (nI (fx_nx (fx_t b) k w d c)) → wX_nextOf_5 post b (fx_b k) (nI w) f_pageHeight f_limit f_coded f_finished f_used f_untouched f_state f_taken f_rows f_phase f_position f_current f_pending f_pendingBits f_makeUp f_firstRun f_passes f_horizontals f_verticals a_wordBits a_wordSize a_source a_stream a_decoded n (nI c) := by
  intro d
  induction d with
  | zero =>
    intro n c hd hc hn hp
    obtain ⟨n, rfl⟩ : ∃ n', n = n' + 1 := ⟨n - 1, by omega⟩
    exact br_t (nI_le (by omega) hc) hp
  | succ d ih =>
    intro n c hd hc hn hp
    obtain ⟨n, rfl⟩ : ∃ n', n = n' + 1 := ⟨n - 1, by omega⟩
    refine br_f (nI_ge (by omega) (by omega)) ?_
    refine nm_r (fx_bit (by omega) b) ?_
    rw [fx_nx] at hp
    refine ek_if (fx_b_inj _ _) (fun e => ?_) (fun e => ?_)
    · rw [if_pos e] at hp; exact hp
    · rw [if_neg e] at hp
      exact nm_r (nI_1 c) (ih n (c + 1) (by omega) (by omega) (by omega) hp)
theorem fx_X_next {post : Int32 → Prop} {b : Int64} {p1 p2 : Int32} (hw : w ≤ 64) (hq : q < 2 ^ 31) (ea : p1 = fx_m q) (ek : p2 = fx_b k) (hp : post (nI (fx_nw (fx_t b) k w q))) : wpX_nextOf post ((nI w), f_pageHeight, f_limit, f_coded, f_finished, f_used, f_untouched, f_state, f_taken, f_rows, f_phase, f_position, f_current, f_pending, f_pendingBits, f_makeUp, f_firstRun, f_passes, f_horizontals, f_verticals, a_wordBits, a_wordSize, a_source, a_stream, a_decoded) b p1 p2 := by
  subst ea ek
  exact nm_r (fx_m_1 q) ⟨_, fx_X_nx b hw (w - q) (w - q + 1) q rfl hq (by omega) hp⟩
theorem fx_X_cx {post : Int32 → Prop} (b : Int64) (hw : w ≤ 64) : ∀ d n c, d = w - c → c < 2 ^ 31 → d < n → post (nI (fx_cx (fx_t b) k w d c)) → wX_findB1_20 post b (fx_b k) (nI w) f_pageHeight f_limit f_coded f_finished f_used f_untouched f_state f_taken f_rows f_phase f_position f_current f_pending f_pendingBits f_makeUp f_firstRun f_passes f_horizontals f_verticals a_wordBits a_wordSize a_source a_stream a_decoded n (fx_b (fx_pv (fx_t b) c)) (nI c) := by
  intro d
  induction d with
  | zero =>
    intro n c hd hc hn hp
    obtain ⟨n, rfl⟩ : ∃ n', n = n' + 1 := ⟨n - 1, by omega⟩
    exact br_t (nI_le (by omega) hc) hp
  | succ d ih =>
    intro n c hd hc hn hp
    obtain ⟨n, rfl⟩ : ∃ n', n = n' + 1 := ⟨n - 1, by omega⟩
    refine br_f (nI_ge (by omega) (by omega)) ?_
    refine nm_r (fx_bit (by omega) b) ?_
    rw [fx_cx] at hp
    refine ek_if (fx_b_inj _ _) (fun e => ?_) (fun e => ?_)
    · rw [if_pos e] at hp
      exact nm_r (nI_1 c) (ih n (c + 1) (by omega) (by omega) (by omega) hp)
    · rw [if_neg e] at hp
      refine ek_if (fx_b_inj _ _) (fun e => ?_) (fun e => ?_)
      · rw [if_pos e] at hp; exact hp
      · rw [if_neg e] at hp
        exact nm_r (nI_1 c) (ih n (c + 1) (by omega) (by omega) (by omega) hp)
theorem fx_X_find {post : Int32 → Prop} {b : Int64} (hw : w ≤ 64) (hq : q ≤ w) (hp : post (nI (fx_cw (fx_t b) k w q))) : wpX_findB1 post ((nI w), f_pageHeight, f_limit, f_coded, f_finished, f_used, f_untouched, f_state, f_taken, f_rows, f_phase, f_position, f_current, f_pending, f_pendingBits, f_makeUp, f_firstRun, f_passes, f_horizontals, f_verticals, a_wordBits, a_wordSize, a_source, a_stream, a_decoded) b (fx_m q) (fx_b k) := by
  cases q with
  | zero => exact br_t ((fx_m_neg (by omega)).mpr rfl) (nm_r (fx_m_1 0) ⟨_, fx_X_cx b hw (w - 0) (w - 0 + 1) 0 rfl (by omega) (by omega) hp⟩)
  | succ q =>
    rw [fx_m_s]
    exact br_f (nI_pos (by omega)) (nm_r (fx_bit (by omega) b) (nm_r (nI_1 q) ⟨_, fx_X_cx b hw (w - (q + 1)) (w - (q + 1) + 1) (q + 1) rfl (by omega) (by omega) hp⟩))
end
/-- row r of page p of the reference holds f (white outside) -/
def fx_Row (u : SY) (p r : Int32) (f : Nat → Bool) (w : Nat) : Prop := ∀ (post : Int32 → Prop) (c : Nat), c ≤ w → post (fx_b (fx_pv f c)) → wpY_pixel post u p r (fx_m c)
section
variable {part dot s : Nat → Int32} {p r : Int32} {f : Nat → Bool} {k : Bool} {w h q : Nat}
theorem fx_Row_n {u : SY} {post : Int32 → Prop} {c : Nat} (R : fx_Row u p r f w) (hc : c < w) (hp : post (fx_b (f c))) : wpY_pixel post u p r (nI c) := by
  rw [← fx_m_s]
  exact R post (c + 1) (by omega) hp
theorem fx_Y_nx {post : Int32 → Prop} (R : fx_Row (part, dot, s) p r f w) (e0 : part 0 = nI w) (hw : w ≤ 64) (hq : q < 2 ^ 31) : ∀ d n c, d = w - c → q ≤ c → c < 2 ^ 31 → d < n → post (nI (fx_nx f k w d c)) → wY_first_3 post p r (fx_m q) (fx_b k) part dot s n (nI c) := by
  intro d
  induction d with
  | zero =>
    intro n c hd hqc hc hn hp
    obtain ⟨n, rfl⟩ : ∃ n', n = n' + 1 := ⟨n - 1, by omega⟩
    exact br_t (by rw [e0]; exact nI_le (by omega) hc) (by rw [e0]; exact hp)
  | succ d ih =>
    intro n c hd hqc hc hn hp
    obtain ⟨n, rfl⟩ : ∃ n', n = n' + 1 := ⟨n - 1, by omega⟩
    refine br_f (by rw [e0]; exact nI_ge (by omega) (by omega)) ?_
    refine br_f (by rw [fx_le_m hc hq]; omega) ?_
    refine fx_Row_n R (by omega) ?_
    rw [fx_nx] at hp
    refine ek_if (fx_b_inj _ _) (fun e => ?_) (fun e => ?_)
    · rw [if_pos e] at hp; exact hp
    · rw [if_neg e] at hp
      exact nm_r (nI_1 c) (ih n (c + 1) (by omega) (by omega) (by omega) (by omega) hp)
theorem fx_Y_nx0 {post : Int32 → Prop} (R : fx_Row (part, dot, s) p r f w) (e0 : part 0 = nI w) (hw : w ≤ 64) (hq : q < 2 ^ 31) (hp : post (nI (fx_nw f k w q))) : ∀ d n c, d = q - c → c ≤ q → d + w < n → wY_first_3 post p r (fx_m q) (fx_b k) part dot s n (nI c) := by
  intro d
  induction d with
  | zero =>
    intro n c hd hc hn
    have e : c = q := by omega
    subst e
    exact fx_Y_nx R e0 hw hq (w - c) n c rfl (by omega) hq (by omega) hp
  | succ d ih =>
    intro n c hd hc hn
    obtain ⟨n, rfl⟩ : ∃ n', n = n' + 1 := ⟨n - 1, by omega⟩
    by_cases z : w ≤ c
    · have e : fx_nw f k w q = w := by unfold fx_nw; rw [show w - q = 0 by omega]; rfl
      rw [e] at hp
      exact br_t (by rw [e0]; exact nI_le z (by omega)) (by rw [e0]; exact hp)
    · exact br_f (by rw [e0]; exact nI_ge (by omega) (by omega)) (br_t ((fx_le_m (by omega) hq).mpr (by omega)) (nm_r (nI_1 c) (ih n (c + 1) (by omega) (by omega) (by omega))))
theorem fx_Y_first {post : Int32 → Prop} {p1 p2 : Int32} (R : fx_Row (part, dot, s) p r f w) (e0 : part 0 = nI w) (hw : w ≤ 64) (hq : q < 2 ^ 31) (ea : p1 = fx_m q) (ek : p2 = fx_b k) (hp : post (nI (fx_nw f k w q))) : wpY_first post (part, dot, s) p r p1 p2 := by
  subst ea ek
  exact ⟨q + w + 1, fx_Y_nx0 R e0 hw hq hp q (q + w + 1) 0 rfl (by omega) (by omega)⟩
theorem fx_Y_cx {post : Int32 → Prop} (R : fx_Row (part, dot, s) p r f w) (e0 : part 0 = nI w) (hw : w ≤ 64) (hq : q < 2 ^ 31) : ∀ d n c, d = w - c → q ≤ c → c < 2 ^ 31 → d < n → post (nI (fx_cx f k w d c)) → wY_change_3 post p r (fx_m q) (fx_b k) part dot s n (nI c) := by
  intro d
  induction d with
  | zero =>
    intro n c hd hqc hc hn hp
    obtain ⟨n, rfl⟩ : ∃ n', n = n' + 1 := ⟨n - 1, by omega⟩
    exact br_t (by rw [e0]; exact nI_le (by omega) hc) (by rw [e0]; exact hp)
  | succ d ih =>
    intro n c hd hqc hc hn hp
    obtain ⟨n, rfl⟩ : ∃ n', n = n' + 1 := ⟨n - 1, by omega⟩
    refine br_f (by rw [e0]; exact nI_ge (by omega) (by omega)) ?_
    refine br_f (by rw [fx_le_m hc hq]; omega) ?_
    refine fx_Row_n R (by omega) ?_
    rw [fx_cx] at hp
    refine ek_if (fx_b_inj _ _) (fun e => ?_) (fun e => ?_)
    · rw [if_pos e] at hp
      exact nm_r (nI_1 c) (ih n (c + 1) (by omega) (by omega) (by omega) (by omega) hp)
    · rw [if_neg e] at hp
      refine R _ c (by omega) ?_
      refine ek_if (fx_b_inj _ _) (fun e => ?_) (fun e => ?_)
      · rw [if_pos e] at hp; exact hp
      · rw [if_neg e] at hp
        exact nm_r (nI_1 c) (ih n (c + 1) (by omega) (by omega) (by omega) (by omega) hp)
theorem fx_Y_cx0 {post : Int32 → Prop} (R : fx_Row (part, dot, s) p r f w) (e0 : part 0 = nI w) (hw : w ≤ 64) (hq : q < 2 ^ 31) (hp : post (nI (fx_cw f k w q))) : ∀ d n c, d = q - c → c ≤ q → d + w < n → wY_change_3 post p r (fx_m q) (fx_b k) part dot s n (nI c) := by
  intro d
  induction d with
  | zero =>
    intro n c hd hc hn
    have e : c = q := by omega
    subst e
    exact fx_Y_cx R e0 hw hq (w - c) n c rfl (by omega) hq (by omega) hp
  | succ d ih =>
    intro n c hd hc hn
    obtain ⟨n, rfl⟩ : ∃ n', n = n' + 1 := ⟨n - 1, by omega⟩
    by_cases z : w ≤ c
    · have e : fx_cw f k w q = w := by unfold fx_cw; rw [show w - q = 0 by omega]; rfl
      rw [e] at hp
      exact br_t (by rw [e0]; exact nI_le z (by omega)) (by rw [e0]; exact hp)
    · exact br_f (by rw [e0]; exact nI_ge (by omega) (by omega)) (br_t ((fx_le_m (by omega) hq).mpr (by omega)) (nm_r (nI_1 c) (ih n (c + 1) (by omega) (by omega) (by omega))))
theorem fx_Y_change {post : Int32 → Prop} {p1 p2 : Int32} (R : fx_Row (part, dot, s) p r f w) (e0 : part 0 = nI w) (hw : w ≤ 64) (hq : q < 2 ^ 31) (ea : p1 = fx_m q) (ek : p2 = fx_b k) (hp : post (nI (fx_cw f k w q))) : wpY_change post (part, dot, s) p r p1 p2 := by
  subst ea ek
  exact ⟨q + w + 1, fx_Y_cx0 R e0 hw hq hp q (q + w + 1) 0 rfl (by omega) (by omega)⟩
end
end
section
/-! pages: what the two sides hold alike, rows as the reference reads them -/
def fx_PD (w p : Nat) (a : Nat → Int64) (dot : Nat → Int32) : Prop := ∀ r c, r < 8 → c < 64 → dot (p * 512 + r * 64 + c) = fx_b (fx_t (a r) c) ∧ (w ≤ c → fx_t (a r) c = false)
/-- d' differs from dot in row r of page p alone -/
def fx_Chg (p r : Nat) (dot d' : Nat → Int32) : Prop := ∀ i, (i < p * 512 + r * 64 ∨ p * 512 + r * 64 + 64 ≤ i) → d' i = dot i
theorem fx_PD_upd {w p r : Nat} {a : Nat → Int64} {dot d' : Nat → Int32} {y : Int64} (P : fx_PD w p a dot) (C : fx_Chg p r dot d') (E : ∀ c, c < 64 → d' (p * 512 + r * 64 + c) = fx_b (fx_t y c) ∧ (w ≤ c → fx_t y c = false)) : fx_PD w p (vp_updL a r y) d' := by
  intro r' c hr hc
  by_cases z : r' = r
  · subst z; rw [pk_uLs]; exact E c hc
  · rw [pk_uLn z, C _ (by omega)]; exact P r' c hr hc
theorem fx_PD_oth {w p p' r : Nat} {a : Nat → Int64} {dot d' : Nat → Int32} (P : fx_PD w p' a dot) (hp : p < 2) (hp' : p' < 2) (ne : p ≠ p') (hr : r < 8) (C : fx_Chg p r dot d') : fx_PD w p' a d' := by
  intro r' c hr' hc
  rw [C _ (by omega)]; exact P r' c hr' hc
theorem fx_idx (p r c : Nat) : ((nI p * 512) + (nI r * 64)) + nI c = nI (p * 512 + r * 64 + c) := by
  show ((nI p * nI 512) + (nI r * nI 64)) + nI c = _
  rw [pk_mul, pk_mul, nI_add, nI_add]
section
variable {part dot s : Nat → Int32} {f : Nat → Bool} {k : Bool} {w h q p r : Nat}
theorem fx_row_in (e0 : part 0 = nI w) (e1 : part 1 = nI h) (hw : w ≤ 64) (hh : h ≤ 8) (hp : p < 2) (hr : r < h) (E : ∀ c, c < w → dot (p * 512 + r * 64 + c) = fx_b (f c)) : fx_Row (part, dot, s) (nI p) (nI r) f w := by
  intro post c hc hq
  refine br_f (nI_pos (by omega)) (br_f (by rw [e1]; exact nI_ge hr (by omega)) ?_)
  cases c with
  | zero => exact br_t ((fx_m_neg (by omega)).mpr rfl) hq
  | succ c =>
    rw [fx_m_s]
    refine br_f (nI_pos (by omega)) (br_t (by rw [e0]; exact nI_lt (by omega) (by omega)) ?_)
    rw [fx_idx, nI_clamp (by omega), E c (by omega)]
    exact ⟨vp_in_nI (by omega) (by omega), hq⟩
theorem fx_row_out {r : Int32} {p : Int32} (e1 : part 1 = nI h) (hr : r < 0 ∨ nI h ≤ r) : fx_Row (part, dot, s) p r (fun _ => false) w := by
  intro post c hc hq
  have hz : post 0 := by
    cases c with
    | zero => exact hq
    | succ c => exact hq
  by_cases z : r < 0
  · exact br_t z hz
  · exact br_f z (br_t (by rw [e1]; rcases hr with a | a; exact absurd a z; exact a) hz)
theorem fx_Row_eq {u : SY} {p r : Int32} {f g : Nat → Bool} (R : fx_Row u p r f w) (e : ∀ c, f c = g c) : fx_Row u p r g w := by
  have : f = g := funext e
  subst this; exact R
theorem fx_row_pd {a : Nat → Int64} (e0 : part 0 = nI w) (e1 : part 1 = nI h) (hw : w ≤ 64) (hh : h ≤ 8) (hp : p < 2) (hr : r < h) (P : fx_PD w p a dot) : fx_Row (part, dot, s) (nI p) (nI r) (fx_t (a r)) w :=
  fx_row_in e0 e1 hw hh hp hr (fun c hc => (P r c (by omega) (by omega)).1)
/-- the row above row r, as the component takes it -/
def fx_up (a : Nat → Int64) (r : Nat) : Int64 := if r = 0 then 0 else a (r - 1)
theorem fx_row_up {a : Nat → Int64} (e0 : part 0 = nI w) (e1 : part 1 = nI h) (hw : w ≤ 64) (hh : h ≤ 8) (hp : p < 2) (hr : r ≤ h) (P : fx_PD w p a dot) : fx_Row (part, dot, s) (nI p) (nI r - 1) (fx_t (fx_up a r)) w := by
  cases r with
  | zero =>
    refine fx_Row_eq (fx_row_out e1 (Or.inl (by decide))) (fun c => ?_)
    unfold fx_up; rw [if_pos rfl, fx_t_0]
  | succ r =>
    rw [nI_pred]
    unfold fx_up; rw [if_neg (by omega), Nat.add_sub_cancel]
    exact fx_row_pd e0 e1 hw hh hp (by omega) P
/-! the reference's fill -/
theorem fx_Y_fl {post : SY → Prop} {a b : Nat} {x : Int32} (e0 : part 0 = nI w) (hw : w ≤ 64) (hp : p < 2) (hr : r < 8) (ha : a < 2 ^ 31) (hb : b ≤ w) : ∀ d n c dot, d = w - c → c ≤ w → d < n → (∀ d', (∀ i, d' i = if p * 512 + r * 64 + a ≤ i ∧ p * 512 + r * 64 + c ≤ i ∧ i < p * 512 + r * 64 + b then x else dot i) → post (part, d', s)) → wY_fill_18 post (nI p) (nI r) (nI a) (nI b) x n (nI c) part dot s := by
  intro d
  induction d with
  | zero =>
    intro n c dot hd hc hn hq
    obtain ⟨n, rfl⟩ : ∃ n', n = n' + 1 := ⟨n - 1, by omega⟩
    exact br_t (by rw [e0]; exact nI_le (by omega) (by omega)) (hq dot (fun i => (if_neg (by omega)).symm))
  | succ d ih =>
    intro n c dot hd hc hn hq
    obtain ⟨n, rfl⟩ : ∃ n', n = n' + 1 := ⟨n - 1, by omega⟩
    refine br_f (by rw [e0]; exact nI_ge (by omega) (by omega)) ?_
    refine ek_if (nI_ltI (by omega) ha) (fun z => ?_) (fun z => ?_)
    · refine nm_r (nI_1 c) (ih n (c + 1) dot (by omega) (by omega) (by omega) (fun d' hd' => hq d' (fun i => ?_)))
      rw [hd' i]
      by_cases y : p * 512 + r * 64 + a ≤ i ∧ p * 512 + r * 64 + c ≤ i ∧ i < p * 512 + r * 64 + b
      · rw [if_pos (by omega), if_pos y]
      · rw [if_neg (by omega), if_neg y]
    · refine ek_if (nI_leI (by omega) (by omega)) (fun y => ?_) (fun y => ?_)
      · refine nm_r (nI_1 c) (ih n (c + 1) dot (by omega) (by omega) (by omega) (fun d' hd' => hq d' (fun i => ?_)))
        rw [hd' i, if_neg (by omega), if_neg (by omega)]
      · rw [fx_idx, nI_clamp (by omega)]
        refine ⟨vp_in_nI (by omega) (by omega), nm_e (nm_r (nI_1 c) (ih n (c + 1) _ (by omega) (by omega) (by omega) (fun d' hd' => hq d' (fun i => ?_))))⟩
        rw [hd' i]
        by_cases v : i = p * 512 + r * 64 + c
        · subst v
          rw [if_neg (by omega), pk_us, if_pos (by omega)]
        · rw [pk_un v]
          by_cases y : p * 512 + r * 64 + a ≤ i ∧ p * 512 + r * 64 + c ≤ i ∧ i < p * 512 + r * 64 + b
          · rw [if_pos (by omega), if_pos y]
          · rw [if_neg (by omega), if_neg y]
/-- the cells from lo on, below hi, hold x -/
def fx_fl (dot : Nat → Int32) (lo hi : Nat) (x : Int32) : Nat → Int32 := fun i => if lo ≤ i ∧ i < hi then x else dot i
theorem fx_Y_fill {post : SY → Prop} {a b : Nat} {x p0 p1 p2 p3 : Int32} (e0 : part 0 = nI w) (e1 : part 1 = nI h) (hw : w ≤ 64) (hh : h ≤ 8) (hp : p < 2) (hr : r < h) (ha : a < 2 ^ 31) (hb : b ≤ w) (q0 : p0 = nI p) (q1 : p1 = nI r) (q2 : p2 = nI a) (q3 : p3 = nI b) (hq : post (part, fx_fl dot (p * 512 + r * 64 + a) (p * 512 + r * 64 + b) x, s)) : wpY_fill post (part, dot, s) p0 p1 p2 p3 x := by
  subst q0 q1 q2 q3
  refine br_f (nI_pos (by omega)) (br_t (by rw [e1]; exact nI_lt hr (by omega)) ⟨w + 1, ?_⟩)
  refine fx_Y_fl e0 hw hp (by omega) ha hb w (w + 1) 0 dot rfl (by omega) (by omega) (fun d' hd' => ?_)
  have e : d' = fx_fl dot (p * 512 + r * 64 + a) (p * 512 + r * 64 + b) x := by
    funext i
    rw [hd' i]
    unfold fx_fl
    by_cases y : p * 512 + r * 64 + a ≤ i ∧ i < p * 512 + r * 64 + b
    · rw [if_pos (by omega), if_pos y]
    · rw [if_neg (by omega), if_neg y]
  rw [e]; exact hq
theorem fx_fl_chg {a b : Nat} {x : Int32} (hb : b ≤ 64) : fx_Chg p r dot (fx_fl dot (p * 512 + r * 64 + a) (p * 512 + r * 64 + b) x) := by
  intro i hi
  exact if_neg (by omega)
theorem fx_fl_at {a b c : Nat} {x : Int32} : fx_fl dot (p * 512 + r * 64 + a) (p * 512 + r * 64 + b) x (p * 512 + r * 64 + c) = if a ≤ c ∧ c < b then x else dot (p * 512 + r * 64 + c) := by
  unfold fx_fl
  by_cases y : a ≤ c ∧ c < b
  · rw [if_pos (by omega), if_pos y]
  · rw [if_neg (by omega), if_neg y]
end
/-! the component's span and fill -/
def fx_mk (a b : Nat) : Int64 := if b ≤ a then 0 else if b - a < 64 then (((1 : Int64) <<< ((nI (b - a)).toInt64 &&& 63)) - 1) <<< ((nI a).toInt64 &&& 63) else -1
theorem fx_mk_t {a b c : Nat} (ha : a ≤ 64) (hb : b ≤ 64) (hc : c < 64) : fx_t (fx_mk a b) c = (decide (a ≤ c) && decide (c < b)) := by
  unfold fx_mk
  by_cases z : b ≤ a
  · rw [if_pos z, fx_t_0]
    by_cases y : a ≤ c
    · rw [decide_eq_true y, decide_eq_false (by omega)]; rfl
    · rw [decide_eq_false y]; rfl
  · rw [if_neg z]
    by_cases y : b - a < 64
    · rw [if_pos y, fx_t_shl (by omega) _ hc]
      by_cases v : a ≤ c
      · rw [fx_t_msk y (by omega), decide_eq_true v, Bool.true_and, Bool.true_and]
        by_cases x : c < b
        · rw [decide_eq_true x, decide_eq_true (by omega)]
        · rw [decide_eq_false x, decide_eq_false (by omega)]
      · rw [decide_eq_false v]; rfl
    · rw [if_neg y, fx_t_m1 c hc, decide_eq_true (by omega), decide_eq_true (by omega)]; rfl
/-- columns a .. b - 1 of x in colour k -/
def fx_fw (x : Int64) (a b : Nat) (k : Bool) : Int64 := if k = true then x ||| fx_mk a b else x &&& (fx_mk a b ^^^ (-1))
theorem fx_fw_t {x : Int64} {a b c : Nat} {k : Bool} (ha : a ≤ 64) (hb : b ≤ 64) (hc : c < 64) : fx_t (fx_fw x a b k) c = if a ≤ c ∧ c < b then k else fx_t x c := by
  unfold fx_fw
  have hR := fx_mk_t ha hb hc
  cases k with
  | true =>
    rw [if_pos rfl, fx_t_or, hR]
    by_cases y : a ≤ c ∧ c < b
    · rw [if_pos y, decide_eq_true y.1, decide_eq_true y.2]; simp
    · rw [if_neg y]
      by_cases v : a ≤ c
      · rw [decide_eq_false (show ¬ c < b from fun u => y ⟨v, u⟩)]; simp
      · rw [decide_eq_false v]; simp
  | false =>
    rw [if_neg (by decide), fx_t_clr hc, hR]
    by_cases y : a ≤ c ∧ c < b
    · rw [if_pos y, decide_eq_true y.1, decide_eq_true y.2]; simp
    · rw [if_neg y]
      by_cases v : a ≤ c
      · rw [decide_eq_false (show ¬ c < b from fun u => y ⟨v, u⟩)]; simp
      · rw [decide_eq_false v]; simp
theorem fx_PD_fill {w p r a b : Nat} {k : Bool} {dot : Nat → Int32} {A : Nat → Int64} (P : fx_PD w p A dot) (hr : r < 8) (hw : w ≤ 64) (ha : a ≤ 64) (hb : b ≤ w) : fx_PD w p (vp_updL A r (fx_fw (A r) a b k)) (fx_fl dot (p * 512 + r * 64 + a) (p * 512 + r * 64 + b) (fx_b k)) := by
  refine fx_PD_upd P (fx_fl_chg (by omega)) (fun c hc => ?_)
  have h := P r c hr hc
  rw [fx_fl_at, fx_fw_t ha (by omega) hc]
  by_cases z : a ≤ c ∧ c < b
  · rw [if_pos z, if_pos z]; exact ⟨rfl, fun v => absurd v (by omega)⟩
  · rw [if_neg z, if_neg z]; exact h
theorem fx_PD_fillo {w p p' r a b : Nat} {x : Int32} {dot : Nat → Int32} {A : Nat → Int64} (P : fx_PD w p' A dot) (hp : p < 2) (hp' : p' < 2) (ne : p ≠ p') (hr : r < 8) (hw : w ≤ 64) (hb : b ≤ w) : fx_PD w p' A (fx_fl dot (p * 512 + r * 64 + a) (p * 512 + r * 64 + b) x) :=
  fx_PD_oth P hp hp' ne hr (fx_fl_chg (by omega))
section
variable {f_pageWidth f_pageHeight f_limit f_coded f_finished f_used f_untouched f_state f_taken f_rows f_phase f_position f_current f_pending f_pendingBits f_makeUp f_firstRun f_passes f_horizontals f_verticals : Int32} {a_wordBits a_wordSize a_stream : Nat → Int32} {a_source a_decoded : Nat → Int64}
variable {a b ro h : Nat} {k : Bool}
theorem fx_X_span {post : Int64 → Prop} (ha : a ≤ 64) (hb : b ≤ 64) (H : post (fx_mk a b)) : wpX_span post (f_pageWidth, f_pageHeight, f_limit, f_coded, f_finished, f_used, f_untouched, f_state, f_taken, f_rows, f_phase, f_position, f_current, f_pending, f_pendingBits, f_makeUp, f_firstRun, f_passes, f_horizontals, f_verticals, a_wordBits, a_wordSize, a_source, a_stream, a_decoded) (nI a) (nI b) := by
  by_cases z : b ≤ a
  · rw [fx_mk, if_pos z] at H
    refine nm_e (br_f ?_ H)
    rw [Int32.lt_iff_toInt_lt, pk_sub_toInt (by omega) (by omega), fx_i0]; omega
  · rw [fx_mk, if_neg z] at H
    refine nm_r (pk_sub (by omega)) (br_t (nI_lt (a := 0) (by omega) (by omega)) ?_)
    refine pk_lt (b - a) 64 (fun y => ?_) (fun y => ?_)
    · rw [if_pos y] at H; exact H
    · rw [if_neg (by omega)] at H; exact H
theorem fx_X_fill {post : SX → Prop} {q0 q1 q2 : Int32} (hh : h ≤ 8) (hr : ro < h) (ha : a ≤ 64) (hb : b ≤ 64) (e0 : q0 = nI a) (e1 : q1 = nI b) (e2 : q2 = fx_b k) (H : post (f_pageWidth, (nI h), f_limit, f_coded, f_finished, f_used, f_untouched, f_state, f_taken, (nI ro), f_phase, f_position, f_current, f_pending, f_pendingBits, f_makeUp, f_firstRun, f_passes, f_horizontals, f_verticals, a_wordBits, a_wordSize, a_source, a_stream, (vp_updL a_decoded ro (fx_fw (a_decoded ro) a b k)))) : wpX_fill post (f_pageWidth, (nI h), f_limit, f_coded, f_finished, f_used, f_untouched, f_state, f_taken, (nI ro), f_phase, f_position, f_current, f_pending, f_pendingBits, f_makeUp, f_firstRun, f_passes, f_horizontals, f_verticals, a_wordBits, a_wordSize, a_source, a_stream, a_decoded) q0 q1 q2 := by
  subst e0 e1 e2
  refine br_f (nI_pos (by omega)) (br_t (nI_lt hr (by omega)) (fx_X_span ha hb ?_))
  rw [nI_clamp (by omega)]
  have hi : vp_in (nI ro) 8 := vp_in_nI (by omega) (by omega)
  rw [fx_fw] at H
  refine ek_if (fx_b_1 k) (fun z => ⟨hi, hi, nm_e ?_⟩) (fun z => ⟨hi, hi, nm_e ?_⟩)
  · rw [if_pos z] at H; exact H
  · rw [if_neg z] at H; exact H
end
end
section
/-! the code words: the reference's table, the component's two arrays -/
def fx_YW (c : Nat) : Nat := [309, 71, 23, 24, 27, 28, 30, 31, 51, 52, 39, 40, 72, 67, 116, 117, 59, 50, 87, 183, 1079, 10, 7, 6, 11, 19, 18, 35, 69, 68, 132, 133, 135, 260, 263, 536, 1039, 4296, 4297, 4187, 17, 9, 130, 66, 10, 3, 11, 67, 131, 16781313].getD c 0
def fx_ws1 (f : Nat → Int32) : Nat → Int32 := (upd (upd (upd (upd (upd (upd (upd (upd (upd (upd f 0 4) 1 3) 2 7) 3 6) 4 3) 5 1) 6 3) 7 6) 8 7) 9 24)
def fx_ws2 (f : Nat → Int32) : Nat → Int32 := (upd (upd (upd (upd (upd (upd (upd (upd (upd (upd (upd (upd (upd (upd (upd (upd (upd (upd (upd (upd f 10 8) 11 6) 12 4) 13 4) 14 4) 15 4) 16 4) 17 4) 18 5) 19 5) 20 5) 21 5) 22 6) 23 6) 24 6) 25 6) 26 5) 27 5) 28 6) 29 7)
def fx_ws3 (f : Nat → Int32) : Nat → Int32 := (upd (upd (upd (upd (upd (upd (upd (upd (upd (upd (upd (upd (upd (upd (upd (upd (upd (upd (upd (upd f 30 10) 31 3) 32 2) 33 2) 34 3) 35 4) 36 4) 37 5) 38 6) 39 6) 40 7) 41 7) 42 7) 43 8) 44 8) 45 9) 46 10) 47 12) 48 12) 49 12)
def fx_wb1 (f : Nat → Int32) : Nat → Int32 := (upd (upd (upd (upd (upd (upd (upd (upd (upd (upd f 0 1) 1 1) 2 2) 3 2) 4 2) 5 1) 6 3) 7 3) 8 3) 9 4097)
def fx_wb2 (f : Nat → Int32) : Nat → Int32 := (upd (upd (upd (upd (upd (upd (upd (upd (upd (upd (upd (upd (upd (upd (upd (upd (upd (upd (upd (upd f 10 53) 11 7) 12 7) 13 8) 14 11) 15 12) 16 14) 17 15) 18 19) 19 20) 20 7) 21 8) 22 8) 23 3) 24 52) 25 53) 26 27) 27 18) 28 23) 29 55)
def fx_wb3 (f : Nat → Int32) : Nat → Int32 := (upd (upd (upd (upd (upd (upd (upd (upd (upd (upd (upd (upd (upd (upd (upd (upd (upd (upd (upd (upd f 30 55) 31 2) 32 3) 33 2) 34 3) 35 3) 36 2) 37 3) 38 5) 39 4) 40 4) 41 5) 42 7) 43 4) 44 7) 45 24) 46 15) 47 200) 48 201) 49 91)
def fx_WS : Nat → Int32 := fx_ws3 (fx_ws2 (fx_ws1 (fun _ => 0)))
def fx_WB : Nat → Int32 := fx_wb3 (fx_wb2 (fx_wb1 (fun _ => 0)))
def fx_ix (c : Nat) : Nat := if c < 40 then c + 10 else c - 40
def fx_sz (c : Nat) : Nat := Nat.log2 (fx_YW c)
theorem fx_wd {post : Int32 → Prop} {c : Nat} (j v : Nat) (z : nI c = nI j) (hc : c < 2 ^ 31) (hj : j < 2 ^ 31) (ev : fx_YW j = v) (hp : post (nI (fx_YW c))) : post (nI v) := by
  have e := (nI_eq hc hj).mp z
  subst e; rw [ev] at hp; exact hp
set_option maxRecDepth 4000 in
theorem fx_Y_word {post : Int32 → Prop} {u : SY} {p0 p1 : Int32} {c : Nat} (e : (p0 * 20) + p1 = nI c) (hc : c < 2 ^ 31) (hp : post (nI (fx_YW c))) : wpY_word post u p0 p1 := by
  obtain ⟨part, dot, s⟩ := u
  refine nm_r e (br_f (nI_pos hc) ?_)
  by_cases z : 49 < c
  · refine br_t (nI_lt (a := 49) z hc) ?_
    have e0 : fx_YW c = 0 := by unfold fx_YW; rw [List.getD_eq_getElem?_getD, List.getElem?_eq_none (by simp; omega)]; rfl
    rw [e0] at hp; exact hp
  · refine br_f (nI_nlt (b := c) (a := 49) (by omega) (by decide)) ?_
    exact br_c (fun z => fx_wd 0 309 z hc (by decide) rfl hp) (fun _ => br_c (fun z => fx_wd 1 71 z hc (by decide) rfl hp) (fun _ => br_c (fun z => fx_wd 2 23 z hc (by decide) rfl hp) (fun _ => br_c (fun z => fx_wd 3 24 z hc (by decide) rfl hp) (fun _ => br_c (fun z => fx_wd 4 27 z hc (by decide) rfl hp) (fun _ => br_c (fun z => fx_wd 5 28 z hc (by decide) rfl hp) (fun _ => br_c (fun z => fx_wd 6 30 z hc (by decide) rfl hp) (fun _ => br_c (fun z => fx_wd 7 31 z hc (by decide) rfl hp) (fun _ => br_c (fun z => fx_wd 8 51 z hc (by decide) rfl hp) (fun _ => br_c (fun z => fx_wd 9 52 z hc (by decide) rfl hp) (fun _ => br_c (fun z => fx_wd 10 39 z hc (by decide) rfl hp) (fun _ => br_c (fun z => fx_wd 11 40 z hc (by decide) rfl hp) (fun _ => br_c (fun z => fx_wd 12 72 z hc (by decide) rfl hp) (fun _ => br_c (fun z => fx_wd 13 67 z hc (by decide) rfl hp) (fun _ => br_c (fun z => fx_wd 14 116 z hc (by decide) rfl hp) (fun _ => br_c (fun z => fx_wd 15 117 z hc (by decide) rfl hp) (fun _ => br_c (fun z => fx_wd 16 59 z hc (by decide) rfl hp) (fun _ => br_c (fun z => fx_wd 17 50 z hc (by decide) rfl hp) (fun _ => br_c (fun z => fx_wd 18 87 z hc (by decide) rfl hp) (fun _ => br_c (fun z => fx_wd 19 183 z hc (by decide) rfl hp) (fun _ => br_c (fun z => fx_wd 20 1079 z hc (by decide) rfl hp) (fun _ => br_c (fun z => fx_wd 21 10 z hc (by decide) rfl hp) (fun _ => br_c (fun z => fx_wd 22 7 z hc (by decide) rfl hp) (fun _ => br_c (fun z => fx_wd 23 6 z hc (by decide) rfl hp) (fun _ => br_c (fun z => fx_wd 24 11 z hc (by decide) rfl hp) (fun _ => br_c (fun z => fx_wd 25 19 z hc (by decide) rfl hp) (fun _ => br_c (fun z => fx_wd 26 18 z hc (by decide) rfl hp) (fun _ => br_c (fun z => fx_wd 27 35 z hc (by decide) rfl hp) (fun _ => br_c (fun z => fx_wd 28 69 z hc (by decide) rfl hp) (fun _ => br_c (fun z => fx_wd 29 68 z hc (by decide) rfl hp) (fun _ => br_c (fun z => fx_wd 30 132 z hc (by decide) rfl hp) (fun _ => br_c (fun z => fx_wd 31 133 z hc (by decide) rfl hp) (fun _ => br_c (fun z => fx_wd 32 135 z hc (by decide) rfl hp) (fun _ => br_c (fun z => fx_wd 33 260 z hc (by decide) rfl hp) (fun _ => br_c (fun z => fx_wd 34 263 z hc (by decide) rfl hp) (fun _ => br_c (fun z => fx_wd 35 536 z hc (by decide) rfl hp) (fun _ => br_c (fun z => fx_wd 36 1039 z hc (by decide) rfl hp) (fun _ => br_c (fun z => fx_wd 37 4296 z hc (by decide) rfl hp) (fun _ => br_c (fun z => fx_wd 38 4297 z hc (by decide) rfl hp) (fun _ => br_c (fun z => fx_wd 39 4187 z hc (by decide) rfl hp) (fun _ => br_c (fun z => fx_wd 40 17 z hc (by decide) rfl hp) (fun _ => br_c (fun z => fx_wd 41 9 z hc (by decide) rfl hp) (fun _ => br_c (fun z => fx_wd 42 130 z hc (by decide) rfl hp) (fun _ => br_c (fun z => fx_wd 43 66 z hc (by decide) rfl hp) (fun _ => br_c (fun z => fx_wd 44 10 z hc (by decide) rfl hp) (fun _ => br_c (fun z => fx_wd 45 3 z hc (by decide) rfl hp) (fun _ => br_c (fun z => fx_wd 46 11 z hc (by decide) rfl hp) (fun _ => br_c (fun z => fx_wd 47 67 z hc (by decide) rfl hp) (fun _ => br_c (fun z => fx_wd 48 131 z hc (by decide) rfl hp) (fun _ => br_c (fun z => fx_wd 49 16781313 z hc (by decide) rfl hp) (fun _ => trivial))))))))))))))))))))))))))))))))))))))))))))))))))
theorem fx_tab_s : ∀ c, c < 50 → fx_WS (fx_ix c) = nI (fx_sz c) := by decide +kernel
theorem fx_tab_b : ∀ c, c < 50 → fx_WB (fx_ix c) = nI (fx_YW c - 2 ^ fx_sz c) := by decide +kernel
theorem fx_tab_z : ∀ c, c < 50 → 1 ≤ fx_sz c ∧ fx_sz c ≤ 24 := by decide +kernel
theorem fx_tab_l : ∀ c, c < 50 → 2 ^ fx_sz c ≤ fx_YW c ∧ fx_YW c < 2 ^ (fx_sz c + 1) := by decide +kernel
theorem fx_tab_i : ∀ c, c < 50 → fx_ix c < 50 := by decide +kernel
theorem fx_tab_t : ∀ c, c < 50 → ∀ i, i < fx_sz c → (fx_YW c - 2 ^ fx_sz c).testBit i = (fx_YW c).testBit i := by decide +kernel
theorem fx_tab_0 {c : Nat} (h : 50 ≤ c) : fx_YW c = 0 := by
  unfold fx_YW; rw [List.getD_eq_getElem?_getD, List.getElem?_eq_none (by simp; omega)]; rfl
theorem fx_bt_nI {n i : Nat} (hi : i < 32) : bt (nI n) i = n.testBit i := by
  show (BitVec.ofNat 32 n).getLsbD i = _
  rw [BitVec.getLsbD_ofNat]; simp [hi]
theorem fx_tab_bt {c i : Nat} (hc : c < 50) (hi : i < fx_sz c) : bt (fx_WB (fx_ix c)) i = (fx_YW c).testBit i := by
  have := fx_tab_z c hc
  rw [fx_tab_b c hc, fx_bt_nI (by omega), fx_tab_t c hc i hi]
/-! appending bits: a pair of the length and the stream -/
def fx_01 (s : Nat → Int32) : Prop := ∀ i, s i = 0 ∨ s i = 1
def fx_a1 (l : Nat) (z : Nat × (Nat → Int32)) (b : Bool) : Nat × (Nat → Int32) := if z.1 < l then (z.1 + 1, upd z.2 z.1 (fx_b b)) else z
def fx_av (l : Nat) (v : Nat → Bool) : Nat → Nat × (Nat → Int32) → Nat × (Nat → Int32)
  | 0, z => z
  | n + 1, z => fx_av l v n (fx_a1 l z (v n))
/-- what an append keeps -/
def fx_K (l : Nat) (z z' : Nat × (Nat → Int32)) : Prop := z.1 ≤ z'.1 ∧ (z.1 ≤ l → z'.1 ≤ l) ∧ (∀ i, i < z.1 → z'.2 i = z.2 i) ∧ (fx_01 z.2 → fx_01 z'.2)
theorem fx_K_r (l : Nat) (z : Nat × (Nat → Int32)) : fx_K l z z := ⟨Nat.le_refl _, id, fun _ _ => rfl, id⟩
theorem fx_K_t {l : Nat} {x y z : Nat × (Nat → Int32)} (a : fx_K l x y) (b : fx_K l y z) : fx_K l x z :=
  ⟨Nat.le_trans a.1 b.1, fun h => b.2.1 (a.2.1 h), fun i hi => (b.2.2.1 i (Nat.lt_of_lt_of_le hi a.1)).trans (a.2.2.1 i hi), fun h => b.2.2.2 (a.2.2.2 h)⟩
theorem fx_01_u {s : Nat → Int32} (h : fx_01 s) (n : Nat) (b : Bool) : fx_01 (upd s n (fx_b b)) := by
  intro i
  by_cases z : i = n
  · subst z; rw [pk_us]; cases b
    · exact Or.inl rfl
    · exact Or.inr rfl
  · rw [pk_un z]; exact h i
theorem fx_K_1 (l : Nat) (z : Nat × (Nat → Int32)) (b : Bool) : fx_K l z (fx_a1 l z b) := by
  unfold fx_a1
  split
  · rename_i h
    exact ⟨Nat.le_succ _, fun _ => h, fun i hi => pk_un (by omega), fun h => fx_01_u h _ b⟩
  · exact fx_K_r l z
theorem fx_K_v (l : Nat) (v : Nat → Bool) : ∀ n z, fx_K l z (fx_av l v n z) := by
  intro n
  induction n with
  | zero => intro z; exact fx_K_r l z
  | succ n ih => intro z; exact fx_K_t (fx_K_1 l z (v n)) (ih _)
theorem fx_av_c {l : Nat} {v v' : Nat → Bool} : ∀ n z, (∀ i, i < n → v i = v' i) → fx_av l v n z = fx_av l v' n z := by
  intro n
  induction n with
  | zero => intro z _; rfl
  | succ n ih => intro z h; rw [fx_av, fx_av, h n (by omega)]; exact ih _ (fun i hi => h i (by omega))
/-- one word, appended if e -/
def fx_em (e : Bool) (c l : Nat) (z : Nat × (Nat → Int32)) : Nat × (Nat → Int32) := if e then fx_av l (fun i => (fx_YW c).testBit i) (fx_sz c) z else z
theorem fx_K_em (e : Bool) (c l : Nat) (z : Nat × (Nat → Int32)) : fx_K l z (fx_em e c l z) := by
  unfold fx_em
  split
  · exact fx_K_v l _ _ z
  · exact fx_K_r l z
theorem fx_em_f (c l : Nat) (z : Nat × (Nat → Int32)) : fx_em false c l z = z := rfl
section
variable {f_pageWidth f_pageHeight f_limit f_coded f_finished f_used f_untouched f_state f_taken f_rows f_phase f_position f_current f_pending f_pendingBits f_makeUp f_firstRun f_passes f_horizontals f_verticals : Int32} {a_wordBits a_wordSize a_stream : Nat → Int32} {a_source a_decoded : Nat → Int64}
variable {l : Nat}
theorem fx_X_av {post : SX → Prop} {x : Int32} (hl : l ≤ 2048) : ∀ n fuel z, n ≤ 32 → n < fuel → z.1 ≤ l → post (f_pageWidth, f_pageHeight, (nI l), f_coded, f_finished, (nI (fx_av l (bt x) n z).1), f_untouched, f_state, f_taken, f_rows, f_phase, f_position, f_current, f_pending, f_pendingBits, f_makeUp, f_firstRun, f_passes, f_horizontals, f_verticals, a_wordBits, a_wordSize, a_source, ((fx_av l (bt x) n z).2), a_decoded) → wX_append_4 post x f_pageWidth f_pageHeight (nI l) f_coded f_finished f_untouched f_state f_taken f_rows f_phase f_position f_current f_pending f_pendingBits f_makeUp f_firstRun f_passes f_horizontals f_verticals fuel (fx_m n) (nI z.1) a_wordBits a_wordSize a_source z.2 a_decoded := by
  intro n
  induction n with
  | zero =>
    intro fuel z hn hf hz hp
    obtain ⟨fuel, rfl⟩ : ∃ n', fuel = n' + 1 := ⟨fuel - 1, by omega⟩
    exact br_t ((fx_m_neg (by omega)).mpr rfl) hp
  | succ n ih =>
    intro fuel z hn hf hz hp
    obtain ⟨fuel, rfl⟩ : ∃ n', fuel = n' + 1 := ⟨fuel - 1, by omega⟩
    refine br_f (by rw [fx_m_neg (by omega)]; omega) ?_
    rw [fx_av] at hp
    by_cases y : z.1 < l
    · refine br_f (nI_ge y (by omega)) ⟨vp_in_nI (by omega) (by omega), ?_⟩
      refine nm_r (e' := upd z.2 z.1 (fx_b (bt x n))) (by rw [nI_clamp (by omega), fx_m_s, fx_byte' (by omega)]) ?_
      refine nm_r (nI_1 _) (nm_r (fx_m_d n) ?_)
      rw [fx_a1, if_pos y] at hp
      exact ih fuel (z.1 + 1, upd z.2 z.1 (fx_b (bt x n))) (by omega) (by omega) y hp
    · refine br_t (nI_le (by omega) (by omega)) (nm_r (fx_m_d n) ?_)
      rw [fx_a1, if_neg y] at hp
      exact ih fuel z (by omega) (by omega) hz hp
theorem fx_X_append {post : SX → Prop} {x : Int32} {n us : Nat} (hl : l ≤ 2048) (hn : n ≤ 32) (hu : us ≤ l) (hp : post (f_pageWidth, f_pageHeight, (nI l), f_coded, f_finished, (nI (fx_av l (bt x) n (us, a_stream)).1), f_untouched, f_state, f_taken, f_rows, f_phase, f_position, f_current, f_pending, f_pendingBits, f_makeUp, f_firstRun, f_passes, f_horizontals, f_verticals, a_wordBits, a_wordSize, a_source, ((fx_av l (bt x) n (us, a_stream)).2), a_decoded)) : wpX_append post (f_pageWidth, f_pageHeight, (nI l), f_coded, f_finished, (nI us), f_untouched, f_state, f_taken, f_rows, f_phase, f_position, f_current, f_pending, f_pendingBits, f_makeUp, f_firstRun, f_passes, f_horizontals, f_verticals, a_wordBits, a_wordSize, a_source, a_stream, a_decoded) x (nI n) :=
  nm_e ⟨n + 1, fx_X_av hl n (n + 1) (us, a_stream) hn (by omega) hu hp⟩
theorem fx_X_send {post : Int32 → SX → Prop} {e : Bool} {c us : Nat} {p0 : Int32} (hc : c < 50) (ei : p0 = nI (fx_ix c)) (hl : l ≤ 2048) (hu : us ≤ l) (hp : post (nI (fx_sz c)) (f_pageWidth, f_pageHeight, (nI l), f_coded, f_finished, (nI (fx_em e c l (us, a_stream)).1), f_untouched, f_state, f_taken, f_rows, f_phase, f_position, f_current, f_pending, f_pendingBits, f_makeUp, f_firstRun, f_passes, f_horizontals, f_verticals, fx_WB, fx_WS, a_source, ((fx_em e c l (us, a_stream)).2), a_decoded)) : wpX_sendWord post (f_pageWidth, f_pageHeight, (nI l), f_coded, f_finished, (nI us), f_untouched, f_state, f_taken, f_rows, f_phase, f_position, f_current, f_pending, f_pendingBits, f_makeUp, f_firstRun, f_passes, f_horizontals, f_verticals, fx_WB, fx_WS, a_source, a_stream, a_decoded) p0 (fx_b e) := by
  subst ei
  have hi := fx_tab_i c hc
  have hz := fx_tab_z c hc
  have hv : vp_in (nI (fx_ix c)) 50 := vp_in_nI hi (by omega)
  refine br_f (nI_pos (by omega)) (br_t (nI_lt (b := 50) hi (by omega)) ⟨hv, nm_r (e' := nI (fx_sz c)) (by rw [nI_clamp (by omega), fx_tab_s c hc]) ?_⟩)
  cases e with
  | false => exact br_t rfl hp
  | true =>
    refine br_f (by decide) ⟨hv, nm_r (e' := fx_WB (fx_ix c)) (by rw [nI_clamp (by omega)]) ?_⟩
    refine fx_X_append hl (by omega) hu ?_
    have ee : fx_av l (bt (fx_WB (fx_ix c))) (fx_sz c) (us, a_stream) = fx_em true c l (us, a_stream) := fx_av_c _ _ (fun i hi => fx_tab_bt hc hi)
    rw [ee]
    exact hp
end
section
variable {l us : Nat} {p0 p1 p4 p5 p6 p7 p8 p9 p10 p11 p12 p13 p14 p15 p16 p17 p18 : Int32} {dot s : Nat → Int32}
theorem fx_Y_append {post : SY → Prop} {x : Int32} {b : Bool} {z : Nat × (Nat → Int32)} (ex : x = fx_b b) (hl : l ≤ 2048) (hz : z.1 ≤ l) (hp : post (fx_pt p0 p1 (nI l) (nI (fx_a1 l z b).1) p4 p5 p6 p7 p8 p9 p10 p11 p12 p13 p14 p15 p16 p17 p18, dot, (fx_a1 l z b).2)) : wpY_append post (fx_pt p0 p1 (nI l) (nI z.1) p4 p5 p6 p7 p8 p9 p10 p11 p12 p13 p14 p15 p16 p17 p18, dot, z.2) x := by
  subst ex
  by_cases y : z.1 < l
  · rw [fx_a1, if_pos y] at hp
    refine br_t (nI_lt y (by omega)) ⟨vp_in_nI (n := z.1) (by omega) (by omega), nm_r (e' := upd z.2 z.1 (fx_b b)) ?_ (nm_r (fx_pt_u3.trans ?_) hp)⟩
    · show upd z.2 (nI z.1).toNatClampNeg (fx_b b) = _
      rw [nI_clamp (by omega)]
    · show fx_pt p0 p1 (nI l) (nI z.1 + 1) p4 p5 p6 p7 p8 p9 p10 p11 p12 p13 p14 p15 p16 p17 p18 = _
      rw [nI_1]
  · rw [fx_a1, if_neg y] at hp
    exact br_f (nI_nlt (a := z.1) (b := l) (by omega) (by omega)) hp
theorem fx_Y_em2 {post : Int32 → SY → Prop} {r : Int32} {e : Bool} {W : Nat} (hl : l ≤ 2048) : ∀ n fuel z, n ≤ 24 → n < fuel → z.1 ≤ l → post r (fx_pt p0 p1 (nI l) (nI (if e then fx_av l (fun i => W.testBit i) n z else z).1) p4 p5 p6 p7 p8 p9 p10 p11 p12 p13 p14 p15 p16 p17 p18, dot, (if e then fx_av l (fun i => W.testBit i) n z else z).2) → wY_emit_45 post (fx_b e) (nI W) r fuel (fx_m n) (fx_pt p0 p1 (nI l) (nI z.1) p4 p5 p6 p7 p8 p9 p10 p11 p12 p13 p14 p15 p16 p17 p18) dot z.2 := by
  intro n
  induction n with
  | zero =>
    intro fuel z hn hf hz hp
    obtain ⟨fuel, rfl⟩ : ∃ n', fuel = n' + 1 := ⟨fuel - 1, by omega⟩
    refine br_t ((fx_m_neg (by omega)).mpr rfl) ?_
    cases e <;> exact hp
  | succ n ih =>
    intro fuel z hn hf hz hp
    obtain ⟨fuel, rfl⟩ : ∃ n', fuel = n' + 1 := ⟨fuel - 1, by omega⟩
    refine br_f (by rw [fx_m_neg (by omega)]; omega) ?_
    cases e with
    | false => exact br_f (by decide) (nm_r (fx_m_d n) (ih fuel z (by omega) (by omega) hz hp))
    | true =>
      refine br_t rfl (fx_Y_append (b := W.testBit n) (by rw [fx_m_s, fx_sb (by omega), fx_bt_nI (by omega)]) hl hz ?_)
      exact nm_r (fx_m_d n) (ih fuel (fx_a1 l z (W.testBit n)) (by omega) (by omega) ((fx_K_1 l z (W.testBit n)).2.1 hz) hp)
theorem fx_sh_pos {W n i : Nat} (h : 2 ^ n ≤ W) (hi : i ≤ n) : 0 < W / 2 ^ i := Nat.div_pos (Nat.le_trans (Nat.pow_le_pow_right (by decide) hi) h) (Nat.two_pow_pos i)
theorem fx_sh_0 {W n i : Nat} (h : W < 2 ^ (n + 1)) (hi : n < i) : W / 2 ^ i = 0 := Nat.div_eq_of_lt (Nat.lt_of_lt_of_le h (Nat.pow_le_pow_right (by decide) hi))
theorem fx_shr {W i : Nat} (hW : W < 2 ^ 31) (hi : i < 32) : nI W >>> (nI i &&& 31) = nI (W / 2 ^ i) := pk_shrN hW _ i (s_l i hi)
theorem fx_Y_em1 {post : Int32 → SY → Prop} {x3 : Int32} {part : Nat → Int32} {W n : Nat} (h1 : 2 ^ n ≤ W) (h2 : W < 2 ^ (n + 1)) (hn : 1 ≤ n) (hn2 : n ≤ 24) (H : ∃ fuel, wY_emit_45 post x3 (nI W) (nI n) fuel (fx_m n) part dot s) : ∀ d fuel i b, d = 25 - i → 1 ≤ i → i ≤ 25 → ((i ≤ n + 1 ∧ b + 1 = i) ∨ (n < i ∧ b = n)) → d < fuel → wY_emit_14 post x3 (nI W) part dot s fuel (nI b) (nI i) := by
  have hW : W < 2 ^ 31 := Nat.lt_of_lt_of_le h2 (Nat.pow_le_pow_right (by decide) (by omega))
  intro d
  induction d with
  | zero =>
    intro fuel i b hd h1i hi hb hf
    obtain ⟨fuel, rfl⟩ : ∃ n', fuel = n' + 1 := ⟨fuel - 1, by omega⟩
    have e : b = n := by omega
    subst e
    exact br_t (nI_lt (a := 24) (by omega) (by omega)) (nm_e H)
  | succ d ih =>
    intro fuel i b hd h1i hi hb hf
    obtain ⟨fuel, rfl⟩ : ∃ n', fuel = n' + 1 := ⟨fuel - 1, by omega⟩
    refine br_f (nI_nlt (b := i) (a := 24) (by omega) (by decide)) ?_
    rw [fx_shr hW (by omega)]
    by_cases z : i ≤ n
    · refine br_f (nI_nle (fx_sh_pos h1 z) (Nat.lt_of_le_of_lt (Nat.div_le_self _ _) hW)) ?_
      exact nm_r (nI_1 i) (ih fuel (i + 1) i (by omega) (by omega) (by omega) (by omega) (by omega))
    · rw [fx_sh_0 h2 (by omega)]
      refine br_t (by decide) ?_
      exact nm_r (nI_1 i) (ih fuel (i + 1) b (by omega) (by omega) (by omega) (by omega) (by omega))
theorem fx_Y_emit {post : Int32 → SY → Prop} {e : Bool} {c us : Nat} {q0 q1 : Int32} (hc : c < 50) (ei : (q0 * 20) + q1 = nI c) (hl : l ≤ 2048) (hu : us ≤ l) (hp : post (nI (fx_sz c)) (fx_pt p0 p1 (nI l) (nI (fx_em e c l (us, s)).1) p4 p5 p6 p7 p8 p9 p10 p11 p12 p13 p14 p15 p16 p17 p18, dot, (fx_em e c l (us, s)).2)) : wpY_emit post (fx_pt p0 p1 (nI l) (nI us) p4 p5 p6 p7 p8 p9 p10 p11 p12 p13 p14 p15 p16 p17 p18, dot, s) q0 q1 (fx_b e) := by
  have hz := fx_tab_z c hc
  have hL := fx_tab_l c hc
  unfold wpY_emit
  dsimp only
  refine fx_Y_word ei (by omega) ?_
  refine ⟨26, ?_⟩
  refine fx_Y_em1 hL.1 hL.2 hz.1 hz.2 ⟨fx_sz c + 1, ?_⟩ 24 26 1 0 rfl (by omega) (by omega) (by omega) (by omega)
  exact fx_Y_em2 hl (fx_sz c) (fx_sz c + 1) (us, s) hz.2 (by omega) hu hp
end
end
section
/-! runs and the coding of a row -/
def fx_rk (k : Bool) : Nat := if k then 20 else 0
def fx_ru (e k : Bool) (n l : Nat) (z : Nat × (Nat → Int32)) : Nat × (Nat → Int32) := if n < 16 then fx_em e (fx_rk k + n % 16) l z else fx_em e (fx_rk k + n % 16) l (fx_em e (fx_rk k + (15 + n / 16)) l z)
def fx_rz (k : Bool) (n : Nat) : Nat := if n < 16 then fx_sz (fx_rk k + n % 16) else fx_sz (fx_rk k + (15 + n / 16)) + fx_sz (fx_rk k + n % 16)
theorem fx_rk_le (k : Bool) : fx_rk k ≤ 20 := by cases k <;> decide
theorem fx_K_ru (e k : Bool) (n l : Nat) (z : Nat × (Nat → Int32)) : fx_K l z (fx_ru e k n l z) := by
  unfold fx_ru
  split
  · exact fx_K_em _ _ _ _
  · exact fx_K_t (fx_K_em _ _ _ _) (fx_K_em _ _ _ _)
theorem fx_ru_f (k : Bool) (n l : Nat) (z : Nat × (Nat → Int32)) : fx_ru false k n l z = z := by
  unfold fx_ru
  split <;> rfl
theorem fx_rz_le (k : Bool) {n : Nat} (hn : n ≤ 64) : fx_rz k n ≤ 48 := by
  have hk := fx_rk_le k
  have h1 := fx_tab_z (fx_rk k + n % 16) (by omega)
  have h2 := fx_tab_z (fx_rk k + (15 + n / 16)) (by omega)
  unfold fx_rz
  split <;> omega
theorem fx_ix_lo {c : Nat} (h : c < 40) : fx_ix c = c + 10 := if_pos h
theorem fx_ix_hi {c : Nat} (h : 40 ≤ c) : fx_ix c = c - 40 := if_neg (by omega)
theorem fx_b20 (k : Bool) : fx_b k * 20 = nI (fx_rk k) := by cases k <;> decide
theorem fx_n16 : ¬ (16 : Int32) = 0 := by decide
theorem fx_rem16 {n : Nat} (h : n ≤ 64) : nI n - nI n / 16 * 16 = nI (n % 16) := pk_rem (d := 16) (by omega) (by decide) (by decide)
theorem fx_div16 {n : Nat} (h : n ≤ 64) : nI n / 16 = nI (n / 16) := pk_div (d := 16) (by omega) (by decide) (by decide)
section
variable {f_pageWidth f_pageHeight f_limit f_coded f_finished f_used f_untouched f_state f_taken f_rows f_phase f_position f_current f_pending f_pendingBits f_makeUp f_firstRun f_passes f_horizontals f_verticals : Int32} {a_wordBits a_wordSize a_stream : Nat → Int32} {a_source a_decoded : Nat → Int64}
variable {l us n : Nat} {e k : Bool}
theorem fx_X_r42 {post : Int32 → SX → Prop} {B x5 : Int32} {tot : Nat} (eB : B = nI (10 + fx_rk k)) (e5 : x5 = nI tot) (hn : n ≤ 64) (hl : l ≤ 2048) (hu : us ≤ l) (hp : post (nI (tot + fx_sz (fx_rk k + n % 16))) (f_pageWidth, f_pageHeight, (nI l), f_coded, f_finished, (nI (fx_em e (fx_rk k + n % 16) l (us, a_stream)).1), f_untouched, f_state, f_taken, f_rows, f_phase, f_position, f_current, f_pending, f_pendingBits, f_makeUp, f_firstRun, f_passes, f_horizontals, f_verticals, fx_WB, fx_WS, a_source, ((fx_em e (fx_rk k + n % 16) l (us, a_stream)).2), a_decoded)) : wX_sendRun_42 post (nI n) (fx_b e) B x5 f_pageWidth f_pageHeight (nI l) f_coded f_finished (nI us) f_untouched f_state f_taken f_rows f_phase f_position f_current f_pending f_pendingBits f_makeUp f_firstRun f_passes f_horizontals f_verticals fx_WB fx_WS a_source a_stream a_decoded := by
  subst eB e5
  have hk := fx_rk_le k
  refine ⟨fx_n16, ?_⟩
  refine fx_X_send (c := fx_rk k + n % 16) (by omega) ?_ hl hu ?_
  · rw [fx_rem16 hn, nI_add, fx_ix_lo (by omega)]
    exact congrArg nI (by omega)
  · exact nm_r (nI_add _ _) hp
theorem fx_X_r11 {post : Int32 → SX → Prop} {B : Int32} (eB : B = nI (10 + fx_rk k)) (hn : n ≤ 64) (hl : l ≤ 2048) (hu : us ≤ l) (hp : post (nI (fx_rz k n)) (f_pageWidth, f_pageHeight, (nI l), f_coded, f_finished, (nI (fx_ru e k n l (us, a_stream)).1), f_untouched, f_state, f_taken, f_rows, f_phase, f_position, f_current, f_pending, f_pendingBits, f_makeUp, f_firstRun, f_passes, f_horizontals, f_verticals, fx_WB, fx_WS, a_source, ((fx_ru e k n l (us, a_stream)).2), a_decoded)) : wX_sendRun_11 post (nI n) (fx_b e) B f_pageWidth f_pageHeight (nI l) f_coded f_finished (nI us) f_untouched f_state f_taken f_rows f_phase f_position f_current f_pending f_pendingBits f_makeUp f_firstRun f_passes f_horizontals f_verticals fx_WB fx_WS a_source a_stream a_decoded := by
  have hk := fx_rk_le k
  by_cases z : n < 16
  · rw [fx_ru, if_pos z, fx_rz, if_pos z] at hp
    refine br_t (nI_lt (b := 16) z (by decide)) (fx_X_r42 (k := k) (tot := 0) eB rfl hn hl hu ?_)
    rw [Nat.zero_add]; exact hp
  · rw [fx_ru, if_neg z, fx_rz, if_neg z] at hp
    refine br_f (nI_nlt (b := 16) (by omega) (by omega)) ⟨fx_n16, ?_⟩
    refine fx_X_send (c := fx_rk k + (15 + n / 16)) (by omega) ?_ hl hu ?_
    · rw [eB, fx_div16 hn, fx_ix_lo (by omega)]
      show (nI (10 + fx_rk k) + nI 15) + nI (n / 16) = _
      rw [nI_add, nI_add]
      exact congrArg nI (by omega)
    · refine nm_r (e' := nI (fx_sz (fx_rk k + (15 + n / 16)))) (Int32.zero_add _) ?_
      exact fx_X_r42 (k := k) eB rfl hn hl ((fx_K_em e (fx_rk k + (15 + n / 16)) l (us, a_stream)).2.1 hu) hp
theorem fx_X_run {post : Int32 → SX → Prop} {p0 p1 : Int32} (e0 : p0 = nI n) (e1 : p1 = fx_b k) (hn : n ≤ 64) (hl : l ≤ 2048) (hu : us ≤ l) (hp : post (nI (fx_rz k n)) (f_pageWidth, f_pageHeight, (nI l), f_coded, f_finished, (nI (fx_ru e k n l (us, a_stream)).1), f_untouched, f_state, f_taken, f_rows, f_phase, f_position, f_current, f_pending, f_pendingBits, f_makeUp, f_firstRun, f_passes, f_horizontals, f_verticals, fx_WB, fx_WS, a_source, ((fx_ru e k n l (us, a_stream)).2), a_decoded)) : wpX_sendRun post (f_pageWidth, f_pageHeight, (nI l), f_coded, f_finished, (nI us), f_untouched, f_state, f_taken, f_rows, f_phase, f_position, f_current, f_pending, f_pendingBits, f_makeUp, f_firstRun, f_passes, f_horizontals, f_verticals, fx_WB, fx_WS, a_source, a_stream, a_decoded) p0 p1 (fx_b e) := by
  subst e0 e1
  cases k with
  | false => exact br_t rfl (fx_X_r11 (k := false) rfl hn hl hu hp)
  | true => exact br_f (by decide) (fx_X_r11 (k := true) rfl hn hl hu hp)
end
section
variable {l us n : Nat} {e k : Bool} {p0 p1 p4 p5 p6 p7 p8 p9 p10 p11 p12 p13 p14 p15 p16 p17 p18 : Int32} {dot s : Nat → Int32}
theorem fx_Y_r27 {post : Int32 → SY → Prop} {x4 : Int32} {tot : Nat} (e4 : x4 = nI tot) (hn : n ≤ 64) (hl : l ≤ 2048) (hu : us ≤ l) (hp : post (nI (tot + fx_sz (fx_rk k + n % 16))) (fx_pt p0 p1 (nI l) (nI (fx_em e (fx_rk k + n % 16) l (us, s)).1) p4 p5 p6 p7 p8 p9 p10 p11 p12 p13 p14 p15 p16 p17 p18, dot, (fx_em e (fx_rk k + n % 16) l (us, s)).2)) : wY_emitRun_27 post (nI n) (fx_b k) (fx_b e) x4 (fx_pt p0 p1 (nI l) (nI us) p4 p5 p6 p7 p8 p9 p10 p11 p12 p13 p14 p15 p16 p17 p18) dot s := by
  subst e4
  have hk := fx_rk_le k
  refine ⟨fx_n16, ?_⟩
  refine fx_Y_emit (c := fx_rk k + n % 16) (by omega) ?_ hl hu ?_
  · rw [fx_b20, fx_rem16 hn, nI_add]
  · exact nm_r (nI_add _ _) hp
theorem fx_Y_run {post : Int32 → SY → Prop} {q0 q1 : Int32} (e0 : q0 = nI n) (e1 : q1 = fx_b k) (hn : n ≤ 64) (hl : l ≤ 2048) (hu : us ≤ l) (hp : post (nI (fx_rz k n)) (fx_pt p0 p1 (nI l) (nI (fx_ru e k n l (us, s)).1) p4 p5 p6 p7 p8 p9 p10 p11 p12 p13 p14 p15 p16 p17 p18, dot, (fx_ru e k n l (us, s)).2)) : wpY_emitRun post (fx_pt p0 p1 (nI l) (nI us) p4 p5 p6 p7 p8 p9 p10 p11 p12 p13 p14 p15 p16 p17 p18, dot, s) q0 q1 (fx_b e) := by
  subst e0 e1
  have hk := fx_rk_le k
  by_cases z : n < 16
  · rw [fx_ru, if_pos z, fx_rz, if_pos z] at hp
    refine br_t (nI_lt (b := 16) z (by decide)) (fx_Y_r27 (k := k) (tot := 0) rfl hn hl hu ?_)
    rw [Nat.zero_add]; exact hp
  · rw [fx_ru, if_neg z, fx_rz, if_neg z] at hp
    refine br_f (nI_nlt (b := 16) (by omega) (by omega)) ⟨fx_n16, ?_⟩
    refine fx_Y_emit (c := fx_rk k + (15 + n / 16)) (by omega) ?_ hl hu ?_
    · rw [fx_b20, fx_div16 hn]
      show nI (fx_rk k) + (nI 15 + nI (n / 16)) = _
      rw [nI_add, nI_add]
    · refine nm_r (e' := nI (fx_sz (fx_rk k + (15 + n / 16)))) (Int32.zero_add _) ?_
      exact fx_Y_r27 (k := k) rfl hn hl ((fx_K_em e (fx_rk k + (15 + n / 16)) l (us, s)).2.1 hu) hp
end
/-- the pair after a horizontal code -/
def fx_hz (e c : Bool) (n1 n2 l : Nat) (z : Nat × (Nat → Int32)) : Nat × (Nat → Int32) := fx_ru e (!c) n2 l (fx_ru e c n1 l (fx_em e 41 l z))
theorem fx_K_hz (e c : Bool) (n1 n2 l : Nat) (z : Nat × (Nat → Int32)) : fx_K l z (fx_hz e c n1 n2 l z) :=
  fx_K_t (fx_K_t (fx_K_em _ _ _ _) (fx_K_ru _ _ _ _ _)) (fx_K_ru _ _ _ _ _)
theorem fx_hz_f (c : Bool) (n1 n2 l : Nat) (z : Nat × (Nat → Int32)) : fx_hz false c n1 n2 l z = z := by
  unfold fx_hz; rw [fx_ru_f, fx_ru_f]; rfl
section
variable {w h l cd us t ro q pn pb m fr : Nat} {k : Bool} {fin unt st ph pas hor ver : Int32} {s dot : Nat → Int32} {src dec : Nat → Int64}
variable {e c : Bool} {tot a1 a2 st0 : Nat} {b up : Int64} {x9 : Int32}
theorem fx_X_182 {post : Int32 → SX → Prop} {J : Int32 → Int32 → Int32 → Int32 → Int32 → Int32 → Int32 → Int32 → Int32 → Int32 → Int32 → Int32 → Int32 → Int32 → Int32 → Int32 → Int32 → Int32 → Int32 → Int32 → Int32 → Int32 → Int32 → Int32 → (Nat → Int32) → (Nat → Int32) → (Nat → Int64) → (Nat → Int32) → (Nat → Int64) → Prop} {z0 : Int32} (ez : z0 = nI st0) (hw : w ≤ 64) (hl : l ≤ 2048) (hu : us ≤ l) (h1 : st0 ≤ a1) (h2 : a1 ≤ w) (ea : a2 = fx_nw (fx_t b) c w (a1 + 1)) (h3 : a1 ≤ a2) (h4 : a2 ≤ w)
    (hp : J (nI a2) (fx_b c) (nI (tot + fx_sz 41 + fx_rz c (a1 - st0) + fx_rz (!c) (a2 - a1))) (x9 + 1) (nI w) (nI h) (nI l) (nI cd) fin (nI ((fx_hz e c (a1 - st0) (a2 - a1) l (us, s)).1)) unt st (nI t) (nI ro) ph (fx_m q) (fx_b k) (nI pn) (nI pb) (nI m) (nI fr) pas hor ver fx_WB fx_WS src ((fx_hz e c (a1 - st0) (a2 - a1) l (us, s)).2) dec) :
    wX_codeRow_182 post J (fx_b e) b up (fx_b c) (nI tot) x9 (nI a1) z0 (nI w) (nI h) (nI l) (nI cd) fin (nI us) unt st (nI t) (nI ro) ph (fx_m q) (fx_b k) (nI pn) (nI pb) (nI m) (nI fr) pas hor ver fx_WB fx_WS src s dec := by
  subst ez
  unfold wX_codeRow_182
  refine fx_X_next (q := a1 + 1) (k := c) hw (by omega) (fx_m_s a1).symm rfl ?_
  rw [← ea]
  refine fx_X_send (c := 41) (by decide) (by decide) hl hu ?_
  refine nm_r (nI_add _ _) ?_
  refine fx_X_run (n := a1 - st0) (k := c) (pk_sub h1) rfl (by omega) hl ((fx_K_em e 41 l (us, s)).2.1 hu) ?_
  refine nm_r (nI_add _ _) ?_
  refine fx_X_run (n := a2 - a1) (k := !c) (pk_sub h3) (fx_b_not c) (by omega) hl ((fx_K_t (fx_K_em e 41 l (us, s)) (fx_K_ru e c (a1 - st0) l _)).2.1 hu) ?_
  exact nm_r (nI_add _ _) (nm_e hp)
theorem fx_Y_171 {post : Int32 → SY → Prop} {J : Int32 → Int32 → Int32 → Int32 → (Nat → Int32) → (Nat → Int32) → (Nat → Int32) → Prop} {z0 x2 : Int32} (ez : z0 = nI st0) (hw : w ≤ 64) (hl : l ≤ 2048) (hu : us ≤ l) (h1 : st0 ≤ a1) (h2 : a1 ≤ w) (h3 : a1 ≤ a2) (h4 : a2 ≤ w)
    (hp : J (nI a2) (fx_b c) (nI (tot + fx_sz 41 + fx_rz c (a1 - st0) + fx_rz (!c) (a2 - a1))) (x9 + 1) (fx_pt (nI w) (nI h) (nI l) (nI ((fx_hz e c (a1 - st0) (a2 - a1) l (us, s)).1)) (nI cd) fin unt st (nI t) (nI ro) ph (fx_m q) (fx_b k) (nI pn) (nI m) (nI fr) pas hor ver) dot ((fx_hz e c (a1 - st0) (a2 - a1) l (us, s)).2)) :
    wY_codeRow_171 post J (fx_b e) x2 (fx_b c) (nI tot) x9 (nI a1) (nI a2) z0 (fx_pt (nI w) (nI h) (nI l) (nI us) (nI cd) fin unt st (nI t) (nI ro) ph (fx_m q) (fx_b k) (nI pn) (nI m) (nI fr) pas hor ver) dot s := by
  subst ez
  unfold wY_codeRow_171
  refine fx_Y_emit (c := 41) (by decide) (by decide) hl hu ?_
  refine nm_r (nI_add _ _) ?_
  refine fx_Y_run (n := a1 - st0) (k := c) (pk_sub h1) rfl (by omega) hl ((fx_K_em e 41 l (us, s)).2.1 hu) ?_
  refine nm_r (nI_add _ _) ?_
  refine fx_Y_run (n := a2 - a1) (k := !c) (pk_sub h3) (fx_b_not c) (by omega) hl ((fx_K_t (fx_K_em e 41 l (us, s)) (fx_K_ru e c (a1 - st0) l _)).2.1 hu) ?_
  exact nm_r (nI_add _ _) (nm_e hp)
theorem fx_vX {a b : Nat} (h : b ≤ a + 3) : (5 : Int32) + (nI a - nI b) = nI (fx_ix (45 + a - b)) := by
  rw [fx_ix_hi (by omega), Int32.sub_eq_add_neg, ← Int32.add_assoc, ← Int32.sub_eq_add_neg]
  show (nI 5 + nI a) - nI b = _
  rw [nI_add, pk_sub (by omega)]
  exact congrArg nI (by omega)
theorem fx_vY {a b : Nat} (h : b ≤ a + 3) : ((2 : Int32) * 20) + (((5 : Int32) + nI a) - nI b) = nI (45 + a - b) := by
  show (nI 40) + ((nI 5 + nI a) - nI b) = _
  rw [nI_add 5 a, pk_sub (by omega), nI_add]
  exact congrArg nI (by omega)
theorem fx_im3 : (-3 : Int32).toInt = -3 := by decide
theorem fx_i3 : (3 : Int32).toInt = 3 := by decide
theorem fx_lo3 {a b : Nat} (ha : a ≤ 64) (hb : b ≤ 64) : nI a - nI b < -3 ↔ a + 3 < b := by
  rw [Int32.lt_iff_toInt_lt, pk_sub_toInt (by omega) (by omega), fx_im3]; omega
theorem fx_hi3 {a b : Nat} (ha : a ≤ 64) (hb : b ≤ 64) : 3 < nI a - nI b ↔ b + 3 < a := by
  rw [Int32.lt_iff_toInt_lt, pk_sub_toInt (by omega) (by omega), fx_i3]; omega
theorem fx_stp {d : Nat} (hd : d + 1 ≤ 65) : nI (65 - (d + 1)) + 1 = nI (65 - d) := (nI_1 _).trans (congrArg nI (by omega))
theorem fx_m_p {a : Nat} (h : 0 < a) : fx_m a = nI (a - 1) := by
  obtain ⟨b, rfl⟩ : ∃ b, a = b + 1 := ⟨a - 1, by omega⟩
  exact fx_m_s b
theorem fx_code (e : Bool) (hw : w ≤ 64) (hh : h ≤ 8) (hl : l ≤ 2048) (hc : cd < h) (P : fx_PD w 0 src dot) : ∀ d, d ≤ 65 → ∀ (a : Nat) (c : Bool) (tot us : Nat) (s : Nat → Int32), a ≤ w + 1 → us ≤ l →
    ∃ (tot' : Nat) (z' : Nat × (Nat → Int32)), tot' ≤ tot + 120 * d ∧ fx_K l (us, s) z' ∧ (e = false → z' = (us, s)) ∧
    (∀ post n, d < n → post (nI tot') ((nI w), (nI h), (nI l), (nI cd), fin, (nI z'.1), unt, st, (nI t), (nI ro), ph, (fx_m q), (fx_b k), (nI pn), (nI pb), (nI m), (nI fr), pas, hor, ver, fx_WB, fx_WS, src, z'.2, dec) → wX_codeRow_46 post (fx_b e) (src cd) (fx_up src cd) n (fx_m a) (fx_b c) (nI tot) (nI (65 - d)) (nI w) (nI h) (nI l) (nI cd) fin (nI us) unt st (nI t) (nI ro) ph (fx_m q) (fx_b k) (nI pn) (nI pb) (nI m) (nI fr) pas hor ver fx_WB fx_WS src s dec) ∧
    (∀ post n, d < n → post (nI tot') ((fx_pt (nI w) (nI h) (nI l) (nI z'.1) (nI cd) fin unt st (nI t) (nI ro) ph (fx_m q) (fx_b k) (nI pn) (nI m) (nI fr) pas hor ver), dot, z'.2) → wY_codeRow_18 post (fx_b e) (nI cd) n (fx_m a) (fx_b c) (nI tot) (nI (65 - d)) (fx_pt (nI w) (nI h) (nI l) (nI us) (nI cd) fin unt st (nI t) (nI ro) ph (fx_m q) (fx_b k) (nI pn) (nI m) (nI fr) pas hor ver) dot s) := by
  intro d
  induction d with
  | zero =>
    intro hd a c tot us s ha hu
    refine ⟨tot, (us, s), by omega, fx_K_r _ _, fun _ => rfl, fun post n hn hp => ?_, fun post n hn hp => ?_⟩
    · obtain ⟨n, rfl⟩ : ∃ n', n = n' + 1 := ⟨n - 1, by omega⟩
      exact br_t (by decide) hp
    · obtain ⟨n, rfl⟩ : ∃ n', n = n' + 1 := ⟨n - 1, by omega⟩
      exact br_t (by decide) hp
  | succ d ih =>
    intro hd a c tot us s ha hu
    have h64 : ¬ (64 : Int32) < nI (65 - (d + 1)) := nI_nlt (b := 65 - (d + 1)) (a := 64) (by omega) (by decide)
    by_cases y : w < a
    · have hb : nI w ≤ fx_m a := (fx_le_m (by omega) (by omega)).mpr y
      refine ⟨tot, (us, s), by omega, fx_K_r _ _, fun _ => rfl, fun post n hn hp => ?_, fun post n hn hp => ?_⟩
      · obtain ⟨n, rfl⟩ : ∃ n', n = n' + 1 := ⟨n - 1, by omega⟩
        exact br_f h64 (br_t hb hp)
      · obtain ⟨n, rfl⟩ : ∃ n', n = n' + 1 := ⟨n - 1, by omega⟩
        exact br_f h64 (br_t hb hp)
    · have hb : ¬ nI w ≤ fx_m a := by rw [fx_le_m (by omega) (by omega)]; exact y
      have R1 : fx_Row ((fx_pt (nI w) (nI h) (nI l) (nI us) (nI cd) fin unt st (nI t) (nI ro) ph (fx_m q) (fx_b k) (nI pn) (nI m) (nI fr) pas hor ver), dot, s) 0 (nI cd) (fx_t (src cd)) w := fx_row_pd (p := 0) rfl rfl hw hh (by decide) hc P
      have R2 : fx_Row ((fx_pt (nI w) (nI h) (nI l) (nI us) (nI cd) fin unt st (nI t) (nI ro) ph (fx_m q) (fx_b k) (nI pn) (nI m) (nI fr) pas hor ver), dot, s) 0 (nI cd - 1) (fx_t (fx_up src cd)) w := fx_row_up (p := 0) rfl rfl hw hh (by decide) (by omega) P
      obtain ⟨a1, ea1⟩ : ∃ x, fx_nw (fx_t (src cd)) (!c) w a = x := ⟨_, rfl⟩
      obtain ⟨a2, ea2⟩ : ∃ x, fx_nw (fx_t (src cd)) c w (a1 + 1) = x := ⟨_, rfl⟩
      obtain ⟨b1, eb1⟩ : ∃ x, fx_cw (fx_t (fx_up src cd)) c w a = x := ⟨_, rfl⟩
      obtain ⟨b2, eb2⟩ : ∃ x, fx_nw (fx_t (fx_up src cd)) c w (b1 + 1) = x := ⟨_, rfl⟩
      have l1 : a1 ≤ w := ea1 ▸ fx_nw_le _ _ _ _
      have g1 : a ≤ a1 := ea1 ▸ fx_nw_ge _ _ (by omega)
      have l2 : a2 ≤ w := ea2 ▸ fx_nw_le _ _ _ _
      have g2 : a1 ≤ a2 := by
        rcases Nat.lt_or_ge a1 w with v | v
        · have := fx_nw_ge (fx_t (src cd)) c (show a1 + 1 ≤ w from v); omega
        · have : a2 = w := by rw [← ea2]; unfold fx_nw; rw [show w - (a1 + 1) = 0 by omega]; rfl
          omega
      have l3 : b1 ≤ w := eb1 ▸ fx_cw_le _ _ _ _
      have l4 : b2 ≤ w := eb2 ▸ fx_nw_le _ _ _ _
      by_cases v1 : a1 ≤ b2
      · have k1 : nI a1 ≤ nI b2 := nI_le v1 (by omega)
        by_cases v2 : a1 + 3 < b1 ∨ b1 + 3 < a1
        · -- horizontal
          have hz := fx_K_hz e c (a1 - (a - 1)) (a2 - a1) l (us, s)
          obtain ⟨tot', z', i1, i2, i3, iX, iY⟩ := ih (by omega) (a2 + 1) c (tot + fx_sz 41 + fx_rz c (a1 - (a - 1)) + fx_rz (!c) (a2 - a1)) (fx_hz e c (a1 - (a - 1)) (a2 - a1) l (us, s)).1 (fx_hz e c (a1 - (a - 1)) (a2 - a1) l (us, s)).2 (by omega) (hz.2.1 hu)
          rw [fx_m_s] at iX iY
          have r1 := fx_rz_le c (n := a1 - (a - 1)) (by omega)
          have r2 := fx_rz_le (!c) (n := a2 - a1) (by omega)
          have r3 := fx_tab_z 41 (by decide)
          have tX : ∀ (post : Int32 → SX → Prop) (n : Nat), d < n → post (nI tot') ((nI w), (nI h), (nI l), (nI cd), fin, (nI z'.1), unt, st, (nI t), (nI ro), ph, (fx_m q), (fx_b k), (nI pn), (nI pb), (nI m), (nI fr), pas, hor, ver, fx_WB, fx_WS, src, z'.2, dec) → wX_codeRow_171 post (wX_codeRow_46 post (fx_b e) (src cd) (fx_up src cd) n) (fx_b e) (src cd) (fx_up src cd) (fx_m a) (fx_b c) (nI tot) (nI (65 - (d + 1))) (nI a1) (nI w) (nI h) (nI l) (nI cd) fin (nI us) unt st (nI t) (nI ro) ph (fx_m q) (fx_b k) (nI pn) (nI pb) (nI m) (nI fr) pas hor ver fx_WB fx_WS src s dec := by
            intro post n hn hp
            have J0 := iX post n hn hp
            rw [← fx_stp hd] at J0
            refine ek_if (fx_m_nn (by omega)) (fun v => ?_) (fun v => ?_)
            · exact fx_X_182 (fx_m_p v) hw hl hu (by omega) l1 ea2.symm g2 l2 J0
            · exact fx_X_182 (st0 := a - 1) (by rw [show a - 1 = 0 by omega]; rfl) hw hl hu (by omega) l1 ea2.symm g2 l2 J0
          have tY : ∀ (post : Int32 → SY → Prop) (n : Nat), d < n → post (nI tot') ((fx_pt (nI w) (nI h) (nI l) (nI z'.1) (nI cd) fin unt st (nI t) (nI ro) ph (fx_m q) (fx_b k) (nI pn) (nI m) (nI fr) pas hor ver), dot, z'.2) → wY_codeRow_161 post (wY_codeRow_18 post (fx_b e) (nI cd) n) (fx_b e) (nI cd) (fx_m a) (fx_b c) (nI tot) (nI (65 - (d + 1))) (nI a1) (nI a2) (fx_pt (nI w) (nI h) (nI l) (nI us) (nI cd) fin unt st (nI t) (nI ro) ph (fx_m q) (fx_b k) (nI pn) (nI m) (nI fr) pas hor ver) dot s := by
            intro post n hn hp
            have J0 := iY post n hn hp
            rw [← fx_stp hd] at J0
            refine ek_if (fx_m_m1 (by omega)) (fun v => ?_) (fun v => ?_)
            · exact fx_Y_171 (st0 := a - 1) (by rw [show a - 1 = 0 by omega]; rfl) hw hl hu (by omega) l1 g2 l2 J0
            · exact fx_Y_171 (fx_m_p (by omega)) hw hl hu (by omega) l1 g2 l2 J0
          refine ⟨tot', z', by omega, fx_K_t hz i2, fun he => ?_, fun post n hn hp => ?_, fun post n hn hp => ?_⟩
          · rw [i3 he]; subst he; rw [fx_hz_f]
          · obtain ⟨n, rfl⟩ : ∃ n', n = n' + 1 := ⟨n - 1, by omega⟩
            refine br_f h64 (br_f hb ?_)
            refine fx_X_next (q := a) (k := !c) hw (by omega) rfl (fx_b_not c) ?_
            rw [ea1]
            refine fx_X_find (q := a) (k := c) hw (by omega) ?_
            rw [eb1]
            refine fx_X_next (q := b1 + 1) (k := c) hw (by omega) (fx_m_s b1).symm rfl ?_
            rw [eb2]
            refine nm_e (br_t k1 ?_)
            refine ek_if (fx_lo3 (by omega) (by omega)) (fun v => tX post n (by omega) hp) (fun v => ?_)
            exact br_t ((fx_hi3 (by omega) (by omega)).mpr (by omega)) (tX post n (by omega) hp)
          · obtain ⟨n, rfl⟩ : ∃ n', n = n' + 1 := ⟨n - 1, by omega⟩
            refine br_f h64 (br_f hb ?_)
            refine fx_Y_first (q := a) (k := !c) R1 rfl hw (by omega) rfl (fx_b_not c) ?_
            rw [ea1]
            refine fx_Y_first (q := a1 + 1) (k := c) R1 rfl hw (by omega) (fx_m_s a1).symm rfl ?_
            rw [ea2]
            refine fx_Y_change (q := a) (k := c) R2 rfl hw (by omega) rfl rfl ?_
            rw [eb1]
            refine fx_Y_first (q := b1 + 1) (k := c) R2 rfl hw (by omega) (fx_m_s b1).symm rfl ?_
            rw [eb2]
            refine br_t k1 ?_
            refine ek_if (fx_lo3 (by omega) (by omega)) (fun v => tY post n (by omega) hp) (fun v => ?_)
            exact br_t ((fx_hi3 (by omega) (by omega)).mpr (by omega)) (tY post n (by omega) hp)
        · -- vertical
          have hz := fx_K_em e (45 + a1 - b1) l (us, s)
          obtain ⟨tot', z', i1, i2, i3, iX, iY⟩ := ih (by omega) (a1 + 1) (!c) (tot + fx_sz (45 + a1 - b1)) (fx_em e (45 + a1 - b1) l (us, s)).1 (fx_em e (45 + a1 - b1) l (us, s)).2 (by omega) (hz.2.1 hu)
          rw [fx_m_s] at iX iY
          have r3 := fx_tab_z (45 + a1 - b1) (by omega)
          have n1 : ¬ nI a1 - nI b1 < -3 := by rw [fx_lo3 (by omega) (by omega)]; omega
          have n2 : ¬ 3 < nI a1 - nI b1 := by rw [fx_hi3 (by omega) (by omega)]; omega
          refine ⟨tot', z', by omega, fx_K_t hz i2, fun he => ?_, fun post n hn hp => ?_, fun post n hn hp => ?_⟩
          · rw [i3 he]; subst he; rfl
          · obtain ⟨n, rfl⟩ : ∃ n', n = n' + 1 := ⟨n - 1, by omega⟩
            refine br_f h64 (br_f hb ?_)
            refine fx_X_next (q := a) (k := !c) hw (by omega) rfl (fx_b_not c) ?_
            rw [ea1]
            refine fx_X_find (q := a) (k := c) hw (by omega) ?_
            rw [eb1]
            refine fx_X_next (q := b1 + 1) (k := c) hw (by omega) (fx_m_s b1).symm rfl ?_
            rw [eb2]
            refine nm_e (br_t k1 (br_f n1 (br_f n2 ?_)))
            refine fx_X_send (c := 45 + a1 - b1) (by omega) (fx_vX (by omega)) hl hu ?_
            exact nm_r (nI_add _ _) (nm_r (fx_b_not c) (nm_r (fx_stp hd) (iX post n (by omega) hp)))
          · obtain ⟨n, rfl⟩ : ∃ n', n = n' + 1 := ⟨n - 1, by omega⟩
            refine br_f h64 (br_f hb ?_)
            refine fx_Y_first (q := a) (k := !c) R1 rfl hw (by omega) rfl (fx_b_not c) ?_
            rw [ea1]
            refine fx_Y_first (q := a1 + 1) (k := c) R1 rfl hw (by omega) (fx_m_s a1).symm rfl ?_
            rw [ea2]
            refine fx_Y_change (q := a) (k := c) R2 rfl hw (by omega) rfl rfl ?_
            rw [eb1]
            refine fx_Y_first (q := b1 + 1) (k := c) R2 rfl hw (by omega) (fx_m_s b1).symm rfl ?_
            rw [eb2]
            refine br_t k1 (br_f n1 (br_f n2 ?_))
            refine fx_Y_emit (c := 45 + a1 - b1) (by omega) (fx_vY (by omega)) hl hu ?_
            exact nm_r (nI_add _ _) (nm_r (fx_b_not c) (nm_r (fx_stp hd) (iY post n (by omega) hp)))
      · -- pass
        have k1 : ¬ nI a1 ≤ nI b2 := nI_ge (by omega) (by omega)
        have hz := fx_K_em e 40 l (us, s)
        obtain ⟨tot', z', i1, i2, i3, iX, iY⟩ := ih (by omega) (b2 + 1) c (tot + fx_sz 40) (fx_em e 40 l (us, s)).1 (fx_em e 40 l (us, s)).2 (by omega) (hz.2.1 hu)
        rw [fx_m_s] at iX iY
        have r3 := fx_tab_z 40 (by omega)
        refine ⟨tot', z', by omega, fx_K_t hz i2, fun he => ?_, fun post n hn hp => ?_, fun post n hn hp => ?_⟩
        · rw [i3 he]; subst he; rfl
        · obtain ⟨n, rfl⟩ : ∃ n', n = n' + 1 := ⟨n - 1, by omega⟩
          refine br_f h64 (br_f hb ?_)
          refine fx_X_next (q := a) (k := !c) hw (by omega) rfl (fx_b_not c) ?_
          rw [ea1]
          refine fx_X_find (q := a) (k := c) hw (by omega) ?_
          rw [eb1]
          refine fx_X_next (q := b1 + 1) (k := c) hw (by omega) (fx_m_s b1).symm rfl ?_
          rw [eb2]
          refine nm_e (br_f k1 ?_)
          refine fx_X_send (c := 40) (by omega) (by decide) hl hu ?_
          exact nm_r (nI_add _ _) (nm_r (fx_stp hd) (iX post n (by omega) hp))
        · obtain ⟨n, rfl⟩ : ∃ n', n = n' + 1 := ⟨n - 1, by omega⟩
          refine br_f h64 (br_f hb ?_)
          refine fx_Y_first (q := a) (k := !c) R1 rfl hw (by omega) rfl (fx_b_not c) ?_
          rw [ea1]
          refine fx_Y_first (q := a1 + 1) (k := c) R1 rfl hw (by omega) (fx_m_s a1).symm rfl ?_
          rw [ea2]
          refine fx_Y_change (q := a) (k := c) R2 rfl hw (by omega) rfl rfl ?_
          rw [eb1]
          refine fx_Y_first (q := b1 + 1) (k := c) R2 rfl hw (by omega) (fx_m_s b1).symm rfl ?_
          rw [eb2]
          refine br_f k1 ?_
          refine fx_Y_emit (c := 40) (by omega) (by decide) hl hu ?_
          exact nm_r (nI_add _ _) (nm_r (fx_stp hd) (iY post n (by omega) hp))
end
end
section
/-! the table search of takeBit and take -/
theorem fx_lg {y a b : Nat} (h1 : 2 ^ a ≤ y) (h2 : y < 2 ^ (a + 1)) (h3 : 2 ^ b ≤ y) (h4 : y < 2 ^ (b + 1)) : a = b := by
  have p1 : 2 ^ a < 2 ^ (b + 1) := Nat.lt_of_le_of_lt h1 h4
  have p2 : 2 ^ b < 2 ^ (a + 1) := Nat.lt_of_le_of_lt h3 h2
  have q1 := (Nat.pow_lt_pow_iff_right (by decide : 1 < 2)).mp p1
  have q2 := (Nat.pow_lt_pow_iff_right (by decide : 1 < 2)).mp p2
  omega
/-- the word with code c is n bits of value v -/
def fx_E (bs n v j : Nat) : Prop := fx_YW (bs + j) = 2 ^ n + v
/-- the word with code c begins so and goes on -/
def fx_Q (bs n v j : Nat) : Prop := ∃ cut, 1 ≤ cut ∧ cut ≤ 24 ∧ fx_YW (bs + j) / 2 ^ cut = 2 ^ n + v
theorem fx_cut {c n v cut : Nat} (hc : c < 50) (hv : v < 2 ^ n) (h : fx_YW c / 2 ^ cut = 2 ^ n + v) : fx_sz c = n + cut := by
  have hL := fx_tab_l c hc
  have hp := Nat.two_pow_pos cut
  refine fx_lg hL.1 hL.2 ?_ ?_
  · rw [Nat.pow_add]
    exact (Nat.le_div_iff_mul_le hp).mp (by omega)
  · rw [show n + cut + 1 = (n + 1) + cut by omega, Nat.pow_add]
    exact (Nat.div_lt_iff_lt_mul hp).mp (by rw [Nat.pow_succ]; omega)
theorem fx_E_sz {bs n v j : Nat} (hc : bs + j < 50) (hv : v < 2 ^ n) (h : fx_E bs n v j) : fx_sz (bs + j) = n :=
  fx_cut (cut := 0) hc hv (by rw [Nat.pow_zero, Nat.div_one]; exact h)
theorem fx_Q_sz {bs n v j : Nat} (hc : bs + j < 50) (hv : v < 2 ^ n) (h : fx_Q bs n v j) : n < fx_sz (bs + j) ∧ fx_YW (bs + j) / 2 ^ (fx_sz (bs + j) - n) = 2 ^ n + v := by
  obtain ⟨cut, h1, h2, h3⟩ := h
  have e := fx_cut hc hv h3
  refine ⟨by omega, ?_⟩
  rw [show fx_sz (bs + j) - n = cut by omega]; exact h3
theorem fx_T {y S n v : Nat} (h1 : 2 ^ S ≤ y) (hn : n ≤ S) : (y - 2 ^ S) / 2 ^ (S - n) = v ↔ y / 2 ^ (S - n) = 2 ^ n + v := by
  have e : 2 ^ S = 2 ^ n * 2 ^ (S - n) := wb_pw hn
  have e2 : y / 2 ^ (S - n) = (y - 2 ^ S) / 2 ^ (S - n) + 2 ^ n := by
    rw [← Nat.add_mul_div_right _ _ (Nat.two_pow_pos _), ← e, Nat.sub_add_cancel h1]
  omega
def fx_MX (E Q : Nat → Prop) (fs i cnt : Nat) (a r : Int32) : Prop := (∃ j, i ≤ j ∧ j < cnt ∧ E j ∧ r = nI (fs + j)) ∨ ((∀ j, i ≤ j → j < cnt → ¬ E j) ∧ ((r = -2 ∧ ∃ j, i ≤ j ∧ j < cnt ∧ Q j) ∨ (r = a ∧ ∀ j, i ≤ j → j < cnt → ¬ Q j)))
theorem fx_al {P : Nat → Prop} {i : Nat} {cnt : Nat} (h : ∀ j, i + 1 ≤ j → j < cnt → P j) (hi : P i) : ∀ j, i ≤ j → j < cnt → P j := by
  intro j h1 h2
  by_cases z : j = i
  · subst z; exact hi
  · exact h j (by omega) h2
theorem fx_MX_n {E Q : Nat → Prop} {fs i cnt : Nat} {a r : Int32} (hE : ¬ E i) (hQ : ¬ Q i) (h : fx_MX E Q fs (i + 1) cnt a r) : fx_MX E Q fs i cnt a r := by
  rcases h with ⟨j, h1, h2, h3⟩ | ⟨h1, h2⟩
  · exact Or.inl ⟨j, by omega, h2, h3⟩
  · refine Or.inr ⟨fx_al h1 hE, ?_⟩
    rcases h2 with ⟨e, j, h3, h4⟩ | ⟨e, h3⟩
    · exact Or.inl ⟨e, j, by omega, h4⟩
    · exact Or.inr ⟨e, fx_al h3 hQ⟩
theorem fx_MX_q {E Q : Nat → Prop} {fs i cnt : Nat} {a r : Int32} (hi : i < cnt) (hE : ¬ E i) (hQ : Q i) (h : fx_MX E Q fs (i + 1) cnt (-2) r) : fx_MX E Q fs i cnt a r := by
  rcases h with ⟨j, h1, h2, h3⟩ | ⟨h1, h2⟩
  · exact Or.inl ⟨j, by omega, h2, h3⟩
  · refine Or.inr ⟨fx_al h1 hE, Or.inl ⟨?_, i, Nat.le_refl i, hi, hQ⟩⟩
    rcases h2 with ⟨e, _⟩ | ⟨e, _⟩ <;> exact e
theorem fx_MX_1 {E Q : Nat → Prop} {fs cnt j : Nat} {a r : Int32} (hj : j < cnt) (hE : E j) (u : ∀ i, i < cnt → E i → i = j) (h : fx_MX E Q fs 0 cnt a r) : r = nI (fs + j) := by
  rcases h with ⟨i, h1, h2, h3, h4⟩ | ⟨h1, h2⟩
  · rw [h4, u i h2 h3]
  · exact absurd hE (h1 j (by omega) hj)
theorem fx_MX_2 {E Q : Nat → Prop} {fs cnt j : Nat} {a r : Int32} (hE : ∀ i, i < cnt → ¬ E i) (hj : j < cnt) (hQ : Q j) (h : fx_MX E Q fs 0 cnt a r) : r = -2 := by
  rcases h with ⟨i, h1, h2, h3, h4⟩ | ⟨h1, h2⟩
  · exact absurd h3 (hE i h2)
  · rcases h2 with ⟨e, _⟩ | ⟨e, h3⟩
    · exact e
    · exact absurd hQ (h3 j (by omega) hj)
theorem fx_MX_3 {E Q : Nat → Prop} {fs cnt : Nat} {a r : Int32} (hE : ∀ i, i < cnt → ¬ E i) (hQ : ∀ i, i < cnt → ¬ Q i) (h : fx_MX E Q fs 0 cnt a r) : r = a := by
  rcases h with ⟨i, h1, h2, h3, h4⟩ | ⟨h1, h2⟩
  · exact absurd h3 (hE i h2)
  · rcases h2 with ⟨e, j, h4, h5, h6⟩ | ⟨e, h3⟩
    · exact absurd h6 (hQ j h5)
    · exact e
section
variable {f_pageWidth f_pageHeight f_limit f_coded f_finished f_used f_untouched f_state f_taken f_rows f_phase f_position f_current f_pending f_pendingBits f_makeUp f_firstRun f_passes f_horizontals f_verticals : Int32} {a_wordBits a_wordSize a_stream : Nat → Int32} {a_source a_decoded : Nat → Int64}
variable {fs bs cnt n v : Nat}
theorem fx_X_mt {post : Int32 → Prop} (hb : bs + cnt ≤ 50) (hx : ∀ i, i < cnt → fx_ix (bs + i) = fs + i) (hf : fs + cnt ≤ 50) (hn : n ≤ 24) (hv : v < 2 ^ n) : ∀ d fuel i a, d = cnt - i → i ≤ cnt → d < fuel → (∀ r, fx_MX (fx_E bs n v) (fx_Q bs n v) fs i cnt a r → post r) → wX_match_6 post (nI v) (nI n) (nI (fs + cnt)) f_pageWidth f_pageHeight f_limit f_coded f_finished f_used f_untouched f_state f_taken f_rows f_phase f_position f_current f_pending f_pendingBits f_makeUp f_firstRun f_passes f_horizontals f_verticals fx_WB fx_WS a_source a_stream a_decoded fuel a (nI (fs + i)) := by
  have hv' : v < 2 ^ 24 := Nat.lt_of_lt_of_le hv (Nat.pow_le_pow_right (by decide) hn)
  intro d
  induction d with
  | zero =>
    intro fuel i a hd hi hfu H
    obtain ⟨fuel, rfl⟩ : ∃ n', fuel = n' + 1 := ⟨fuel - 1, by omega⟩
    refine br_t (nI_le (by omega) (by omega)) (H a (Or.inr ⟨fun j h1 h2 => absurd h1 (by omega), Or.inr ⟨rfl, fun j h1 h2 => absurd h1 (by omega)⟩⟩))
  | succ d ih =>
    intro fuel i a hd hi hfu H
    obtain ⟨fuel, rfl⟩ : ∃ n', fuel = n' + 1 := ⟨fuel - 1, by omega⟩
    have hc : bs + i < 50 := by omega
    have hix := hx i (by omega)
    have hz := fx_tab_z (bs + i) hc
    have hL := fx_tab_l (bs + i) hc
    have hin : vp_in (nI (fs + i)) 50 := vp_in_nI (by omega) (by omega)
    have nx : ∀ a', (∀ r, fx_MX (fx_E bs n v) (fx_Q bs n v) fs (i + 1) cnt a' r → post r) → wX_match_6 post (nI v) (nI n) (nI (fs + cnt)) f_pageWidth f_pageHeight f_limit f_coded f_finished f_used f_untouched f_state f_taken f_rows f_phase f_position f_current f_pending f_pendingBits f_makeUp f_firstRun f_passes f_horizontals f_verticals fx_WB fx_WS a_source a_stream a_decoded fuel a' (nI (fs + i) + 1) := by
      intro a' H'
      rw [nI_1, Nat.add_assoc]
      exact ih fuel (i + 1) a' (by omega) (by omega) (by omega) H'
    refine br_f (nI_ge (by omega) (by omega)) ⟨hin, nm_r (e' := nI (fx_sz (bs + i)) - nI n) (by rw [nI_clamp (by omega), ← hix, fx_tab_s _ hc]) ?_⟩
    by_cases y : fx_sz (bs + i) < n
    · refine br_t (pk_sneg (by omega) y) (nm_e (nx a (fun r hr => H r (fx_MX_n (fun z => ?_) (fun z => ?_) hr))))
      · have := fx_E_sz hc hv z; omega
      · have := (fx_Q_sz hc hv z).1; omega
    · rw [pk_sub (by omega)]
      refine br_f (nI_pos (by omega)) ⟨hin, ?_⟩
      have e1 : ((fx_WB (nI (fs + i)).toNatClampNeg).toUInt32 >>> ((nI (fx_sz (bs + i) - n)).toUInt32 &&& Int32.toUInt32 31)).toInt32 = nI ((fx_YW (bs + i) - 2 ^ fx_sz (bs + i)) / 2 ^ (fx_sz (bs + i) - n)) := by
        have hW : fx_YW (bs + i) < 2 ^ 25 := Nat.lt_of_lt_of_le hL.2 (Nat.pow_le_pow_right (by decide) (by omega))
        rw [nI_clamp (by omega), ← hix, fx_tab_b _ hc]
        exact pk_ushrN (by omega) _ _ (s_u _ (by omega))
      rw [e1]
      have hW : (fx_YW (bs + i) - 2 ^ fx_sz (bs + i)) / 2 ^ (fx_sz (bs + i) - n) < 2 ^ 31 := by
        have hW : fx_YW (bs + i) < 2 ^ 25 := Nat.lt_of_lt_of_le hL.2 (Nat.pow_le_pow_right (by decide) (by omega))
        exact Nat.lt_of_le_of_lt (Nat.div_le_self _ _) (by omega)
      refine ek_if ((nI_eq hW (by omega)).trans (fx_T hL.1 (by omega))) (fun z => ?_) (fun z => ?_)
      · refine pk_eq (fx_sz (bs + i) - n) 0 (fun x => ?_) (fun x => nm_e (nx (-2) (fun r hr => H r (fx_MX_q (by omega) (fun z => ?_) ?_ hr))))
        · refine H _ (Or.inl ⟨i, Nat.le_refl i, by omega, ?_, rfl⟩)
          rw [x, Nat.pow_zero, Nat.div_one] at z
          exact z
        · have := fx_E_sz hc hv z; omega
        · exact ⟨fx_sz (bs + i) - n, by omega, by omega, z⟩
      · refine nm_e (nx a (fun r hr => H r (fx_MX_n (fun x => z ?_) (fun x => z (fx_Q_sz hc hv x).2) hr)))
        have := fx_E_sz hc hv x
        rw [show fx_sz (bs + i) - n = 0 by omega, Nat.pow_zero, Nat.div_one]
        exact x
theorem fx_X_match {post : Int32 → Prop} {p2 p3 : Int32} (e2 : p2 = nI fs) (e3 : p3 = nI (fs + cnt)) (hb : bs + cnt ≤ 50) (hx : ∀ i, i < cnt → fx_ix (bs + i) = fs + i) (hf : fs + cnt ≤ 50) (hn : n ≤ 24) (hv : v < 2 ^ n) (H : ∀ r, fx_MX (fx_E bs n v) (fx_Q bs n v) fs 0 cnt (-1) r → post r) : wpX_match post (f_pageWidth, f_pageHeight, f_limit, f_coded, f_finished, f_used, f_untouched, f_state, f_taken, f_rows, f_phase, f_position, f_current, f_pending, f_pendingBits, f_makeUp, f_firstRun, f_passes, f_horizontals, f_verticals, fx_WB, fx_WS, a_source, a_stream, a_decoded) (nI v) (nI n) p2 p3 := by
  subst e2 e3
  exact ⟨cnt + 1, fx_X_mt hb hx hf hn hv cnt (cnt + 1) 0 (-1) rfl (by omega) (by omega) H⟩
end
/-! the reference's search -/
def fx_M4 (E : Nat → Prop) (i : Nat) (x4 r : Int32) : Prop := (∃ j, i ≤ j ∧ j < 20 ∧ E j ∧ r = nI j) ∨ ((∀ j, i ≤ j → j < 20 → ¬ E j) ∧ r = x4)
def fx_M5 (Q : Nat → Prop) (i : Nat) (x5 r : Int32) : Prop := ((∃ j, i ≤ j ∧ j < 20 ∧ Q j) ∧ r = 1) ∨ ((∀ j, i ≤ j → j < 20 → ¬ Q j) ∧ r = x5)
theorem fx_M4_n {E : Nat → Prop} {i : Nat} {x4 r : Int32} (hE : ¬ E i) (h : fx_M4 E (i + 1) x4 r) : fx_M4 E i x4 r := by
  rcases h with ⟨j, h1, h2⟩ | ⟨h1, h2⟩
  · exact Or.inl ⟨j, by omega, h2⟩
  · exact Or.inr ⟨fx_al h1 hE, h2⟩
theorem fx_M4_e {E : Nat → Prop} {i : Nat} {x4 r : Int32} (hi : i < 20) (hE : E i) (h : fx_M4 E (i + 1) (nI i) r) : fx_M4 E i x4 r := by
  rcases h with ⟨j, h1, h2⟩ | ⟨h1, h2⟩
  · exact Or.inl ⟨j, by omega, h2⟩
  · exact Or.inl ⟨i, Nat.le_refl i, hi, hE, h2⟩
theorem fx_M5_n {Q : Nat → Prop} {i : Nat} {x5 r : Int32} (hE : ¬ Q i) (h : fx_M5 Q (i + 1) x5 r) : fx_M5 Q i x5 r := by
  rcases h with ⟨⟨j, h1, h2⟩, h3⟩ | ⟨h1, h2⟩
  · exact Or.inl ⟨⟨j, by omega, h2⟩, h3⟩
  · exact Or.inr ⟨fx_al h1 hE, h2⟩
theorem fx_M5_q {Q : Nat → Prop} {i : Nat} {x5 r : Int32} (hi : i < 20) (hQ : Q i) (h : fx_M5 Q (i + 1) 1 r) : fx_M5 Q i x5 r := by
  refine Or.inl ⟨⟨i, Nat.le_refl i, hi, hQ⟩, ?_⟩
  rcases h with ⟨_, h3⟩ | ⟨h1, h2⟩
  · exact h3
  · exact h2
theorem fx_M4_1 {E : Nat → Prop} {j : Nat} {x4 r : Int32} (hj : j < 20) (hE : E j) (u : ∀ i, i < 20 → E i → i = j) (h : fx_M4 E 0 x4 r) : r = nI j := by
  rcases h with ⟨i, h1, h2, h3, h4⟩ | ⟨h1, h2⟩
  · rw [h4, u i h2 h3]
  · exact absurd hE (h1 j (by omega) hj)
theorem fx_M4_2 {E : Nat → Prop} {x4 r : Int32} (hE : ∀ i, i < 20 → ¬ E i) (h : fx_M4 E 0 x4 r) : r = x4 := by
  rcases h with ⟨i, h1, h2, h3, h4⟩ | ⟨h1, h2⟩
  · exact absurd h3 (hE i h2)
  · exact h2
theorem fx_M5_1 {Q : Nat → Prop} {j : Nat} {x5 r : Int32} (hj : j < 20) (hQ : Q j) (h : fx_M5 Q 0 x5 r) : r = 1 := by
  rcases h with ⟨_, h4⟩ | ⟨h1, h2⟩
  · exact h4
  · exact absurd hQ (h1 j (by omega) hj)
theorem fx_M5_2 {Q : Nat → Prop} {x5 r : Int32} (hQ : ∀ i, i < 20 → ¬ Q i) (h : fx_M5 Q 0 x5 r) : r = x5 := by
  rcases h with ⟨⟨i, h1, h2, h3⟩, h4⟩ | ⟨h1, h2⟩
  · exact absurd h3 (hQ i h2)
  · exact h2
section
variable {part dot s : Nat → Int32} {x1 x3 x4 x6 : Int32}
theorem fx_Y_cut {post : SY → Prop} {J : Int32 → Int32 → Int32 → Prop} {W rd : Nat} (hW : W < 2 ^ 31) (hr : rd < 2 ^ 31) : ∀ d fuel i x5, d = 25 - i → i ≤ 25 → d < fuel → (∀ r, ((r = 1 ∧ ∃ cut, i ≤ cut ∧ cut ≤ 24 ∧ W / 2 ^ cut = rd) ∨ (r = x5 ∧ ∀ cut, i ≤ cut → cut ≤ 24 → ¬ W / 2 ^ cut = rd)) → J x4 r (x6 + 1)) → wY_take_139 post J x1 (nI rd) x3 x4 x6 (nI W) part dot s fuel x5 (nI i) := by
  intro d
  induction d with
  | zero =>
    intro fuel i x5 hd hi hf H
    obtain ⟨fuel, rfl⟩ : ∃ n', fuel = n' + 1 := ⟨fuel - 1, by omega⟩
    exact br_t (nI_lt (a := 24) (by omega) (by omega)) (nm_e (H x5 (Or.inr ⟨rfl, fun cut h1 h2 => absurd h1 (by omega)⟩)))
  | succ d ih =>
    intro fuel i x5 hd hi hf H
    obtain ⟨fuel, rfl⟩ : ∃ n', fuel = n' + 1 := ⟨fuel - 1, by omega⟩
    refine br_f (nI_nlt (b := i) (a := 24) (by omega) (by decide)) ?_
    rw [fx_shr hW (by omega)]
    refine ek_if (nI_eq (Nat.lt_of_le_of_lt (Nat.div_le_self _ _) hW) hr) (fun z => ?_) (fun z => ?_)
    · refine nm_r (nI_1 i) (ih fuel (i + 1) 1 (by omega) (by omega) (by omega) (fun r hr => H r (Or.inl ⟨?_, i, Nat.le_refl i, by omega, z⟩)))
      rcases hr with ⟨h1, _⟩ | ⟨h1, _⟩ <;> exact h1
    · refine nm_r (nI_1 i) (ih fuel (i + 1) x5 (by omega) (by omega) (by omega) (fun r hr => H r ?_))
      rcases hr with ⟨h1, cut, h2, h3⟩ | ⟨h1, h2⟩
      · exact Or.inl ⟨h1, cut, by omega, h3⟩
      · refine Or.inr ⟨h1, fun cut h3 h4 => ?_⟩
        by_cases y : cut = i
        · subst y; exact z
        · exact h2 cut (by omega) h4
theorem fx_YW_lt : ∀ c, fx_YW c < 2 ^ 25 := by
  intro c
  rcases Nat.lt_or_ge c 50 with h | h
  · have hz := fx_tab_z c h
    exact Nat.lt_of_lt_of_le (fx_tab_l c h).2 (Nat.pow_le_pow_right (by decide) (by omega))
  · rw [fx_tab_0 h]; decide
theorem fx_Y_srch {post : SY → Prop} {bs n v : Nat} (eb : x3 * 20 = nI bs) (hb : bs ≤ 40) (hn : n ≤ 24) (hv : v < 2 ^ n) (H : ∀ x4' x5', fx_M4 (fx_E bs n v) 0 (-1) x4' → fx_M5 (fx_Q bs n v) 0 0 x5' → ((0 ≤ x4' → (wY_take_190 post x3 x4' x5' 13 part dot s)) ∧ (¬ 0 ≤ x4' → (((x5' = 0 → (wY_take_190 post x3 x4' x5' 13 part dot s)) ∧ (¬ x5' = 0 → (wY_take_191 post x3 x4' x5' x1 13 part dot s))))))) : ∀ d fuel i x4 x5, d = 20 - i → i ≤ 20 → d < fuel → (∀ x4' x5', fx_M4 (fx_E bs n v) i x4 x4' → fx_M5 (fx_Q bs n v) i x5 x5' → fx_M4 (fx_E bs n v) 0 (-1) x4' ∧ fx_M5 (fx_Q bs n v) 0 0 x5') → wY_take_110 post x1 (nI (2 ^ n + v)) x3 part dot s fuel x4 x5 (nI i) := by
  have hr : 2 ^ n + v < 2 ^ 31 := by
    have : 2 ^ n ≤ 2 ^ 24 := Nat.pow_le_pow_right (by decide) hn
    omega
  intro d
  induction d with
  | zero =>
    intro fuel i x4 x5 hd hi hf G
    obtain ⟨fuel, rfl⟩ : ∃ n', fuel = n' + 1 := ⟨fuel - 1, by omega⟩
    have g := G x4 x5 (Or.inr ⟨fun j h1 h2 => absurd h1 (by omega), rfl⟩) (Or.inr ⟨fun j h1 h2 => absurd h1 (by omega), rfl⟩)
    exact br_t (nI_le (a := 20) (by omega) (by omega)) (H x4 x5 g.1 g.2)
  | succ d ih =>
    intro fuel i x4 x5 hd hi hf G
    obtain ⟨fuel, rfl⟩ : ∃ n', fuel = n' + 1 := ⟨fuel - 1, by omega⟩
    refine br_f (nI_ge (b := 20) (by omega) (by decide)) ?_
    refine fx_Y_word (c := bs + i) (by rw [eb, nI_add]) (by omega) ?_
    have hW := fx_YW_lt (bs + i)
    have o1 : d = 20 - (i + 1) := by omega
    have o2 : i + 1 ≤ 20 := by omega
    have o3 : d < fuel := by omega
    have o4 : i < 20 := by omega
    refine ek_if (nI_eq (by omega) hr) (fun z => ⟨26, ?_⟩) (fun z => ⟨26, ?_⟩)
    · refine fx_Y_cut (by omega) hr 24 26 1 x5 rfl (by omega) (by omega) (fun r hr => ?_)
      rw [nI_1]
      refine ih fuel (i + 1) (nI i) r o1 o2 o3 (fun x4' x5' h4 h5 => ?_)
      refine G x4' x5' (fx_M4_e o4 z h4) ?_
      rcases hr with ⟨h1, h2⟩ | ⟨h1, h2⟩
      · subst h1; exact fx_M5_q o4 h2 h5
      · subst h1; exact fx_M5_n (fun ⟨cut, a1, a2, a3⟩ => h2 cut a1 a2 a3) h5
    · refine fx_Y_cut (by omega) hr 24 26 1 x5 rfl (by omega) (by omega) (fun r hr => ?_)
      rw [nI_1]
      refine ih fuel (i + 1) x4 r o1 o2 o3 (fun x4' x5' h4 h5 => ?_)
      refine G x4' x5' (fx_M4_n z h4) ?_
      rcases hr with ⟨h1, h2⟩ | ⟨h1, h2⟩
      · subst h1; exact fx_M5_q o4 h2 h5
      · subst h1; exact fx_M5_n (fun ⟨cut, a1, a2, a3⟩ => h2 cut a1 a2 a3) h5
end
/-! bits read from the stream -/
def fx_vl (s : Nat → Int32) (a : Nat) : Nat → Nat
  | 0 => 0
  | n + 1 => 2 * fx_vl s a n + (s (a + n)).toNatClampNeg
theorem fx_01_n {s : Nat → Int32} (h : fx_01 s) (i : Nat) : s i = nI (s i).toNatClampNeg ∧ (s i).toNatClampNeg ≤ 1 := by
  rcases h i with z | z
  · rw [z]; decide
  · rw [z]; decide
theorem fx_vl_lt {s : Nat → Int32} (h : fx_01 s) (a : Nat) : ∀ n, fx_vl s a n < 2 ^ n := by
  intro n
  induction n with
  | zero => exact Nat.one_pos
  | succ n ih =>
    have := (fx_01_n h (a + n)).2
    rw [fx_vl, Nat.pow_succ]; omega
theorem fx_vl_c {s s' : Nat → Int32} {a : Nat} : ∀ n, (∀ i, i < n → s' (a + i) = s (a + i)) → fx_vl s' a n = fx_vl s a n := by
  intro n
  induction n with
  | zero => intro _; rfl
  | succ n ih => intro H; rw [fx_vl, fx_vl, ih (fun i hi => H i (by omega)), H n (by omega)]
theorem fx_shl1 (n : Nat) : nI n <<< ((1 : Int32) &&& 31) = nI (n * 2) := by
  apply Int32.toBitVec_inj.mp
  apply BitVec.eq_of_toNat_eq
  rw [pk_shl _ _ 1 (by decide)]
  show (BitVec.ofNat 32 n).toNat * 2 ^ 1 % 2 ^ 32 = (BitVec.ofNat 32 (n * 2)).toNat
  rw [BitVec.toNat_ofNat, BitVec.toNat_ofNat]
  omega
theorem fx_nor (a b : Nat) : nI a ||| nI b = nI (a ||| b) := by
  apply Int32.toBitVec_inj.1
  show BitVec.ofNat 32 a ||| BitVec.ofNat 32 b = BitVec.ofNat 32 (a ||| b)
  apply BitVec.eq_of_getLsbD_eq
  intro i hi
  simp [hi]
theorem fx_or1 {m b : Nat} (hb : b ≤ 1) : m * 2 ||| b = m * 2 + b := by
  have h := Nat.shiftLeft_add_eq_or_of_lt (i := 1) (b := b) (by omega) m
  rw [Nat.shiftLeft_eq, Nat.pow_one] at h
  exact h.symm
theorem fx_sh_or {n b : Nat} (hb : b ≤ 1) : (nI n <<< ((1 : Int32) &&& 31)) ||| nI b = nI (2 * n + b) := by
  rw [fx_shl1, fx_nor, fx_or1 hb, Nat.mul_comm]
theorem fx_dbl (n b : Nat) : (nI n * 2) + nI b = nI (2 * n + b) := by
  show (nI n * nI 2) + nI b = _
  rw [pk_mul, nI_add, Nat.mul_comm]
end
section
/-! the decoder's words: carryMode and modeWord, carryRun and runWord, each as one outcome for both sides -/
def fx_DD (w h ro : Nat) (ph : Int32) (q m fr : Nat) (src dec : Nat → Int64) (dot : Nat → Int32) : Prop :=
  ro ≤ h ∧ (ph = 0 ∨ ((ph = 1 ∨ ph = 2) ∧ ro < h)) ∧ q ≤ w + 1 ∧ (q = w + 1 → ro < h ∧ ph = 0) ∧ m ≤ 64 ∧ fr ≤ 64 ∧ fx_PD w 1 dec dot ∧ fx_PD w 0 src dot ∧ (∀ r, ro < r → r < 8 → dec r = 0)
section
variable {f_pageWidth f_pageHeight f_limit f_coded f_finished f_used f_untouched f_state f_taken f_rows f_phase f_position f_current f_pending f_pendingBits f_makeUp f_firstRun f_passes f_horizontals f_verticals : Int32} {a_wordBits a_wordSize a_stream : Nat → Int32} {a_source a_decoded : Nat → Int64}
variable {ro q : Nat}
theorem fx_X_upper {post : Int64 → Prop} (hr : ro ≤ 8) (hp : post (fx_up a_decoded ro)) : wpX_upperRow post (f_pageWidth, f_pageHeight, f_limit, f_coded, f_finished, f_used, f_untouched, f_state, f_taken, (nI ro), f_phase, f_position, f_current, f_pending, f_pendingBits, f_makeUp, f_firstRun, f_passes, f_horizontals, f_verticals, a_wordBits, a_wordSize, a_source, a_stream, a_decoded) := by
  cases ro with
  | zero => exact br_t (by decide) hp
  | succ r =>
    refine br_f (nI_nlt (b := 1) (by omega) (by omega)) (br_t (nI_le (b := 8) hr (by decide)) ?_)
    rw [nI_pred, nI_clamp (by omega)]
    exact ⟨vp_in_nI (by omega) (by omega), hp⟩
theorem fx_X_start {post : Int32 → Prop} (hq : q < 2 ^ 31) (hp : post (nI (q - 1))) : wpX_startColumn post (f_pageWidth, f_pageHeight, f_limit, f_coded, f_finished, f_used, f_untouched, f_state, f_taken, f_rows, f_phase, (fx_m q), f_current, f_pending, f_pendingBits, f_makeUp, f_firstRun, f_passes, f_horizontals, f_verticals, a_wordBits, a_wordSize, a_source, a_stream, a_decoded) := by
  refine ek_if (fx_m_nn hq) (fun z => ?_) (fun z => ?_)
  · rw [fx_m_p z]; exact hp
  · rw [show q - 1 = 0 by omega] at hp; exact hp
end
theorem fx_D9 : ∀ j, j < 20 → (nI j = 9 ↔ j = 9) := by decide
theorem fx_D0 : ∀ j, j < 20 → (nI j = 0 ↔ j = 0) := by decide
theorem fx_D1 : ∀ j, j < 20 → (nI j = 1 ↔ j = 1) := by decide
theorem fx_i5 : (5 : Int32) = nI 5 := by decide
theorem fx_eX (b j : Nat) : nI b + (nI j - 5) = nI (b + j) - nI 5 := by
  rw [Int32.sub_eq_add_neg, ← Int32.add_assoc, nI_add, ← Int32.sub_eq_add_neg, fx_i5]
theorem fx_eY (b j : Nat) : (nI b + nI j) - 5 = nI (b + j) - nI 5 := by
  rw [nI_add, fx_i5]
theorem fx_ve {b j q : Nat} (h1 : b + j < 2 ^ 30) (h2 : q < 2 ^ 31) : nI (b + j) - nI 5 ≤ fx_m q ↔ b + j < q + 5 := by
  rw [Int32.le_iff_toInt_le, pk_sub_toInt h1 (by decide), fx_m_i h2]; omega
theorem fx_DD_fill {w h ro q m fr a b : Nat} {ph : Int32} {k : Bool} {src dec : Nat → Int64} {dot : Nat → Int32} {ph' : Int32} {q' m' fr' : Nat} (hw : w ≤ 64) (hh : h ≤ 8) (D : fx_DD w h ro ph q m fr src dec dot) (hr : ro < h) (ha : a ≤ 64) (hb : b ≤ w) (h1 : ph' = 0 ∨ ((ph' = 1 ∨ ph' = 2) ∧ ro < h)) (h2 : q' ≤ w + 1) (h5 : q' = w + 1 → ph' = 0) (h3 : m' ≤ 64) (h4 : fr' ≤ 64) : fx_DD w h ro ph' q' m' fr' src (vp_updL dec ro (fx_fw (dec ro) a b k)) (fx_fl dot (1 * 512 + ro * 64 + a) (1 * 512 + ro * 64 + b) (fx_b k)) := by
  obtain ⟨d1, d2, d3, d4, d5, d6, d7, d8, d9⟩ := D
  refine ⟨d1, h1, h2, fun v => ⟨hr, h5 v⟩, h3, h4, fx_PD_fill d7 (by omega) hw ha hb, fx_PD_fillo d8 (by decide) (by decide) (by decide) (by omega) hw hb, fun r g1 g2 => ?_⟩
  rw [pk_uLn (by omega)]; exact d9 r g1 g2
section
variable {w h l cd us t ro q pn pb m fr : Nat} {k : Bool} {fin unt st ph pas hor ver : Int32} {s dot : Nat → Int32} {src dec : Nat → Int64}
variable {j : Nat}
theorem fx_Y_mode {post : Int32 → SY → Prop} {j : Int32} (hq : q < 2 ^ 31) (H : wY_modeWord_35 post j (nI ro) (fx_m q) (fx_b k) (nI (q - 1)) (fx_pt (nI w) (nI h) (nI l) (nI us) (nI cd) fin unt st (nI t) (nI ro) ph (fx_m q) (fx_b k) (nI pn) (nI m) (nI fr) pas hor ver) dot s) : wpY_modeWord post ((fx_pt (nI w) (nI h) (nI l) (nI us) (nI cd) fin unt st (nI t) (nI ro) ph (fx_m q) (fx_b k) (nI pn) (nI m) (nI fr) pas hor ver), dot, s) j := by
  refine nm_r (e' := nI ro) rfl (nm_r (e' := fx_m q) rfl (nm_r (e' := fx_b k) rfl ?_))
  refine ek_if (fx_m_m1 hq) (fun z => ?_) (fun z => ?_)
  · rw [show q - 1 = 0 by omega] at H; exact H
  · rw [← fx_m_p (by omega)] at H; exact H
theorem fx_mode (hw : w ≤ 64) (hh : h ≤ 8) (D : fx_DD w h ro 0 q m fr src dec dot) (hq : q ≤ w) (hj : j < 10) :
    ∃ (st' ph' : Int32) (q' : Nat) (k' : Bool) (pas' ver' : Int32) (dec' : Nat → Int64) (dot' : Nat → Int32), fx_DD w h ro ph' q' m fr src dec' dot' ∧
    (∀ post, post ((nI w), (nI h), (nI l), (nI cd), fin, (nI us), unt, st', (nI t), (nI ro), ph', (fx_m q'), (fx_b k'), (nI 0), (nI 0), (nI m), (nI fr), pas', hor, ver', fx_WB, fx_WS, src, s, dec') → wpX_carryMode post ((nI w), (nI h), (nI l), (nI cd), fin, (nI us), unt, 0, (nI t), (nI ro), 0, (fx_m q), (fx_b k), (nI 0), (nI 0), (nI m), (nI fr), pas, hor, ver, fx_WB, fx_WS, src, s, dec) (nI j)) ∧
    (∀ post, post st' ((fx_pt (nI w) (nI h) (nI l) (nI us) (nI cd) fin unt 0 (nI t) (nI ro) ph' (fx_m q') (fx_b k') (nI 0) (nI m) (nI fr) pas' hor ver'), dot', s) → wpY_modeWord post ((fx_pt (nI w) (nI h) (nI l) (nI us) (nI cd) fin unt 0 (nI t) (nI ro) 0 (fx_m q) (fx_b k) (nI 0) (nI m) (nI fr) pas hor ver), dot, s) (nI j)) := by
  have D' := D
  obtain ⟨d1, d2, d3, d4, d5, d6, d7, d8, d9⟩ := D'
  have i9 := fx_D9 j (by omega)
  have i0 := fx_D0 j (by omega)
  have i1 := fx_D1 j (by omega)
  by_cases z9 : j = 9
  · by_cases zq : q = 0
    · refine ⟨1, 0, q, k, pas, ver, dec, dot, D, fun post hp => ?_, fun post hp => ?_⟩
      · exact br_t (i9.mpr z9) (br_t ((fx_m_m1 (by omega)).mpr zq) hp)
      · exact fx_Y_mode (by omega) (br_t (i9.mpr z9) (br_t ((fx_m_m1 (by omega)).mpr zq) hp))
    · have zq' : ¬ fx_m q = -1 := by rw [fx_m_m1 (by omega)]; exact zq
      refine ⟨3, 0, q, k, pas, ver, dec, dot, D, fun post hp => ?_, fun post hp => ?_⟩
      · exact br_t (i9.mpr z9) (br_f zq' hp)
      · exact fx_Y_mode (by omega) (br_t (i9.mpr z9) (br_f zq' hp))
  · have z9' : ¬ nI j = 9 := fun z => z9 (i9.mp z)
    by_cases zr : ro < h
    · have zr' : ¬ nI ro = nI h := by rw [nI_eq (by omega) (by omega)]; omega
      have R2 : fx_Row ((fx_pt (nI w) (nI h) (nI l) (nI us) (nI cd) fin unt 0 (nI t) (nI ro) 0 (fx_m q) (fx_b k) (nI 0) (nI m) (nI fr) pas hor ver), dot, s) 1 (nI ro - 1) (fx_t (fx_up dec ro)) w := fx_row_up (p := 1) rfl rfl hw hh (by decide) (by omega) d7
      obtain ⟨b1, eb1⟩ : ∃ x, fx_cw (fx_t (fx_up dec ro)) k w q = x := ⟨_, rfl⟩
      obtain ⟨b2, eb2⟩ : ∃ x, fx_nw (fx_t (fx_up dec ro)) k w (b1 + 1) = x := ⟨_, rfl⟩
      have l3 : b1 ≤ w := eb1 ▸ fx_cw_le _ _ _ _
      have g3 : q ≤ b1 := eb1 ▸ fx_cw_ge _ _ hq
      have l4 : b2 ≤ w := eb2 ▸ fx_nw_le _ _ _ _
      by_cases z0 : j = 0
      · by_cases zw : b2 = w
        · refine ⟨5, 0, q, k, pas, ver, dec, dot, D, fun post hp => ?_, fun post hp => ?_⟩
          · refine br_f z9' (br_t (nI_lt zr (by omega)) (br_t (i0.mpr z0) ?_))
            unfold wpX_carryPass
            refine fx_X_upper (by omega) ?_
            refine fx_X_find hw hq ?_
            rw [eb1]
            refine fx_X_next (q := b1 + 1) (k := k) hw (by omega) (fx_m_s b1).symm rfl ?_
            rw [eb2]
            exact br_t (by rw [zw]) hp
          · refine fx_Y_mode (by omega) (br_f z9' (br_f zr' ?_))
            refine fx_Y_change (q := q) (k := k) R2 rfl hw (by omega) rfl rfl ?_
            rw [eb1]
            refine br_t (i0.mpr z0) ?_
            refine fx_Y_first (q := b1 + 1) (k := k) R2 rfl hw (by omega) (fx_m_s b1).symm rfl ?_
            rw [eb2]
            exact br_t (by rw [zw]; rfl) hp
        · have zw' : ¬ nI b2 = nI w := by rw [nI_eq (by omega) (by omega)]; exact zw
          have g4 : b1 + 1 ≤ b2 := by
            rcases Nat.lt_or_ge b1 w with v | v
            · have := fx_nw_ge (fx_t (fx_up dec ro)) k (show b1 + 1 ≤ w from v); omega
            · have : b2 = w := by rw [← eb2]; unfold fx_nw; rw [show w - (b1 + 1) = 0 by omega]; rfl
              omega
          refine ⟨0, 0, b2 + 1, k, pas + 1, ver, _, _, fx_DD_fill (a := q - 1) (b := b2) (k := k) hw hh D zr (by omega) (by omega) (Or.inl rfl) (by omega) (fun _ => rfl) (by omega) (by omega), fun post hp => ?_, fun post hp => ?_⟩
          · rw [fx_m_s] at hp
            refine br_f z9' (br_t (nI_lt zr (by omega)) (br_t (i0.mpr z0) ?_))
            unfold wpX_carryPass
            refine fx_X_upper (by omega) ?_
            refine fx_X_find hw hq ?_
            rw [eb1]
            refine fx_X_next (q := b1 + 1) (k := k) hw (by omega) (fx_m_s b1).symm rfl ?_
            rw [eb2]
            refine br_f zw' ?_
            refine fx_X_start (by omega) ?_
            refine fx_X_fill (a := q - 1) (b := b2) (k := k) hh zr (by omega) (by omega) rfl rfl rfl ?_
            exact nm_e hp
          · rw [fx_m_s] at hp
            refine fx_Y_mode (by omega) (br_f z9' (br_f zr' ?_))
            refine fx_Y_change (q := q) (k := k) R2 rfl hw (by omega) rfl rfl ?_
            rw [eb1]
            refine br_t (i0.mpr z0) ?_
            refine fx_Y_first (q := b1 + 1) (k := k) R2 rfl hw (by omega) (fx_m_s b1).symm rfl ?_
            rw [eb2]
            refine br_f zw' ?_
            refine fx_Y_fill (p := 1) (r := ro) (a := q - 1) (b := b2) rfl rfl hw hh (by decide) zr (by omega) (by omega) rfl rfl rfl rfl ?_
            exact nm_r fx_pt_u11 (nm_r fx_pt_u16 hp)
      · have z0' : ¬ nI j = 0 := fun z => z0 (i0.mp z)
        by_cases z1 : j = 1
        · refine ⟨0, 1, q, k, pas, ver, dec, dot, ⟨d1, Or.inr ⟨Or.inl rfl, zr⟩, d3, fun v => absurd v (by omega), d5, d6, d7, d8, d9⟩, fun post hp => ?_, fun post hp => ?_⟩
          · exact br_f z9' (br_t (nI_lt zr (by omega)) (br_f z0' (br_t (i1.mpr z1) hp)))
          · refine fx_Y_mode (by omega) (br_f z9' (br_f zr' ?_))
            refine fx_Y_change (q := q) (k := k) R2 rfl hw (by omega) rfl rfl ?_
            exact br_f z0' (br_t (i1.mpr z1) (nm_r fx_pt_u10 hp))
        · have z1' : ¬ nI j = 1 := fun z => z1 (i1.mp z)
          have hve := fx_ve (b := b1) (j := j) (q := q) (by omega) (by omega)
          by_cases ze : b1 + j < q + 5 ∨ w + 5 < b1 + j
          · refine ⟨6, 0, q, k, pas, ver, dec, dot, D, fun post hp => ?_, fun post hp => ?_⟩
            · refine br_f z9' (br_t (nI_lt zr (by omega)) (br_f z0' (br_f z1' ?_)))
              unfold wpX_carryVertical
              refine fx_X_upper (by omega) ?_
              refine fx_X_find hw hq ?_
              rw [eb1]
              refine nm_r (fx_eX b1 j) ?_
              refine ek_if hve (fun _ => hp) (fun y => ?_)
              rw [pk_sub (by omega)]
              exact br_f (nI_ge (by omega) (by omega)) hp
            · refine fx_Y_mode (by omega) (br_f z9' (br_f zr' ?_))
              refine fx_Y_change (q := q) (k := k) R2 rfl hw (by omega) rfl rfl ?_
              rw [eb1]
              refine br_f z0' (br_f z1' (nm_r (fx_eY b1 j) ?_))
              refine ek_if hve (fun _ => hp) (fun y => ?_)
              rw [pk_sub (by omega)]
              exact br_f (nI_ge (a := w) (by omega) (by omega)) hp
          · have ze' : ¬ (nI (b1 + j) - nI 5 ≤ fx_m q) := by rw [hve]; omega
            refine ⟨0, 0, b1 + j - 5 + 1, !k, pas, ver + 1, _, _, fx_DD_fill (a := q - 1) (b := b1 + j - 5) (k := k) hw hh D zr (by omega) (by omega) (Or.inl rfl) (by omega) (fun _ => rfl) (by omega) (by omega), fun post hp => ?_, fun post hp => ?_⟩
            · rw [fx_m_s, ← fx_b_not] at hp
              refine br_f z9' (br_t (nI_lt zr (by omega)) (br_f z0' (br_f z1' ?_)))
              unfold wpX_carryVertical
              refine fx_X_upper (by omega) ?_
              refine fx_X_find hw hq ?_
              rw [eb1]
              refine nm_r (fx_eX b1 j) (br_f ze' ?_)
              rw [pk_sub (by omega)]
              refine br_t (nI_le (by omega) (by omega)) ?_
              refine fx_X_start (by omega) ?_
              refine fx_X_fill (a := q - 1) (b := b1 + j - 5) (k := k) hh zr (by omega) (by omega) rfl rfl rfl ?_
              exact nm_e (nm_e hp)
            · rw [fx_m_s, ← fx_b_not] at hp
              refine fx_Y_mode (by omega) (br_f z9' (br_f zr' ?_))
              refine fx_Y_change (q := q) (k := k) R2 rfl hw (by omega) rfl rfl ?_
              rw [eb1]
              refine br_f z0' (br_f z1' (nm_r (fx_eY b1 j) (br_f ze' ?_)))
              rw [pk_sub (by omega)]
              refine br_t (nI_le (b := w) (by omega) (by omega)) ?_
              refine fx_Y_fill (p := 1) (r := ro) (a := q - 1) (b := b1 + j - 5) rfl rfl hw hh (by decide) zr (by omega) (by omega) rfl rfl rfl rfl ?_
              exact nm_r fx_pt_u11 (nm_r fx_pt_u12 (nm_r fx_pt_u18 hp))
    · have er : ro = h := by omega
      refine ⟨4, 0, q, k, pas, ver, dec, dot, D, fun post hp => ?_, fun post hp => ?_⟩
      · exact br_f z9' (br_f (nI_nlt (by omega) (by omega)) hp)
      · exact fx_Y_mode (by omega) (br_f z9' (br_t (congrArg nI er) hp))
theorem fx_Y_runw {post : Int32 → SY → Prop} {j : Int32} (hq : q < 2 ^ 31) (H : wY_runWord_30 post j (fx_b k) (nI (q - 1)) (fx_pt (nI w) (nI h) (nI l) (nI us) (nI cd) fin unt st (nI t) (nI ro) ph (fx_m q) (fx_b k) (nI pn) (nI m) (nI fr) pas hor ver) dot s) : wpY_runWord post ((fx_pt (nI w) (nI h) (nI l) (nI us) (nI cd) fin unt st (nI t) (nI ro) ph (fx_m q) (fx_b k) (nI pn) (nI m) (nI fr) pas hor ver), dot, s) j := by
  refine nm_r (e' := fx_b k) rfl ?_
  refine ek_if (fx_m_m1 hq) (fun z => ?_) (fun z => ?_)
  · rw [show q - 1 = 0 by omega] at H; exact H
  · rw [← fx_m_p (by omega)] at H; exact H
theorem fx_mu {j : Nat} (h : 16 ≤ j) : (nI j - 15) * 16 = nI ((j - 15) * 16) := by
  show (nI j - nI 15) * nI 16 = _
  rw [pk_sub (by omega), pk_mul]
theorem fx_z0 {n : Nat} (h : n < 2 ^ 31) : nI n = 0 ↔ n = 0 := nI_eq (b := 0) h (by decide)
theorem fx_X_first_f {post : SX → Prop} {n : Nat} (hw : w ≤ 64) (hq : q ≤ w) (hn : n ≤ 200) (hf : (n = 0 ∧ 0 < q) ∨ w < q - 1 + n) (hp : post ((nI w), (nI h), (nI l), (nI cd), fin, (nI us), unt, 7, (nI t), (nI ro), ph, (fx_m q), (fx_b k), (nI 0), (nI 0), (nI m), (nI fr), pas, hor, ver, fx_WB, fx_WS, src, s, dec)) : wpX_carryFirst post ((nI w), (nI h), (nI l), (nI cd), fin, (nI us), unt, st, (nI t), (nI ro), ph, (fx_m q), (fx_b k), (nI pn), (nI pb), (nI m), (nI fr), pas, hor, ver, fx_WB, fx_WS, src, s, dec) (nI n) := by
  unfold wpX_carryFirst
  refine fx_X_start (by omega) ?_
  have k16 : w < q - 1 + n → wX_carryFirst_16 post (nI n) (nI (q - 1)) (nI w) (nI h) (nI l) (nI cd) fin (nI us) unt st (nI t) (nI ro) ph (fx_m q) (fx_b k) (nI pn) (nI pb) (nI m) (nI fr) pas hor ver fx_WB fx_WS src s dec := by
    intro y
    unfold wX_carryFirst_16
    rw [nI_add]
    exact br_f (nI_ge (by omega) (by omega)) hp
  refine ek_if (fx_z0 (by omega)) (fun y => ?_) (fun y => ?_)
  · exact ek_if (fx_m_nn (by omega)) (fun v => hp) (fun v => k16 (by omega))
  · exact k16 (by omega)
theorem fx_X_first_s {post : SX → Prop} {n : Nat} (hw : w ≤ 64) (hq : q ≤ w) (hn : n ≤ 200) (hf : ¬ (n = 0 ∧ 0 < q) ∧ q - 1 + n ≤ w) (hp : post ((nI w), (nI h), (nI l), (nI cd), fin, (nI us), unt, st, (nI t), (nI ro), 2, (fx_m q), (fx_b k), (nI pn), (nI pb), (nI 0), (nI n), pas, hor, ver, fx_WB, fx_WS, src, s, dec)) : wpX_carryFirst post ((nI w), (nI h), (nI l), (nI cd), fin, (nI us), unt, st, (nI t), (nI ro), ph, (fx_m q), (fx_b k), (nI pn), (nI pb), (nI m), (nI fr), pas, hor, ver, fx_WB, fx_WS, src, s, dec) (nI n) := by
  unfold wpX_carryFirst
  refine fx_X_start (by omega) ?_
  have k16 : wX_carryFirst_16 post (nI n) (nI (q - 1)) (nI w) (nI h) (nI l) (nI cd) fin (nI us) unt st (nI t) (nI ro) ph (fx_m q) (fx_b k) (nI pn) (nI pb) (nI m) (nI fr) pas hor ver fx_WB fx_WS src s dec := by
    unfold wX_carryFirst_16
    rw [nI_add]
    exact br_t (nI_le hf.2 (by omega)) hp
  refine ek_if (fx_z0 (by omega)) (fun y => ?_) (fun y => k16)
  exact br_f (by rw [fx_m_nn (by omega)]; omega) k16
theorem fx_X_second_f {post : SX → Prop} {n e : Nat} (hw : w ≤ 64) (hq : q ≤ w) (hn : n ≤ 200) (hr : fr ≤ 64) (ee : q - 1 + fr = e) (hf : (n = 0 ∧ e < w) ∨ w < e + n) (hp : post ((nI w), (nI h), (nI l), (nI cd), fin, (nI us), unt, 7, (nI t), (nI ro), ph, (fx_m q), (fx_b k), (nI 0), (nI 0), (nI m), (nI fr), pas, hor, ver, fx_WB, fx_WS, src, s, dec)) : wpX_carrySecond post ((nI w), (nI h), (nI l), (nI cd), fin, (nI us), unt, st, (nI t), (nI ro), ph, (fx_m q), (fx_b k), (nI pn), (nI pb), (nI m), (nI fr), pas, hor, ver, fx_WB, fx_WS, src, s, dec) (nI n) := by
  unfold wpX_carrySecond
  refine fx_X_start (by omega) (nm_r (e' := nI e) (by rw [nI_add, ee]) ?_)
  have k16 : w < e + n → wX_carrySecond_24 post (nI n) (nI (q - 1)) (nI e) (nI w) (nI h) (nI l) (nI cd) fin (nI us) unt st (nI t) (nI ro) ph (fx_m q) (fx_b k) (nI pn) (nI pb) (nI m) (nI fr) pas hor ver fx_WB fx_WS src s dec := by
    intro y
    unfold wX_carrySecond_24
    rw [nI_add]
    exact br_f (nI_ge (by omega) (by omega)) hp
  refine ek_if (fx_z0 (by omega)) (fun y => ?_) (fun y => ?_)
  · exact ek_if (nI_ltI (by omega) (by omega)) (fun v => hp) (fun v => k16 (by omega))
  · exact k16 (by omega)
theorem fx_X_second_s {post : SX → Prop} {n e : Nat} (hw : w ≤ 64) (hh : h ≤ 8) (zr : ro < h) (hq : q ≤ w) (hn : n ≤ 200) (hr : fr ≤ 64) (ee : q - 1 + fr = e) (hf : ¬ (n = 0 ∧ e < w) ∧ e + n ≤ w) (hp : post ((nI w), (nI h), (nI l), (nI cd), fin, (nI us), unt, st, (nI t), (nI ro), 0, (nI (e + n)), (fx_b k), (nI pn), (nI pb), (nI 0), (nI 0), pas, (hor + 1), ver, fx_WB, fx_WS, src, s, (vp_updL (vp_updL dec ro (fx_fw (dec ro) (q - 1) e k)) ro (fx_fw ((vp_updL dec ro (fx_fw (dec ro) (q - 1) e k)) ro) e (e + n) (!k))))) : wpX_carrySecond post ((nI w), (nI h), (nI l), (nI cd), fin, (nI us), unt, st, (nI t), (nI ro), ph, (fx_m q), (fx_b k), (nI pn), (nI pb), (nI m), (nI fr), pas, hor, ver, fx_WB, fx_WS, src, s, dec) (nI n) := by
  unfold wpX_carrySecond
  refine fx_X_start (by omega) (nm_r (e' := nI e) (by rw [nI_add, ee]) ?_)
  have k16 : wX_carrySecond_24 post (nI n) (nI (q - 1)) (nI e) (nI w) (nI h) (nI l) (nI cd) fin (nI us) unt st (nI t) (nI ro) ph (fx_m q) (fx_b k) (nI pn) (nI pb) (nI m) (nI fr) pas hor ver fx_WB fx_WS src s dec := by
    unfold wX_carrySecond_24
    rw [nI_add]
    refine br_t (nI_le hf.2 (by omega)) ?_
    refine fx_X_fill (a := q - 1) (b := e) (k := k) hh zr (by omega) (by omega) rfl rfl rfl ?_
    refine fx_X_fill (a := e) (b := e + n) (k := !k) hh zr (by omega) (by omega) rfl rfl (fx_b_not k) ?_
    exact nm_e (nm_e hp)
  refine ek_if (fx_z0 (by omega)) (fun y => ?_) (fun y => k16)
  exact br_f (nI_nlt (by omega) (by omega)) k16
theorem fx_run (hw : w ≤ 64) (hh : h ≤ 8) (D : fx_DD w h ro ph q m fr src dec dot) (hph : ph = 1 ∨ ph = 2) (zr : ro < h) (hq : q ≤ w) (hj : j < 20) :
    ∃ (st' ph' : Int32) (q' m' fr' : Nat) (hor' : Int32) (dec' : Nat → Int64) (dot' : Nat → Int32), fx_DD w h ro ph' q' m' fr' src dec' dot' ∧
    (∀ post, post ((nI w), (nI h), (nI l), (nI cd), fin, (nI us), unt, st', (nI t), (nI ro), ph', (fx_m q'), (fx_b k), (nI 0), (nI 0), (nI m'), (nI fr'), pas, hor', ver, fx_WB, fx_WS, src, s, dec') → wpX_carryRun post ((nI w), (nI h), (nI l), (nI cd), fin, (nI us), unt, 0, (nI t), (nI ro), ph, (fx_m q), (fx_b k), (nI 0), (nI 0), (nI m), (nI fr), pas, hor, ver, fx_WB, fx_WS, src, s, dec) (nI j)) ∧
    (∀ post, post st' ((fx_pt (nI w) (nI h) (nI l) (nI us) (nI cd) fin unt 0 (nI t) (nI ro) ph' (fx_m q') (fx_b k) (nI 0) (nI m') (nI fr') pas hor' ver), dot', s) → wpY_runWord post ((fx_pt (nI w) (nI h) (nI l) (nI us) (nI cd) fin unt 0 (nI t) (nI ro) ph (fx_m q) (fx_b k) (nI 0) (nI m) (nI fr) pas hor ver), dot, s) (nI j)) := by
  have D' := D
  obtain ⟨d1, d2, d3, d4, d5, d6, d7, d8, d9⟩ := D'
  by_cases z16 : j < 16
  · have c16 : nI j < 16 := nI_lt (b := 16) z16 (by decide)
    obtain ⟨n, en⟩ : ∃ n, m + j = n := ⟨_, rfl⟩
    have en' : nI m + nI j = nI n := by rw [nI_add, en]
    have hz := fx_z0 (n := n) (by omega)
    rcases hph with hph | hph
    · subst hph
      have hf : ((n = 0 ∧ 0 < q) ∨ w < q - 1 + n) ∨ (¬ (n = 0 ∧ 0 < q) ∧ q - 1 + n ≤ w) := by omega
      rcases hf with hf | hf
      · refine ⟨7, 1, q, m, fr, hor, dec, dot, D, fun post hp => ?_, fun post hp => ?_⟩
        · refine br_t c16 (br_t rfl ?_)
          rw [en']
          exact fx_X_first_f hw hq (by omega) hf hp
        · refine fx_Y_runw (by omega) (br_t c16 (nm_r en' (br_t rfl ?_)))
          have k16 : w < q - 1 + n → wY_runWord_106 post (nI (q - 1)) (nI n) (fx_pt (nI w) (nI h) (nI l) (nI us) (nI cd) fin unt 0 (nI t) (nI ro) 1 (fx_m q) (fx_b k) (nI 0) (nI m) (nI fr) pas hor ver) dot s := by
            intro y
            unfold wY_runWord_106
            rw [nI_add]
            exact br_f (nI_ge (a := w) (by omega) (by omega)) hp
          refine ek_if hz (fun y => ?_) (fun y => ?_)
          · refine ek_if (fx_m_neg (by omega)) (fun v => k16 (by omega)) (fun v => hp)
          · exact k16 (by omega)
      · refine ⟨0, 2, q, 0, n, hor, dec, dot, ⟨d1, Or.inr ⟨Or.inr rfl, zr⟩, d3, fun v => absurd v (by omega), by omega, by omega, d7, d8, d9⟩, fun post hp => ?_, fun post hp => ?_⟩
        · refine br_t c16 (br_t rfl ?_)
          rw [en']
          exact fx_X_first_s hw hq (by omega) hf hp
        · refine fx_Y_runw (by omega) (br_t c16 (nm_r en' (br_t rfl ?_)))
          have k16 : wY_runWord_106 post (nI (q - 1)) (nI n) (fx_pt (nI w) (nI h) (nI l) (nI us) (nI cd) fin unt 0 (nI t) (nI ro) 1 (fx_m q) (fx_b k) (nI 0) (nI m) (nI fr) pas hor ver) dot s := by
            unfold wY_runWord_106
            rw [nI_add]
            exact br_t (nI_le (b := w) hf.2 (by omega)) (nm_r fx_pt_u15 (nm_r fx_pt_u10 (nm_r fx_pt_u14 hp)))
          refine ek_if hz (fun y => ?_) (fun y => k16)
          exact br_t ((fx_m_neg (by omega)).mpr (by omega)) k16
    · subst hph
      obtain ⟨e, ee⟩ : ∃ e, q - 1 + fr = e := ⟨_, rfl⟩
      have ee' : nI (q - 1) + nI fr = nI e := by rw [nI_add, ee]
      have hf : ((n = 0 ∧ e < w) ∨ w < e + n) ∨ (¬ (n = 0 ∧ e < w) ∧ e + n ≤ w) := by omega
      rcases hf with hf | hf
      · refine ⟨7, 2, q, m, fr, hor, dec, dot, D, fun post hp => ?_, fun post hp => ?_⟩
        · refine br_t c16 (br_f (by decide) ?_)
          rw [en']
          exact fx_X_second_f hw hq (by omega) d6 ee hf hp
        · refine fx_Y_runw (by omega) (br_t c16 (nm_r en' (br_f (by decide : ¬ (2 : Int32) = 1) (nm_r ee' ?_))))
          have k16 : w < e + n → wY_runWord_172 post (fx_b k) (nI (q - 1)) (nI n) (nI e) (fx_pt (nI w) (nI h) (nI l) (nI us) (nI cd) fin unt 0 (nI t) (nI ro) 2 (fx_m q) (fx_b k) (nI 0) (nI m) (nI fr) pas hor ver) dot s := by
            intro y
            unfold wY_runWord_172
            rw [nI_add]
            exact br_f (nI_ge (a := w) (by omega) (by omega)) hp
          refine ek_if hz (fun y => ?_) (fun y => ?_)
          · refine ek_if (nI_leI (a := w) (by omega) (by omega)) (fun v => k16 (by omega)) (fun v => hp)
          · exact k16 (by omega)
      · have D1 := fx_DD_fill (a := q - 1) (b := e) (k := k) (ph' := 2) (q' := q) (m' := m) (fr' := fr) hw hh D zr (by omega) (by omega) (Or.inr ⟨Or.inr rfl, zr⟩) (by omega) (fun v => absurd v (by omega)) (by omega) (by omega)
        have D2 := fx_DD_fill (a := e) (b := e + n) (k := !k) (ph' := 0) (q' := e + n + 1) (m' := 0) (fr' := 0) hw hh D1 zr (by omega) (by omega) (Or.inl rfl) (by omega) (fun _ => rfl) (by omega) (by omega)
        refine ⟨0, 0, e + n + 1, 0, 0, hor + 1, _, _, D2, fun post hp => ?_, fun post hp => ?_⟩
        · rw [fx_m_s] at hp
          refine br_t c16 (br_f (by decide) ?_)
          rw [en']
          exact fx_X_second_s hw hh zr hq (by omega) d6 ee hf hp
        · rw [fx_m_s] at hp
          refine fx_Y_runw (by omega) (br_t c16 (nm_r en' (br_f (by decide : ¬ (2 : Int32) = 1) (nm_r ee' ?_))))
          have k16 : wY_runWord_172 post (fx_b k) (nI (q - 1)) (nI n) (nI e) (fx_pt (nI w) (nI h) (nI l) (nI us) (nI cd) fin unt 0 (nI t) (nI ro) 2 (fx_m q) (fx_b k) (nI 0) (nI m) (nI fr) pas hor ver) dot s := by
            unfold wY_runWord_172
            rw [nI_add]
            refine br_t (nI_le (b := w) hf.2 (by omega)) ?_
            refine fx_Y_fill (p := 1) (r := ro) (a := q - 1) (b := e) rfl rfl hw hh (by decide) zr (by omega) (by omega) rfl rfl rfl rfl ?_
            rw [fx_b_not]
            refine fx_Y_fill (p := 1) (r := ro) (a := e) (b := e + n) rfl rfl hw hh (by decide) zr (by omega) (by omega) rfl rfl rfl rfl ?_
            exact nm_r fx_pt_u11 (nm_r fx_pt_u15 (nm_r fx_pt_u10 (nm_r fx_pt_u17 (nm_r fx_pt_u14 hp))))
          refine ek_if hz (fun y => ?_) (fun y => k16)
          exact br_t (nI_le (a := w) (by omega) (by omega)) k16
  · have c16 : ¬ nI j < 16 := nI_nlt (b := 16) (by omega) (by omega)
    by_cases zm : m = 0
    · refine ⟨0, ph, q, (j - 15) * 16, fr, hor, dec, dot, ⟨d1, d2, d3, d4, by omega, d6, d7, d8, d9⟩, fun post hp => ?_, fun post hp => ?_⟩
      · exact br_f c16 (br_t ((fx_z0 (by omega)).mpr zm) (nm_r (fx_mu (by omega)) hp))
      · refine fx_Y_runw (by omega) (br_f c16 (br_t ((fx_z0 (n := m) (by omega)).mpr zm) ?_))
        rw [fx_mu (by omega)]
        exact nm_r fx_pt_u14 hp
    · have zm' : ¬ nI m = 0 := fun y => zm ((fx_z0 (by omega)).mp y)
      refine ⟨7, ph, q, m, fr, hor, dec, dot, D, fun post hp => ?_, fun post hp => ?_⟩
      · exact br_f c16 (br_f zm' hp)
      · exact fx_Y_runw (by omega) (br_f c16 (br_f zm' hp))
end
end
section
/-! one bit taken -/
def fx_RR (w h l cd us t ro : Nat) (ph : Int32) (q pn pb m fr : Nat) (src : Nat → Int64) (s : Nat → Int32) (dec : Nat → Int64) (dot : Nat → Int32) : Prop :=
  (1 ≤ w ∧ w ≤ 64 ∧ 1 ≤ h ∧ h ≤ 8 ∧ 32 ≤ l ∧ l ≤ 2048) ∧ (cd ≤ h ∧ us ≤ l ∧ t ≤ us ∧ q ≤ w ∧ pn ≤ 23 ∧ pn ≤ t ∧ pb = fx_vl s (t - pn) pn ∧ fx_01 s) ∧ fx_DD w h ro ph q m fr src dec dot
/-- the table in use: component's first index, code base, number of words, reference's table -/
def fx_TB (ph : Int32) (k : Bool) (fs bs cnt : Nat) (tb : Int32) : Prop :=
  (ph = 0 ∧ fs = 0 ∧ bs = 40 ∧ cnt = 10 ∧ tb = 2) ∨ (ph = 1 ∧ fs = 10 + fx_rk k ∧ bs = fx_rk k ∧ cnt = 20 ∧ tb = fx_b k) ∨ (ph = 2 ∧ fs = 10 + fx_rk (!k) ∧ bs = fx_rk (!k) ∧ cnt = 20 ∧ tb = fx_b (!k))
theorem fx_TB_ex {ph : Int32} (k : Bool) (h : ph = 0 ∨ ph = 1 ∨ ph = 2) : ∃ fs bs cnt tb, fx_TB ph k fs bs cnt tb := by
  rcases h with h | h | h
  · exact ⟨0, 40, 10, 2, Or.inl ⟨h, rfl, rfl, rfl, rfl⟩⟩
  · exact ⟨_, _, _, _, Or.inr (Or.inl ⟨h, rfl, rfl, rfl, rfl⟩)⟩
  · exact ⟨_, _, _, _, Or.inr (Or.inr ⟨h, rfl, rfl, rfl, rfl⟩)⟩
theorem fx_TB_n {ph : Int32} {k : Bool} {fs bs cnt : Nat} {tb : Int32} (h : fx_TB ph k fs bs cnt tb) : bs ≤ 40 ∧ bs + cnt ≤ 50 ∧ fs + cnt ≤ 50 ∧ cnt ≤ 20 ∧ (∀ i, cnt ≤ i → i < 20 → 50 ≤ bs + i) := by
  rcases h with ⟨_, h1, h2, h3, _⟩ | ⟨_, h1, h2, h3, _⟩ | ⟨_, h1, h2, h3, _⟩
  · refine ⟨by omega, by omega, by omega, by omega, fun i a b => by omega⟩
  · have := fx_rk_le k
    refine ⟨by omega, by omega, by omega, by omega, fun i a b => by omega⟩
  · have := fx_rk_le (!k)
    refine ⟨by omega, by omega, by omega, by omega, fun i a b => by omega⟩
theorem fx_TB_t {ph : Int32} {k : Bool} {fs bs cnt : Nat} {tb : Int32} (h : fx_TB ph k fs bs cnt tb) : tb * 20 = nI bs := by
  rcases h with ⟨_, h1, h2, h3, h4⟩ | ⟨_, h1, h2, h3, h4⟩ | ⟨_, h1, h2, h3, h4⟩
  · rw [h4, h2]; decide
  · rw [h4, h2, fx_b20]
  · rw [h4, h2, fx_b20]
theorem fx_TB_x {ph : Int32} {k : Bool} {fs bs cnt : Nat} {tb : Int32} (h : fx_TB ph k fs bs cnt tb) : ∀ i, i < cnt → fx_ix (bs + i) = fs + i := by
  intro i hi
  rcases h with ⟨_, h1, h2, h3, _⟩ | ⟨_, h1, h2, h3, _⟩ | ⟨_, h1, h2, h3, _⟩
  · rw [fx_ix_hi (by omega)]; omega
  · have := fx_rk_le k
    rw [fx_ix_lo (by omega)]; omega
  · have := fx_rk_le (!k)
    rw [fx_ix_lo (by omega)]; omega
theorem fx_inj0 : ∀ i, i < 20 → ∀ j, j < 20 → fx_YW (0 + i) = fx_YW (0 + j) → i = j := by decide +kernel
theorem fx_inj1 : ∀ i, i < 20 → ∀ j, j < 20 → fx_YW (20 + i) = fx_YW (20 + j) → i = j := by decide +kernel
theorem fx_inj2 : ∀ i, i < 10 → ∀ j, j < 10 → fx_YW (40 + i) = fx_YW (40 + j) → i = j := by decide +kernel
theorem fx_injk (k : Bool) : ∀ i, i < 20 → ∀ j, j < 20 → fx_YW (fx_rk k + i) = fx_YW (fx_rk k + j) → i = j := by
  cases k
  · exact fx_inj0
  · exact fx_inj1
theorem fx_TB_i {ph : Int32} {k : Bool} {fs bs cnt : Nat} {tb : Int32} (h : fx_TB ph k fs bs cnt tb) : ∀ i, i < cnt → ∀ j, j < cnt → fx_YW (bs + i) = fx_YW (bs + j) → i = j := by
  rcases h with ⟨_, h1, h2, h3, _⟩ | ⟨_, h1, h2, h3, _⟩ | ⟨_, h1, h2, h3, _⟩
  · subst h2 h3; exact fx_inj2
  · subst h2 h3; exact fx_injk k
  · subst h2 h3; exact fx_injk (!k)
theorem fx_nm1 {n : Nat} (h : n < 2 ^ 31) : ¬ nI n = -1 := by
  rw [← Int32.toInt_inj, nI_toInt h, fx_im1]; omega
theorem fx_im2 : (-2 : Int32).toInt = -2 := by decide
theorem fx_nm2 {n : Nat} (h : n < 2 ^ 31) : ¬ nI n = -2 := by
  rw [← Int32.toInt_inj, nI_toInt h, fx_im2]; omega
theorem fx_c13 : (13 : Int32).toNatClampNeg = 13 := by decide
section
variable {w h l cd us t ro q pn pb m fr : Nat} {k : Bool} {fin unt st ph pas hor ver : Int32} {s dot : Nat → Int32} {src dec : Nat → Int64}
variable {fs bs cnt : Nat} {tb : Int32}
theorem fx_X_take0 {post : SX → Prop} {v : Nat} (T : fx_TB ph k fs bs cnt tb) (hs : fx_01 s) (ht : t < 2048) (hn : pn ≤ t) (ev : fx_vl s (t - pn) (pn + 1) = v) (eb : pb = fx_vl s (t - pn) pn) (H : wX_takeBit_55 post (nI v) (nI (pn + 1)) (nI fs) (nI (fs + cnt)) (nI w) (nI h) (nI l) (nI cd) fin (nI us) unt st (nI (t + 1)) (nI ro) ph (fx_m q) (fx_b k) (nI pn) (nI pb) (nI m) (nI fr) pas hor ver fx_WB fx_WS src s dec) : wpX_takeBit post ((nI w), (nI h), (nI l), (nI cd), fin, (nI us), unt, st, (nI t), (nI ro), ph, (fx_m q), (fx_b k), (nI pn), (nI pb), (nI m), (nI fr), pas, hor, ver, fx_WB, fx_WS, src, s, dec) := by
  have h1 := fx_01_n hs t
  refine ⟨vp_in_nI ht (by omega), nm_r (e' := nI v) ?_ (nm_r (nI_1 pn) (nm_r (nI_1 t) ?_))⟩
  · rw [nI_clamp (by omega), h1.1, fx_sh_or h1.2, eb, ← ev, fx_vl, show t - pn + pn = t by omega]
  · rcases T with ⟨a1, a2, a3, a4, a5⟩ | ⟨a1, a2, a3, a4, a5⟩ | ⟨a1, a2, a3, a4, a5⟩
    · subst a1 a2 a4
      exact br_t rfl (br_t rfl H)
    · subst a1 a2 a4
      refine br_f (by decide) (br_t rfl ?_)
      cases k
      · exact br_t rfl (br_f (by decide) H)
      · exact br_f (by decide) (br_f (by decide) H)
    · subst a1 a2 a4
      refine br_f (by decide) (br_f (by decide) ?_)
      cases k
      · exact br_f (by decide) (br_f (by decide) H)
      · exact br_t (by decide) (br_f (by decide) H)
theorem fx_Y_read {post : SY → Prop} (T : fx_TB ph k fs bs cnt tb) (hs : fx_01 s) (hu : us ≤ 2048) (ht : t < us) (hn : pn ≤ t) (hn2 : pn ≤ 23) (H : ∃ f, wY_take_110 post (nI (pn + 1)) (nI (2 ^ (pn + 1) + fx_vl s (t - pn) (pn + 1))) tb (fx_pt (nI w) (nI h) (nI l) (nI us) (nI cd) fin unt st (nI (t + 1)) (nI ro) ph (fx_m q) (fx_b k) (nI pn) (nI m) (nI fr) pas hor ver) dot s f (-1) 0 0) : ∀ d fuel i, d = pn + 1 - i → i ≤ pn + 1 → d < fuel → wY_take_25 post (nI (pn + 1)) (fx_pt (nI w) (nI h) (nI l) (nI us) (nI cd) fin unt st (nI (t + 1)) (nI ro) ph (fx_m q) (fx_b k) (nI pn) (nI m) (nI fr) pas hor ver) dot s fuel (nI (2 ^ i + fx_vl s (t - pn) i)) (nI i) := by
  intro d
  induction d with
  | zero =>
    intro fuel i hd hi hf
    obtain ⟨fuel, rfl⟩ : ∃ n', fuel = n' + 1 := ⟨fuel - 1, by omega⟩
    have e : i = pn + 1 := by omega
    subst e
    refine br_t (nI_le (by omega) (by omega)) ?_
    rcases T with ⟨a1, a2, a3, a4, a5⟩ | ⟨a1, a2, a3, a4, a5⟩ | ⟨a1, a2, a3, a4, a5⟩
    · subst a1 a5
      exact br_t rfl H
    · subst a1 a5
      exact br_f (by decide : ¬ (1 : Int32) = 0) (br_t rfl (nm_e H))
    · subst a1 a5
      exact br_f (by decide : ¬ (2 : Int32) = 0) (br_f (by decide : ¬ (2 : Int32) = 1) (nm_r (fx_b_not k) H))
  | succ d ih =>
    intro fuel i hd hi hf
    obtain ⟨fuel, rfl⟩ : ∃ n', fuel = n' + 1 := ⟨fuel - 1, by omega⟩
    refine br_f (nI_ge (by omega) (by omega)) ?_
    have ei : (nI (t + 1) - nI (pn + 1)) + nI i = nI (t - pn + i) := by
      rw [pk_sub (by omega), nI_add]; exact congrArg nI (by omega)
    have hI := fx_01_n hs (t - pn + i)
    show wpY_bit _ _ ((nI (t + 1) - nI (pn + 1)) + nI i)
    rw [ei]
    refine br_f (nI_pos (by omega)) (br_t (nI_lt (b := us) (by omega) (by omega)) ⟨vp_in_nI (by omega) (by omega), ?_⟩)
    rw [nI_clamp (by omega)]
    refine nm_r (e' := nI (2 ^ (i + 1) + fx_vl s (t - pn) (i + 1))) ?_ (nm_r (nI_1 i) (ih fuel (i + 1) (by omega) (by omega) (by omega)))
    rw [hI.1, fx_dbl]
    refine congrArg nI ?_
    rw [fx_vl, Nat.pow_succ]; omega
theorem fx_Y_take0 {post : SY → Prop} {v : Nat} (T : fx_TB ph k fs bs cnt tb) (hs : fx_01 s) (hu : us ≤ 2048) (ht : t < us) (hn : pn ≤ t) (hn2 : pn ≤ 23) (ev : fx_vl s (t - pn) (pn + 1) = v)
    (H : ∀ x4' x5', fx_M4 (fx_E bs (pn + 1) v) 0 (-1) x4' → fx_M5 (fx_Q bs (pn + 1) v) 0 0 x5' → ((0 ≤ x4' → (wY_take_190 post tb x4' x5' 13 (fx_pt (nI w) (nI h) (nI l) (nI us) (nI cd) fin unt st (nI (t + 1)) (nI ro) ph (fx_m q) (fx_b k) (nI pn) (nI m) (nI fr) pas hor ver) dot s)) ∧ (¬ 0 ≤ x4' → (((x5' = 0 → (wY_take_190 post tb x4' x5' 13 (fx_pt (nI w) (nI h) (nI l) (nI us) (nI cd) fin unt st (nI (t + 1)) (nI ro) ph (fx_m q) (fx_b k) (nI pn) (nI m) (nI fr) pas hor ver) dot s)) ∧ (¬ x5' = 0 → (wY_take_191 post tb x4' x5' (nI (pn + 1)) 13 (fx_pt (nI w) (nI h) (nI l) (nI us) (nI cd) fin unt st (nI (t + 1)) (nI ro) ph (fx_m q) (fx_b k) (nI pn) (nI m) (nI fr) pas hor ver) dot s))))))) : wpY_take post ((fx_pt (nI w) (nI h) (nI l) (nI us) (nI cd) fin unt st (nI t) (nI ro) ph (fx_m q) (fx_b k) (nI pn) (nI m) (nI fr) pas hor ver), dot, s) := by
  have hT := fx_TB_n T
  refine nm_r (e' := nI (pn + 1)) (nI_1 pn) (nm_r (e' := (fx_pt (nI w) (nI h) (nI l) (nI us) (nI cd) fin unt st (nI (t + 1)) (nI ro) ph (fx_m q) (fx_b k) (nI pn) (nI m) (nI fr) pas hor ver)) (fx_pt_u8.trans ?_) ⟨pn + 2, ?_⟩)
  · show (fx_pt (nI w) (nI h) (nI l) (nI us) (nI cd) fin unt st (nI t + 1) (nI ro) ph (fx_m q) (fx_b k) (nI pn) (nI m) (nI fr) pas hor ver) = _
    rw [nI_1]
  · refine fx_Y_read T hs hu ht hn hn2 ⟨21, ?_⟩ (pn + 1) (pn + 2) 0 rfl (by omega) (by omega)
    rw [ev]
    exact fx_Y_srch (fx_TB_t T) hT.1 (by omega) (ev ▸ fx_vl_lt hs _ _) H 20 21 0 (-1) 0 rfl (by omega) (by omega) (fun _ _ a b => ⟨a, b⟩)
theorem fx_norm (hw : w ≤ 64) (hh : h ≤ 8) (D : fx_DD w h ro ph q m fr src dec dot) : ∃ (ro' q' : Nat) (k' : Bool), fx_DD w h ro' ph q' m fr src dec dot ∧ q' ≤ w ∧
    (∀ post, post ((nI w), (nI h), (nI l), (nI cd), fin, (nI us), unt, st, (nI t), (nI ro'), ph, (fx_m q'), (fx_b k'), (nI pn), (nI pb), (nI m), (nI fr), pas, hor, ver, fx_WB, fx_WS, src, s, dec) → wX_takeBit_136 post (nI w) (nI h) (nI l) (nI cd) fin (nI us) unt st (nI t) (nI ro) ph (fx_m q) (fx_b k) (nI pn) (nI pb) (nI m) (nI fr) pas hor ver fx_WB fx_WS src s dec) ∧ (∀ post, post ((fx_pt (nI w) (nI h) (nI l) (nI us) (nI cd) fin unt st (nI t) (nI ro') ph (fx_m q') (fx_b k') (nI pn) (nI m) (nI fr) pas hor ver), dot, s) → wY_take_253 post (fx_pt (nI w) (nI h) (nI l) (nI us) (nI cd) fin unt st (nI t) (nI ro) ph (fx_m q) (fx_b k) (nI pn) (nI m) (nI fr) pas hor ver) dot s) := by
  obtain ⟨d1, d2, d3, d4, d5, d6, d7, d8, d9⟩ := D
  by_cases z : q = w + 1
  · have z' : fx_m q = nI w := (fx_m_eq (by omega) (by omega)).mpr z
    obtain ⟨g1, g2⟩ := d4 z
    refine ⟨ro + 1, 0, false, ⟨g1, Or.inl g2, by omega, fun v => absurd v (by omega), d5, d6, d7, d8, fun r a b => d9 r (by omega) b⟩, by omega, fun post hp => ?_, fun post hp => ?_⟩
    · exact br_t z' (nm_r (nI_1 ro) hp)
    · rw [← nI_1] at hp
      exact br_t z' (nm_r fx_pt_u9 (nm_r fx_pt_u11 (nm_r fx_pt_u12 hp)))
  · have z' : ¬ fx_m q = nI w := by rw [fx_m_eq (by omega) (by omega)]; exact z
    exact ⟨ro, q, k, ⟨d1, d2, d3, d4, d5, d6, d7, d8, d9⟩, by omega, fun post hp => br_f z' hp, fun post hp => br_f z' hp⟩
theorem fx_Y_191 {post : SY → Prop} {x4 x5 : Int32} {n : Nat} {z0 : Int32} (ez : z0 = nI n) (H : ((0 ≤ x4 → (wY_take_203 post tb x4 (fx_pt (nI w) (nI h) (nI l) (nI us) (nI cd) fin unt st (nI t) (nI ro) ph (fx_m q) (fx_b k) (nI n) (nI m) (nI fr) pas hor ver) dot s)) ∧ (¬ 0 ≤ x4 → (((x5 = 0 → (wY_take_203 post tb x4 (fx_pt (nI w) (nI h) (nI l) (nI us) (nI cd) fin unt st (nI t) (nI ro) ph (fx_m q) (fx_b k) (nI n) (nI m) (nI fr) pas hor ver) dot s)) ∧ (¬ x5 = 0 → (post ((fx_pt (nI w) (nI h) (nI l) (nI us) (nI cd) fin unt st (nI t) (nI ro) ph (fx_m q) (fx_b k) (nI n) (nI m) (nI fr) pas hor ver), dot, s)))))))) : wY_take_191 post tb x4 x5 z0 13 (fx_pt (nI w) (nI h) (nI l) (nI us) (nI cd) fin unt st (nI t) (nI ro) ph (fx_m q) (fx_b k) (nI pn) (nI m) (nI fr) pas hor ver) dot s := by
  subst ez
  refine ⟨vp_in_nI (n := 13) (by decide) (by decide), ?_⟩
  rw [fx_c13]
  exact nm_r fx_pt_u13 H
theorem fx_take (R : fx_RR w h l cd us t ro ph q pn pb m fr src s dec dot) (ht : t < us) :
    ∃ (ro' : Nat) (st' ph' : Int32) (q' : Nat) (k' : Bool) (pn' pb' m' fr' : Nat) (pas' hor' ver' : Int32) (dec' : Nat → Int64) (dot' : Nat → Int32), fx_RR w h l cd us (t + 1) ro' ph' q' pn' pb' m' fr' src s dec' dot' ∧
    (∀ post, post ((nI w), (nI h), (nI l), (nI cd), fin, (nI us), unt, st', (nI (t + 1)), (nI ro'), ph', (fx_m q'), (fx_b k'), (nI pn'), (nI pb'), (nI m'), (nI fr'), pas', hor', ver', fx_WB, fx_WS, src, s, dec') → wpX_takeBit post ((nI w), (nI h), (nI l), (nI cd), fin, (nI us), unt, 0, (nI t), (nI ro), ph, (fx_m q), (fx_b k), (nI pn), (nI pb), (nI m), (nI fr), pas, hor, ver, fx_WB, fx_WS, src, s, dec)) ∧
    (∀ post, post ((fx_pt (nI w) (nI h) (nI l) (nI us) (nI cd) fin unt st' (nI (t + 1)) (nI ro') ph' (fx_m q') (fx_b k') (nI pn') (nI m') (nI fr') pas' hor' ver'), dot', s) → wpY_take post ((fx_pt (nI w) (nI h) (nI l) (nI us) (nI cd) fin unt 0 (nI t) (nI ro) ph (fx_m q) (fx_b k) (nI pn) (nI m) (nI fr) pas hor ver), dot, s)) := by
  obtain ⟨hS, ⟨r1, r2, r3, r4, r5, r6, r7, r8⟩, D⟩ := R
  obtain ⟨s1, s2, s3, s4, s5, s6⟩ := hS
  have hph : ph = 0 ∨ ph = 1 ∨ ph = 2 := by
    rcases D.2.1 with a | ⟨a | a, _⟩
    · exact Or.inl a
    · exact Or.inr (Or.inl a)
    · exact Or.inr (Or.inr a)
  obtain ⟨fs, bs, cnt, tb, T⟩ := fx_TB_ex k hph
  obtain ⟨hT1, hT2, hT3, hT4, hT5⟩ := fx_TB_n T
  obtain ⟨v, ev⟩ : ∃ v, fx_vl s (t - pn) (pn + 1) = v := ⟨_, rfl⟩
  have hv : v < 2 ^ (pn + 1) := ev ▸ fx_vl_lt r8 _ _
  have hE0 : ∀ i, cnt ≤ i → i < 20 → ¬ fx_E bs (pn + 1) v i := by
    intro i a b z
    unfold fx_E at z
    rw [fx_tab_0 (hT5 i a b)] at z
    have := Nat.two_pow_pos (pn + 1)
    omega
  have hQ0 : ∀ i, cnt ≤ i → i < 20 → ¬ fx_Q bs (pn + 1) v i := by
    intro i a b z
    obtain ⟨cut, z1, z2, z3⟩ := z
    rw [fx_tab_0 (hT5 i a b), Nat.zero_div] at z3
    have := Nat.two_pow_pos (pn + 1)
    omega
  by_cases hE : ∃ j, j < cnt ∧ fx_E bs (pn + 1) v j
  · obtain ⟨j, hj, ej⟩ := hE
    have u1 : ∀ i, i < cnt → fx_E bs (pn + 1) v i → i = j := fun i hi z => fx_TB_i T i hi j hj (z.trans ej.symm)
    have u2 : ∀ i, i < 20 → fx_E bs (pn + 1) v i → i = j := by
      intro i hi z
      rcases Nat.lt_or_ge i cnt with a | a
      · exact u1 i a z
      · exact absurd z (hE0 i a hi)
    by_cases zp : ph = 0
    · have T' := T
      rcases T' with ⟨_, a2, a3, a4, a5⟩ | ⟨a1, _⟩ | ⟨a1, _⟩
      rotate_left
      · rw [zp] at a1; exact absurd a1 (by decide)
      · rw [zp] at a1; exact absurd a1 (by decide)
      subst zp
      obtain ⟨st', ph', q', k', pas', ver', dec', dot', D1, X1, Y1⟩ := fx_mode (j := j) (l := l) (cd := cd) (fin := fin) (us := us) (unt := unt) (t := t + 1) (k := k) (pas := pas) (hor := hor) (ver := ver) (s := s) s2 s4 D r4 (by omega)
      obtain ⟨ro', q'', k'', D2, hq2, X2, Y2⟩ := fx_norm (l := l) (cd := cd) (fin := fin) (us := us) (unt := unt) (st := st') (t := t + 1) (k := k') (pn := 0) (pb := 0) (pas := pas') (hor := hor) (ver := ver') (s := s) s2 s4 D1
      refine ⟨ro', st', ph', q'', k'', 0, 0, m, fr, pas', hor, ver', dec', dot', ⟨⟨s1, s2, s3, s4, s5, s6⟩, ⟨r1, r2, ht, hq2, by omega, by omega, rfl, r8⟩, D2⟩, fun post hp => ?_, fun post hp => ?_⟩
      · refine fx_X_take0 T r8 (by omega) r6 ev r7 ?_
        unfold wX_takeBit_55
        refine fx_X_match rfl rfl hT2 (fx_TB_x T) hT3 (by omega) hv (fun r hr => ?_)
        have er := fx_MX_1 hj ej u1 hr
        subst er a2
        rw [Nat.zero_add]
        exact br_f (fx_nm1 (by omega)) (br_f (fx_nm2 (by omega)) (br_t rfl (X1 _ (X2 _ hp))))
      · refine fx_Y_take0 T r8 (by omega) ht r6 r5 ev (fun x4' x5' h4 h5 => ?_)
        have e4 := fx_M4_1 (by omega) ej u2 h4
        subst e4 a5
        have hj0 : 0 ≤ nI j := nI_pos' (by omega)
        refine br_t hj0 (fx_Y_191 (n := 0) rfl (br_t hj0 (br_t hj0 (br_t rfl ?_))))
        exact Y1 _ (nm_r fx_pt_u7 (Y2 _ hp))
    · have hph2 : ph = 1 ∨ ph = 2 := by
        rcases hph with a | a
        · exact absurd a zp
        · exact a
      have zr : ro < h := by
        rcases D.2.1 with a | ⟨_, a⟩
        · exact absurd a zp
        · exact a
      have htb : ¬ tb = 2 := by
        rcases T with ⟨a1, _⟩ | ⟨_, _, _, _, a5⟩ | ⟨_, _, _, _, a5⟩
        · exact absurd a1 zp
        · rw [a5]; cases k <;> decide
        · rw [a5]; cases k <;> decide
      obtain ⟨st', ph', q', m', fr', hor', dec', dot', D1, X1, Y1⟩ := fx_run (j := j) (l := l) (cd := cd) (fin := fin) (us := us) (unt := unt) (t := t + 1) (k := k) (pas := pas) (hor := hor) (ver := ver) (s := s) s2 s4 D hph2 zr r4 (by omega)
      obtain ⟨ro', q'', k'', D2, hq2, X2, Y2⟩ := fx_norm (l := l) (cd := cd) (fin := fin) (us := us) (unt := unt) (st := st') (t := t + 1) (k := k) (pn := 0) (pb := 0) (pas := pas) (hor := hor') (ver := ver) (s := s) s2 s4 D1
      refine ⟨ro', st', ph', q'', k'', 0, 0, m', fr', pas, hor', ver, dec', dot', ⟨⟨s1, s2, s3, s4, s5, s6⟩, ⟨r1, r2, ht, hq2, by omega, by omega, rfl, r8⟩, D2⟩, fun post hp => ?_, fun post hp => ?_⟩
      · refine fx_X_take0 T r8 (by omega) r6 ev r7 ?_
        unfold wX_takeBit_55
        refine fx_X_match rfl rfl hT2 (fx_TB_x T) hT3 (by omega) hv (fun r hr => ?_)
        have er := fx_MX_1 hj ej u1 hr
        subst er
        refine br_f (fx_nm1 (by omega)) (br_f (fx_nm2 (by omega)) (br_f zp ?_))
        rw [pk_sub (by omega), Nat.add_sub_cancel_left]
        exact X1 _ (X2 _ hp)
      · refine fx_Y_take0 T r8 (by omega) ht r6 r5 ev (fun x4' x5' h4 h5 => ?_)
        have e4 := fx_M4_1 (by omega) ej u2 h4
        subst e4
        have hj0 : 0 ≤ nI j := nI_pos' (by omega)
        refine br_t hj0 (fx_Y_191 (n := 0) rfl (br_t hj0 (br_t hj0 (br_f htb ?_))))
        exact Y1 _ (nm_r fx_pt_u7 (Y2 _ hp))
  · have n1 : ∀ i, i < cnt → ¬ fx_E bs (pn + 1) v i := fun i hi z => hE ⟨i, hi, z⟩
    have n2 : ∀ i, i < 20 → ¬ fx_E bs (pn + 1) v i := by
      intro i hi
      rcases Nat.lt_or_ge i cnt with a | a
      · exact n1 i a
      · exact hE0 i a hi
    have hm1 : ¬ (0 : Int32) ≤ -1 := by decide
    by_cases hQ : ∃ j, j < cnt ∧ fx_Q bs (pn + 1) v j
    · obtain ⟨j, hj, ej⟩ := hQ
      have hz := fx_tab_z (bs + j) (by omega)
      have hl := (fx_Q_sz (by omega) hv ej).1
      refine ⟨ro, 0, ph, q, k, pn + 1, v, m, fr, pas, hor, ver, dec, dot, ⟨⟨s1, s2, s3, s4, s5, s6⟩, ⟨r1, r2, ht, r4, by omega, by omega, ?_, r8⟩, D⟩, fun post hp => ?_, fun post hp => ?_⟩
      · rw [show t + 1 - (pn + 1) = t - pn by omega, ev]
      · refine fx_X_take0 T r8 (by omega) r6 ev r7 ?_
        unfold wX_takeBit_55
        refine fx_X_match rfl rfl hT2 (fx_TB_x T) hT3 (by omega) hv (fun r hr => ?_)
        have er := fx_MX_2 n1 hj ej hr
        subst er
        exact br_f (by decide) (br_t rfl hp)
      · refine fx_Y_take0 T r8 (by omega) ht r6 r5 ev (fun x4' x5' h4 h5 => ?_)
        have e4 := fx_M4_2 n2 h4
        have e5 := fx_M5_1 (by omega) ej h5
        subst e4 e5
        exact br_f hm1 (br_f (by decide) (fx_Y_191 rfl (br_f hm1 (br_f (by decide) hp))))
    · have m1 : ∀ i, i < cnt → ¬ fx_Q bs (pn + 1) v i := fun i hi z => hQ ⟨i, hi, z⟩
      have m2 : ∀ i, i < 20 → ¬ fx_Q bs (pn + 1) v i := by
        intro i hi
        rcases Nat.lt_or_ge i cnt with a | a
        · exact m1 i a
        · exact hQ0 i a hi
      have z' : ¬ fx_m q = nI w := by rw [fx_m_eq (by omega) (by omega)]; omega
      refine ⟨ro, 2, ph, q, k, 0, 0, m, fr, pas, hor, ver, dec, dot, ⟨⟨s1, s2, s3, s4, s5, s6⟩, ⟨r1, r2, ht, r4, by omega, by omega, rfl, r8⟩, D⟩, fun post hp => ?_, fun post hp => ?_⟩
      · refine fx_X_take0 T r8 (by omega) r6 ev r7 ?_
        unfold wX_takeBit_55
        refine fx_X_match rfl rfl hT2 (fx_TB_x T) hT3 (by omega) hv (fun r hr => ?_)
        have er := fx_MX_3 n1 m1 hr
        subst er
        exact br_t rfl hp
      · refine fx_Y_take0 T r8 (by omega) ht r6 r5 ev (fun x4' x5' h4 h5 => ?_)
        have e4 := fx_M4_2 n2 h4
        have e5 := fx_M5_2 m2 h5
        subst e4 e5
        exact br_f hm1 (br_t rfl (fx_Y_191 (n := 0) rfl (br_f hm1 (br_t rfl (br_f hm1 (nm_r fx_pt_u7 (br_f z' hp)))))))
end
end
section
/-! the relation; rewind, restart, the constructors -/
/-- the relation at the head of a turn: both states are tuples of one list of names -/
def i_Rel (k : Nat) (u : SX) (v : SY) : Prop := ∃ (w h l cd us t ro q pn pb m fr : Nat) (c : Bool) (fin unt st ph pas hor ver : Int32) (s dot : Nat → Int32) (src dec : Nat → Int64), fx_RR w h l cd us t ro ph q pn pb m fr src s dec dot ∧ u = ((nI w), (nI h), (nI l), (nI cd), fin, (nI us), unt, st, (nI t), (nI ro), ph, (fx_m q), (fx_b c), (nI pn), (nI pb), (nI m), (nI fr), pas, hor, ver, fx_WB, fx_WS, src, s, dec) ∧ v = ((fx_pt (nI w) (nI h) (nI l) (nI us) (nI cd) fin unt st (nI t) (nI ro) ph (fx_m q) (fx_b c) (nI pn) (nI m) (nI fr) pas hor ver), dot, s)
theorem i_up {k : Nat} {u : SX} {v : SY} (h : i_Rel k u v) : i_Rel (k + 5) u v := h
section
variable {w h l cd us t ro q pn pb m fr : Nat} {k : Bool} {fin unt st ph pas hor ver : Int32} {s dot : Nat → Int32} {src dec : Nat → Int64}
theorem fx_in (n : Nat) (R : fx_RR w h l cd us t ro ph q pn pb m fr src s dec dot) : i_Rel n ((nI w), (nI h), (nI l), (nI cd), fin, (nI us), unt, st, (nI t), (nI ro), ph, (fx_m q), (fx_b k), (nI pn), (nI pb), (nI m), (nI fr), pas, hor, ver, fx_WB, fx_WS, src, s, dec) ((fx_pt (nI w) (nI h) (nI l) (nI us) (nI cd) fin unt st (nI t) (nI ro) ph (fx_m q) (fx_b k) (nI pn) (nI m) (nI fr) pas hor ver), dot, s) :=
  ⟨w, h, l, cd, us, t, ro, q, pn, pb, m, fr, k, fin, unt, st, ph, pas, hor, ver, s, dot, src, dec, R, rfl, rfl⟩
end
theorem fx_el {P : SX → SY → Prop} {n : Nat} {u : SX} {v : SY} (I : i_Rel n u v) (H : ∀ (w h l cd us t ro q pn pb m fr : Nat) (k : Bool) (fin unt st ph pas hor ver : Int32) (s dot : Nat → Int32) (src dec : Nat → Int64), fx_RR w h l cd us t ro ph q pn pb m fr src s dec dot → P ((nI w), (nI h), (nI l), (nI cd), fin, (nI us), unt, st, (nI t), (nI ro), ph, (fx_m q), (fx_b k), (nI pn), (nI pb), (nI m), (nI fr), pas, hor, ver, fx_WB, fx_WS, src, s, dec) ((fx_pt (nI w) (nI h) (nI l) (nI us) (nI cd) fin unt st (nI t) (nI ro) ph (fx_m q) (fx_b k) (nI pn) (nI m) (nI fr) pas hor ver), dot, s)) : P u v := by
  obtain ⟨w, h, l, cd, us, t, ro, q, pn, pb, m, fr, c, fin, unt, st, ph, pas, hor, ver, s, dot, src, dec, R, eu, ev⟩ := I
  rw [eu, ev]
  exact H w h l cd us t ro q pn pb m fr c fin unt st ph pas hor ver s dot src dec R
section
variable {f_pageWidth f_pageHeight f_limit f_coded f_finished f_used f_untouched f_state f_taken f_rows f_phase f_position f_current f_pending f_pendingBits f_makeUp f_firstRun f_passes f_horizontals f_verticals : Int32} {a_wordBits a_wordSize a_stream : Nat → Int32} {a_source a_decoded : Nat → Int64}
theorem fx_X_rw {post : SX → Prop} : ∀ d fuel i a_decoded, d = 8 - i → i ≤ 8 → d < fuel → (∀ dec', (∀ r, i ≤ r → r < 8 → dec' r = 0) → (∀ r, r < i → dec' r = a_decoded r) → post (f_pageWidth, f_pageHeight, f_limit, f_coded, f_finished, f_used, f_untouched, f_state, f_taken, f_rows, f_phase, f_position, f_current, f_pending, f_pendingBits, f_makeUp, f_firstRun, f_passes, f_horizontals, f_verticals, a_wordBits, a_wordSize, a_source, a_stream, dec')) → wX_rewind_67 post f_pageWidth f_pageHeight f_limit f_coded f_finished f_used f_untouched f_state f_taken f_rows f_phase f_position f_current f_pending f_pendingBits f_makeUp f_firstRun f_passes f_horizontals f_verticals fuel (nI i) a_wordBits a_wordSize a_source a_stream a_decoded := by
  intro d
  induction d with
  | zero =>
    intro fuel i dec hd hi hf H
    obtain ⟨fuel, rfl⟩ : ∃ n', fuel = n' + 1 := ⟨fuel - 1, by omega⟩
    exact br_t (nI_le (a := 8) (by omega) (by omega)) (H dec (fun r a b => absurd a (by omega)) (fun r _ => rfl))
  | succ d ih =>
    intro fuel i dec hd hi hf H
    obtain ⟨fuel, rfl⟩ : ∃ n', fuel = n' + 1 := ⟨fuel - 1, by omega⟩
    refine br_f (nI_ge (b := 8) (by omega) (by decide)) ⟨vp_in_nI (by omega) (by omega), nm_r (e' := vp_updL dec i 0) (by rw [nI_clamp (by omega)]) (nm_r (nI_1 i) ?_)⟩
    refine ih fuel (i + 1) _ (by omega) (by omega) (by omega) (fun dec' h1 h2 => H dec' (fun r a b => ?_) (fun r a => ?_))
    · by_cases z : r = i
      · subst z; rw [h2 r (by omega), pk_uLs]
      · exact h1 r (by omega) b
    · rw [h2 r (by omega), pk_uLn (by omega)]
theorem fx_X_rewind {post : SX → Prop} (H : ∀ dec', (∀ r, r < 8 → dec' r = 0) → post (f_pageWidth, f_pageHeight, f_limit, f_coded, f_finished, f_used, f_untouched, 0, (nI 0), (nI 0), 0, (fx_m 0), (fx_b false), (nI 0), (nI 0), (nI 0), (nI 0), 0, 0, 0, a_wordBits, a_wordSize, a_source, a_stream, dec')) : wpX_rewind post (f_pageWidth, f_pageHeight, f_limit, f_coded, f_finished, f_used, f_untouched, f_state, f_taken, f_rows, f_phase, f_position, f_current, f_pending, f_pendingBits, f_makeUp, f_firstRun, f_passes, f_horizontals, f_verticals, a_wordBits, a_wordSize, a_source, a_stream, a_decoded) :=
  ⟨9, fx_X_rw 8 9 0 a_decoded rfl (by omega) (by omega) (fun dec' h1 _ => H dec' (fun r hr => h1 r (by omega) hr))⟩
theorem fx_X_def {post : SX → Prop} {i : Nat} {p0 x y : Int32} (hi : i < 50) (e : p0 = nI i) (hp : post (f_pageWidth, f_pageHeight, f_limit, f_coded, f_finished, f_used, f_untouched, f_state, f_taken, f_rows, f_phase, f_position, f_current, f_pending, f_pendingBits, f_makeUp, f_firstRun, f_passes, f_horizontals, f_verticals, (upd a_wordBits i y), (upd a_wordSize i x), a_source, a_stream, a_decoded)) : wpX_define post (f_pageWidth, f_pageHeight, f_limit, f_coded, f_finished, f_used, f_untouched, f_state, f_taken, f_rows, f_phase, f_position, f_current, f_pending, f_pendingBits, f_makeUp, f_firstRun, f_passes, f_horizontals, f_verticals, a_wordBits, a_wordSize, a_source, a_stream, a_decoded) p0 x y := by
  subst e
  have hv : vp_in (nI i) 50 := vp_in_nI hi (by decide)
  refine br_f (nI_pos (by omega)) (br_f (nI_ge (b := 50) hi (by decide)) ⟨hv, nm_r (e' := upd a_wordSize i x) (by rw [nI_clamp (by omega)]) ⟨hv, nm_r (e' := upd a_wordBits i y) (by rw [nI_clamp (by omega)]) hp⟩⟩)
theorem fx_X_mode {post : SX → Prop} (hp : post (f_pageWidth, f_pageHeight, f_limit, f_coded, f_finished, f_used, f_untouched, f_state, f_taken, f_rows, f_phase, f_position, f_current, f_pending, f_pendingBits, f_makeUp, f_firstRun, f_passes, f_horizontals, f_verticals, (fx_wb1 a_wordBits), (fx_ws1 a_wordSize), a_source, a_stream, a_decoded)) : wpX_defineModeWords post (f_pageWidth, f_pageHeight, f_limit, f_coded, f_finished, f_used, f_untouched, f_state, f_taken, f_rows, f_phase, f_position, f_current, f_pending, f_pendingBits, f_makeUp, f_firstRun, f_passes, f_horizontals, f_verticals, a_wordBits, a_wordSize, a_source, a_stream, a_decoded) := by
  unfold wpX_defineModeWords
  refine fx_X_def (i := 0) (by decide) (by decide) ?_
  refine fx_X_def (i := 1) (by decide) (by decide) ?_
  refine fx_X_def (i := 2) (by decide) (by decide) ?_
  refine fx_X_def (i := 3) (by decide) (by decide) ?_
  refine fx_X_def (i := 4) (by decide) (by decide) ?_
  refine fx_X_def (i := 5) (by decide) (by decide) ?_
  refine fx_X_def (i := 6) (by decide) (by decide) ?_
  refine fx_X_def (i := 7) (by decide) (by decide) ?_
  refine fx_X_def (i := 8) (by decide) (by decide) ?_
  refine fx_X_def (i := 9) (by decide) (by decide) ?_
  exact hp
theorem fx_X_white {post : SX → Prop} (hp : post (f_pageWidth, f_pageHeight, f_limit, f_coded, f_finished, f_used, f_untouched, f_state, f_taken, f_rows, f_phase, f_position, f_current, f_pending, f_pendingBits, f_makeUp, f_firstRun, f_passes, f_horizontals, f_verticals, (fx_wb2 a_wordBits), (fx_ws2 a_wordSize), a_source, a_stream, a_decoded)) : wpX_defineWhiteWords post (f_pageWidth, f_pageHeight, f_limit, f_coded, f_finished, f_used, f_untouched, f_state, f_taken, f_rows, f_phase, f_position, f_current, f_pending, f_pendingBits, f_makeUp, f_firstRun, f_passes, f_horizontals, f_verticals, a_wordBits, a_wordSize, a_source, a_stream, a_decoded) := by
  unfold wpX_defineWhiteWords
  refine fx_X_def (i := 10) (by decide) (by decide) ?_
  refine fx_X_def (i := 11) (by decide) (by decide) ?_
  refine fx_X_def (i := 12) (by decide) (by decide) ?_
  refine fx_X_def (i := 13) (by decide) (by decide) ?_
  refine fx_X_def (i := 14) (by decide) (by decide) ?_
  refine fx_X_def (i := 15) (by decide) (by decide) ?_
  refine fx_X_def (i := 16) (by decide) (by decide) ?_
  refine fx_X_def (i := 17) (by decide) (by decide) ?_
  refine fx_X_def (i := 18) (by decide) (by decide) ?_
  refine fx_X_def (i := 19) (by decide) (by decide) ?_
  refine fx_X_def (i := 20) (by decide) (by decide) ?_
  refine fx_X_def (i := 21) (by decide) (by decide) ?_
  refine fx_X_def (i := 22) (by decide) (by decide) ?_
  refine fx_X_def (i := 23) (by decide) (by decide) ?_
  refine fx_X_def (i := 24) (by decide) (by decide) ?_
  refine fx_X_def (i := 25) (by decide) (by decide) ?_
  refine fx_X_def (i := 26) (by decide) (by decide) ?_
  refine fx_X_def (i := 27) (by decide) (by decide) ?_
  refine fx_X_def (i := 28) (by decide) (by decide) ?_
  refine fx_X_def (i := 29) (by decide) (by decide) ?_
  exact hp
theorem fx_X_black {post : SX → Prop} (hp : post (f_pageWidth, f_pageHeight, f_limit, f_coded, f_finished, f_used, f_untouched, f_state, f_taken, f_rows, f_phase, f_position, f_current, f_pending, f_pendingBits, f_makeUp, f_firstRun, f_passes, f_horizontals, f_verticals, (fx_wb3 a_wordBits), (fx_ws3 a_wordSize), a_source, a_stream, a_decoded)) : wpX_defineBlackWords post (f_pageWidth, f_pageHeight, f_limit, f_coded, f_finished, f_used, f_untouched, f_state, f_taken, f_rows, f_phase, f_position, f_current, f_pending, f_pendingBits, f_makeUp, f_firstRun, f_passes, f_horizontals, f_verticals, a_wordBits, a_wordSize, a_source, a_stream, a_decoded) := by
  unfold wpX_defineBlackWords
  refine fx_X_def (i := 30) (by decide) (by decide) ?_
  refine fx_X_def (i := 31) (by decide) (by decide) ?_
  refine fx_X_def (i := 32) (by decide) (by decide) ?_
  refine fx_X_def (i := 33) (by decide) (by decide) ?_
  refine fx_X_def (i := 34) (by decide) (by decide) ?_
  refine fx_X_def (i := 35) (by decide) (by decide) ?_
  refine fx_X_def (i := 36) (by decide) (by decide) ?_
  refine fx_X_def (i := 37) (by decide) (by decide) ?_
  refine fx_X_def (i := 38) (by decide) (by decide) ?_
  refine fx_X_def (i := 39) (by decide) (by decide) ?_
  refine fx_X_def (i := 40) (by decide) (by decide) ?_
  refine fx_X_def (i := 41) (by decide) (by decide) ?_
  refine fx_X_def (i := 42) (by decide) (by decide) ?_
  refine fx_X_def (i := 43) (by decide) (by decide) ?_
  refine fx_X_def (i := 44) (by decide) (by decide) ?_
  refine fx_X_def (i := 45) (by decide) (by decide) ?_
  refine fx_X_def (i := 46) (by decide) (by decide) ?_
  refine fx_X_def (i := 47) (by decide) (by decide) ?_
  refine fx_X_def (i := 48) (by decide) (by decide) ?_
  refine fx_X_def (i := 49) (by decide) (by decide) ?_
  exact hp
end
section
variable {s : Nat → Int32}
theorem fx_Y_rw2 {post : SY → Prop} {part : Nat → Int32} : ∀ d fuel i dot, d = 1024 - i → i ≤ 1024 → d < fuel → (∀ d', (∀ j, i ≤ j → j < 1024 → d' j = 0) → (∀ j, j < i → d' j = dot j) → post (part, d', s)) → wY_rewind_34 post fuel (nI i) part dot s := by
  intro d
  induction d with
  | zero =>
    intro fuel i dot hd hi hf H
    obtain ⟨fuel, rfl⟩ : ∃ n', fuel = n' + 1 := ⟨fuel - 1, by omega⟩
    exact br_t (nI_le (a := 1024) (by omega) (by omega)) (H dot (fun r a b => absurd a (by omega)) (fun r _ => rfl))
  | succ d ih =>
    intro fuel i dot hd hi hf H
    obtain ⟨fuel, rfl⟩ : ∃ n', fuel = n' + 1 := ⟨fuel - 1, by omega⟩
    refine br_f (nI_ge (b := 1024) (by omega) (by decide)) ⟨vp_in_nI (by omega) (by omega), nm_r (e' := upd dot i 0) (by rw [nI_clamp (by omega)]) (nm_r (nI_1 i) ?_)⟩
    refine ih fuel (i + 1) _ (by omega) (by omega) (by omega) (fun dec' h1 h2 => H dec' (fun r a b => ?_) (fun r a => ?_))
    · by_cases z : r = i
      · subst z; rw [h2 r (by omega), pk_us]
      · exact h1 r (by omega) b
    · rw [h2 r (by omega), pk_un (by omega)]
theorem fx_Y_rw1 {post : SY → Prop} {part dot : Nat → Int32} {n i : Nat} (hi : i ≤ 18) (H : wY_rewind_3 post n (nI (i + 1)) (upd part i 0) dot s) : wY_rewind_3 post (n + 1) (nI i) part dot s :=
  br_f (nI_nlt (a := 18) (b := i) hi (by decide)) ⟨vp_in_nI (by omega) (by decide), nm_r (e' := upd part i 0) (by rw [nI_clamp (by omega)]) (nm_r (nI_1 i) H)⟩
theorem fx_Y_rewind {post : SY → Prop} {dot : Nat → Int32} {p0 p1 p2 p3 p4 p5 p6 p7 p8 p9 p10 p11 p12 p13 p14 p15 p16 p17 p18 : Int32} (H : ∀ d', (∀ j, 512 ≤ j → j < 1024 → d' j = 0) → (∀ j, j < 512 → d' j = dot j) → post (fx_pt p0 p1 p2 p3 p4 p5 p6 0 (nI 0) (nI 0) 0 (fx_m 0) (fx_b false) (nI 0) (nI 0) (nI 0) 0 0 0, d', s)) : wpY_rewind post (fx_pt p0 p1 p2 p3 p4 p5 p6 p7 p8 p9 p10 p11 p12 p13 p14 p15 p16 p17 p18, dot, s) := by
  refine ⟨13, ?_⟩
  refine fx_Y_rw1 (i := 7) (by decide) ?_
  rw [fx_pt_u7]
  refine fx_Y_rw1 (i := 8) (by decide) ?_
  rw [fx_pt_u8]
  refine fx_Y_rw1 (i := 9) (by decide) ?_
  rw [fx_pt_u9]
  refine fx_Y_rw1 (i := 10) (by decide) ?_
  rw [fx_pt_u10]
  refine fx_Y_rw1 (i := 11) (by decide) ?_
  rw [fx_pt_u11]
  refine fx_Y_rw1 (i := 12) (by decide) ?_
  rw [fx_pt_u12]
  refine fx_Y_rw1 (i := 13) (by decide) ?_
  rw [fx_pt_u13]
  refine fx_Y_rw1 (i := 14) (by decide) ?_
  rw [fx_pt_u14]
  refine fx_Y_rw1 (i := 15) (by decide) ?_
  rw [fx_pt_u15]
  refine fx_Y_rw1 (i := 16) (by decide) ?_
  rw [fx_pt_u16]
  refine fx_Y_rw1 (i := 17) (by decide) ?_
  rw [fx_pt_u17]
  refine fx_Y_rw1 (i := 18) (by decide) ?_
  rw [fx_pt_u18]
  refine br_t (nI_lt (a := 18) (b := 19) (by decide) (by decide)) (nm_r fx_pt_u11 ⟨513, ?_⟩)
  exact fx_Y_rw2 512 513 512 dot rfl (by omega) (by omega) H
end
section
variable {w h l cd us t ro q pn pb m fr : Nat} {k : Bool} {fin unt st ph pas hor ver : Int32} {s dot : Nat → Int32} {src dec : Nat → Int64}
/-- what a fresh decoder satisfies -/
theorem fx_fresh {d' : Nat → Int32} {dec' : Nat → Int64} (hs : 1 ≤ w ∧ w ≤ 64 ∧ 1 ≤ h ∧ h ≤ 8 ∧ 32 ≤ l ∧ l ≤ 2048) (hc : cd ≤ h) (hu : us ≤ l) (h01 : fx_01 s) (P : fx_PD w 0 src dot) (h1 : ∀ r, r < 8 → dec' r = 0) (h2 : ∀ j, 512 ≤ j → j < 1024 → d' j = 0) (h3 : ∀ j, j < 512 → d' j = dot j) : fx_RR w h l cd us 0 0 0 0 0 0 0 0 src s dec' d' := by
  refine ⟨hs, ⟨hc, hu, by omega, by omega, by omega, by omega, rfl, h01⟩, by omega, Or.inl rfl, by omega, fun z => absurd z (by omega), by omega, by omega, fun r c hr hc => ?_, fun r c hr hc => ?_, fun r _ hr => h1 r hr⟩
  · rw [h1 r hr, fx_t_0, h2 _ (by omega) (by omega)]
    exact ⟨rfl, fun _ => rfl⟩
  · rw [h3 _ (by omega)]
    exact P r c hr hc
end
theorem i_vc_rewind {k : Nat} {u : SX} {v : SY} (I : i_Rel k u v) (hk : k + 5 ≤ 2563) : wpX_rewind (fun u' => wpY_rewind (fun v' => i_Rel (k + 5) u' v') v) u := by
  refine fx_el (P := fun u v => wpX_rewind (fun u' => wpY_rewind (fun v' => i_Rel (k + 5) u' v') v) u) I ?_
  intro w h l cd us t ro q pn pb m fr c fin unt st ph pas hor ver s dot src dec R
  refine fx_X_rewind (fun dec' h1 => fx_Y_rewind (fun d' h2 h3 => ?_))
  obtain ⟨hS, ⟨r1, r2, r3, r4, r5, r6, r7, r8⟩, d1, d2, d3, d4, d5, d6, d7, d8, d9⟩ := R
  exact fx_in (k + 5) (fx_fresh hS r1 r2 r8 d8 h1 h2 h3)
theorem i_vc_restart {k : Nat} {u : SX} {v : SY} (I : i_Rel k u v) (hk : k + 5 ≤ 2563) : wpX_restart (fun u' => wpY_restart (fun v' => i_Rel (k + 5) u' v') v) u := by
  refine fx_el (P := fun u v => wpX_restart (fun u' => wpY_restart (fun v' => i_Rel (k + 5) u' v') v) u) I ?_
  intro w h l cd us t ro q pn pb m fr c fin unt st ph pas hor ver s dot src dec R
  obtain ⟨hS, ⟨r1, r2, r3, r4, r5, r6, r7, r8⟩, d1, d2, d3, d4, d5, d6, d7, d8, d9⟩ := R
  unfold wpX_restart
  refine fx_X_rewind (fun dec' h1 => ?_)
  refine nm_r fx_pt_u3 (nm_r fx_pt_u4 (nm_r fx_pt_u5 (nm_r fx_pt_u6 ?_)))
  refine fx_Y_rewind (fun d' h2 h3 => ?_)
  exact fx_in (cd := 0) (us := 0) (k + 5) (fx_fresh hS (by omega) (by omega) r8 d8 h1 h2 h3)
theorem fx_cl (x : Int32) {lo hi : Nat} (h1 : lo ≤ hi) (h2 : hi < 2 ^ 31) : ∃ n, lo ≤ n ∧ n ≤ hi ∧ (∀ A : Int32 → Prop, A (nI n) → ((nI lo ≤ x → ((x ≤ nI hi → A x) ∧ (¬ x ≤ nI hi → A (nI hi)))) ∧ (¬ nI lo ≤ x → A (nI lo)))) := by
  by_cases z : nI lo ≤ x
  · have zp : ¬ x < 0 := by
      rw [Int32.lt_iff_toInt_lt, fx_i0]
      rw [Int32.le_iff_toInt_le, nI_toInt (by omega)] at z
      omega
    obtain ⟨j, hj, rfl⟩ := nI_of zp
    by_cases y : j ≤ hi
    · exact ⟨j, (nI_leI (by omega) hj).mp z, y, fun A a => br_t z (br_t (nI_le y h2) a)⟩
    · exact ⟨hi, h1, Nat.le_refl _, fun A a => br_t z (br_f (nI_ge (by omega) hj) a)⟩
  · exact ⟨lo, Nat.le_refl _, h1, fun A a => br_f z a⟩
section
variable {f_pageWidth f_pageHeight f_limit f_coded f_finished f_used f_untouched f_state f_taken f_rows f_phase f_position f_current f_pending f_pendingBits f_makeUp f_firstRun f_passes f_horizontals f_verticals : Int32} {a_wordBits a_wordSize a_stream : Nat → Int32} {a_source a_decoded : Nat → Int64}
theorem fx_X_cl {post : Int32 → Prop} {x a b : Int32} {n : Nat} (H : ∀ A : Int32 → Prop, A (nI n) → ((a ≤ x → ((x ≤ b → A x) ∧ (¬ x ≤ b → A b))) ∧ (¬ a ≤ x → A a))) (hp : post (nI n)) : wpX_clamp post (f_pageWidth, f_pageHeight, f_limit, f_coded, f_finished, f_used, f_untouched, f_state, f_taken, f_rows, f_phase, f_position, f_current, f_pending, f_pendingBits, f_makeUp, f_firstRun, f_passes, f_horizontals, f_verticals, a_wordBits, a_wordSize, a_source, a_stream, a_decoded) x a b := H post hp
end
theorem fx_pt0 : (fun _ => 0 : Nat → Int32) = fx_pt 0 0 0 0 0 0 0 0 0 0 0 0 0 0 0 0 0 0 0 := by
  funext j
  match j with
  | 0 => rfl
  | 1 => rfl
  | 2 => rfl
  | 3 => rfl
  | 4 => rfl
  | 5 => rfl
  | 6 => rfl
  | 7 => rfl
  | 8 => rfl
  | 9 => rfl
  | 10 => rfl
  | 11 => rfl
  | 12 => rfl
  | 13 => rfl
  | 14 => rfl
  | 15 => rfl
  | 16 => rfl
  | 17 => rfl
  | 18 => rfl
  | _ + 19 => rfl
theorem fx_c0 : (0 : Int32).toNatClampNeg = 0 := by decide
theorem fx_c1 : (1 : Int32).toNatClampNeg = 1 := by decide
theorem fx_c2 : (2 : Int32).toNatClampNeg = 2 := by decide
theorem i_vc0 (k0 : Int32) (k1 : Int32) (k2 : Int32) : wpX_init (fun u => wpY_init (fun v => i_Rel 3 u v) k0 k1 k2) k0 k1 k2 := by
  obtain ⟨w, w1, w2, hW⟩ := fx_cl k0 (lo := 1) (hi := 64) (by decide) (by decide)
  obtain ⟨h, h1, h2, hH⟩ := fx_cl k1 (lo := 1) (hi := 8) (by decide) (by decide)
  obtain ⟨l, l1, l2, hL⟩ := fx_cl k2 (lo := 32) (hi := 2048) (by decide) (by decide)
  unfold wpX_init
  refine fx_X_cl hW ?_
  refine fx_X_cl hH ?_
  refine fx_X_cl hL ?_
  refine fx_X_mode ?_
  refine fx_X_white ?_
  refine fx_X_black ?_
  unfold wpX_restart
  refine fx_X_rewind (fun dec' g1 => ?_)
  refine hW (fun z => wY_init_56 (fun v => i_Rel 3 _ v) k1 k2 z 0 (fun _ => 0) (fun _ => 0) (fun _ => 0)) ?_
  refine ⟨vp_in_nI (n := 0) (by decide) (by decide), nm_r (e' := fx_pt (nI w) 0 0 0 0 0 0 0 0 0 0 0 0 0 0 0 0 0 0) (by rw [fx_c0, fx_pt0, fx_pt_u0]) ?_⟩
  refine hH (fun z => wY_init_83 (fun v => i_Rel 3 _ v) k2 z 1 _ (fun _ => 0) (fun _ => 0)) ?_
  refine ⟨vp_in_nI (n := 1) (by decide) (by decide), nm_r (e' := fx_pt (nI w) (nI h) 0 0 0 0 0 0 0 0 0 0 0 0 0 0 0 0 0) (by rw [fx_c1, fx_pt_u1]) ?_⟩
  refine hL (fun z => wY_init_114 (fun v => i_Rel 3 _ v) z 2 _ (fun _ => 0) (fun _ => 0)) ?_
  refine ⟨vp_in_nI (n := 2) (by decide) (by decide), nm_r (e' := fx_pt (nI w) (nI h) (nI l) 0 0 0 0 0 0 0 0 0 0 0 0 0 0 0 0) (by rw [fx_c2, fx_pt_u2]) ?_⟩
  refine nm_r fx_pt_u3 (nm_r fx_pt_u4 (nm_r fx_pt_u5 (nm_r fx_pt_u6 ?_)))
  refine fx_Y_rewind (fun d' g2 g3 => ?_)
  refine fx_in (cd := 0) (us := 0) (dot := d') (src := fun _ => 0) 3 (fx_fresh (dot := fun _ => 0) ⟨w1, w2, h1, h2, l1, l2⟩ (by omega) (by omega) (fun _ => Or.inl rfl) (fun r c hr hc => ?_) g1 g2 g3)
  rw [fx_t_0]; exact ⟨rfl, fun _ => rfl⟩
end
section
/-! the source page: setRow, paint, slant; the rows read as longs -/
theorem fx_ix3 (x : Int32) {n : Nat} (hn : n < 2 ^ 31) : x < 0 ∨ (¬ x < 0 ∧ ¬ x < nI n ∧ nI n ≤ x) ∨ ∃ j : Nat, j < n ∧ x = nI j := by
  rcases pk_ix x hn with a | a | a
  · exact Or.inl a
  · refine Or.inr (Or.inl ⟨?_, ?_, a⟩)
    · rw [Int32.lt_iff_toInt_lt, fx_i0]
      rw [Int32.le_iff_toInt_le, nI_toInt hn] at a
      omega
    · exact Int32.not_lt.mpr a
  · exact Or.inr (Or.inr a)
section
variable {part s : Nat → Int32} {w h j : Nat}
/-- a row written column by column -/
theorem fx_Y_col {dot d' : Nat → Int32} {c : Nat} {g : Nat → Bool} (H : ∀ i, d' i = if 0 * 512 + j * 64 + (c + 1) ≤ i ∧ i < 0 * 512 + j * 64 + w then fx_b (g (i - (0 * 512 + j * 64))) else fx_fl dot (0 * 512 + j * 64 + c) (0 * 512 + j * 64 + (c + 1)) (fx_b (g c)) i) (hc : c < w) : ∀ i, d' i = if 0 * 512 + j * 64 + c ≤ i ∧ i < 0 * 512 + j * 64 + w then fx_b (g (i - (0 * 512 + j * 64))) else dot i := by
  intro i
  rw [H i]
  unfold fx_fl
  by_cases z : i = 0 * 512 + j * 64 + c
  · subst z
    rw [if_neg (by omega), if_pos (by omega), if_pos (by omega), Nat.add_sub_cancel_left]
  · by_cases y : 0 * 512 + j * 64 + c ≤ i ∧ i < 0 * 512 + j * 64 + w
    · rw [if_pos (by omega), if_pos y]
    · rw [if_neg (by omega), if_neg (by omega), if_neg y]
theorem fx_Y_setl {post : Int32 → SY → Prop} {a1 : Int64} (e0 : part 0 = nI w) (e1 : part 1 = nI h) (hw : w ≤ 64) (hh : h ≤ 8) (hj : j < h) : ∀ d fuel c dot, d = w - c → c ≤ w → d < fuel → (∀ d', (∀ i, d' i = if 0 * 512 + j * 64 + c ≤ i ∧ i < 0 * 512 + j * 64 + w then fx_b (fx_t a1 (i - (0 * 512 + j * 64))) else dot i) → post 0 (part, d', s)) → wY_setRow_32 post (nI j) a1 fuel (nI c) part dot s := by
  intro d
  induction d with
  | zero =>
    intro fuel c dot hd hc hf H
    obtain ⟨fuel, rfl⟩ : ∃ n', fuel = n' + 1 := ⟨fuel - 1, by omega⟩
    exact br_t (by rw [e0]; exact nI_le (by omega) (by omega)) (H dot (fun i => (if_neg (by omega)).symm))
  | succ d ih =>
    intro fuel c dot hd hc hf H
    obtain ⟨fuel, rfl⟩ : ∃ n', fuel = n' + 1 := ⟨fuel - 1, by omega⟩
    refine br_f (by rw [e0]; exact nI_ge (by omega) (by omega)) (nm_r (fx_bit (by omega) a1) ?_)
    refine fx_Y_fill (p := 0) (r := j) (a := c) (b := c + 1) e0 e1 hw hh (by decide) hj (by omega) (by omega) rfl rfl rfl (nI_1 c) ?_
    refine nm_r (nI_1 c) (ih fuel (c + 1) _ (by omega) (by omega) (by omega) (fun d' hd' => H d' ?_))
    exact fx_Y_col (g := fx_t a1) hd' (by omega)
/-- the page after a row was written by columns g -/
theorem fx_PD_col {dot d' : Nat → Int32} {src : Nat → Int64} {y : Int64} {g : Nat → Bool} (P : fx_PD w 0 src dot) (hw : w ≤ 64) (hj : j < 8) (H : ∀ i, d' i = if 0 * 512 + j * 64 + 0 ≤ i ∧ i < 0 * 512 + j * 64 + w then fx_b (g (i - (0 * 512 + j * 64))) else dot i) (Y : ∀ c, c < 64 → fx_t y c = (decide (c < w) && g c)) : fx_PD w 0 (vp_updL src j y) d' ∧ fx_Chg 0 j dot d' := by
  have C : fx_Chg 0 j dot d' := fun i hi => by rw [H i, if_neg (by omega)]
  refine ⟨fx_PD_upd P C (fun c hc => ?_), C⟩
  rw [H, Y c hc, Nat.add_sub_cancel_left]
  by_cases z : c < w
  · rw [if_pos (by omega), decide_eq_true z, Bool.true_and]
    exact ⟨rfl, fun v => absurd v (by omega)⟩
  · rw [if_neg (by omega), decide_eq_false z, Bool.false_and]
    have := P j c hj hc
    rw [this.1, this.2 (by omega)]
    exact ⟨rfl, fun _ => rfl⟩
end
section
variable {w h l cd us t ro q pn pb m fr : Nat} {k : Bool} {fin unt st ph pas hor ver : Int32} {s dot : Nat → Int32} {src dec : Nat → Int64}
/-- a new source page -/
theorem fx_RR_src {src' : Nat → Int64} {d' : Nat → Int32} {j : Nat} (R : fx_RR w h l cd us t ro ph q pn pb m fr src s dec dot) (hj : j < 8) (P : fx_PD w 0 src' d') (C : fx_Chg 0 j dot d') : fx_RR w h l cd us t ro ph q pn pb m fr src' s dec d' := by
  obtain ⟨hS, hR, d1, d2, d3, d4, d5, d6, d7, d8, d9⟩ := R
  exact ⟨hS, hR, d1, d2, d3, d4, d5, d6, fx_PD_oth d7 (by decide) (by decide) (by decide) hj C, P, d9⟩
end
theorem i_vc_setRow {k : Nat} {u : SX} {v : SY} (I : i_Rel k u v) (hk : k + 5 ≤ 2563) (v1 : Int32) (a1 : Int64) : wpX_setRow (fun r u' => wpY_setRow (fun r' v' => r' = r ∧ i_Rel (k + 5) u' v') v v1 a1) u v1 a1 := by
  refine fx_el (P := fun u v => wpX_setRow (fun r u' => wpY_setRow (fun r' v' => r' = r ∧ i_Rel (k + 5) u' v') v v1 a1) u v1 a1) I ?_
  intro w h l cd us t ro q pn pb m fr c fin unt st ph pas hor ver s dot src dec R
  have R' := R
  obtain ⟨⟨s1, s2, s3, s4, s5, s6⟩, ⟨r1, r2, r3, r4, r5, r6, r7, r8⟩, d1, d2, d3, d4, d5, d6, d7, d8, d9⟩ := R'
  rcases fx_ix3 v1 (n := h) (by omega) with z | ⟨z1, z2, _⟩ | ⟨j, hj, rfl⟩
  · exact br_t z (br_t z ⟨rfl, fx_in _ R⟩)
  · exact br_f z1 (br_f z2 (br_f z1 (br_f z2 ⟨rfl, fx_in _ R⟩)))
  · have n0 : ¬ nI j < 0 := nI_pos (by omega)
    have n1 : nI j < nI h := nI_lt hj (by omega)
    by_cases y : cd ≤ j
    · have y' : nI cd ≤ nI j := nI_le y (by omega)
      refine br_f n0 (br_t n1 (br_t y' ?_))
      refine fx_X_span (a := 0) (b := w) (by omega) (by omega) ?_
      refine ⟨vp_in_nI (by omega) (by decide), nm_r (e' := vp_updL src j (a1 &&& fx_mk 0 w)) (by rw [nI_clamp (by omega)]) ?_⟩
      refine br_f n0 (br_t n1 (br_t y' ⟨w + 1, ?_⟩))
      refine fx_Y_setl (w := w) (h := h) rfl rfl s2 s4 hj w (w + 1) 0 dot rfl (by omega) (by omega) (fun d' hd' => ?_)
      refine ⟨rfl, ?_⟩
      have g := fx_PD_col (y := a1 &&& fx_mk 0 w) (g := fx_t a1) d8 s2 (by omega) hd' (fun c hc => by
        rw [fx_t_and, fx_mk_t (by omega) (by omega) hc, decide_eq_true (Nat.zero_le c), Bool.true_and, Bool.and_comm])
      exact fx_in _ (fx_RR_src R (j := j) (by omega) g.1 g.2)
    · have y' : ¬ nI cd ≤ nI j := nI_ge (by omega) (by omega)
      exact br_f n0 (br_t n1 (br_f y' (br_f n0 (br_t n1 (br_f y' ⟨rfl, fx_in _ R⟩)))))
theorem i_vc_paint {k : Nat} {u : SX} {v : SY} (I : i_Rel k u v) (hk : k + 5 ≤ 2563) (v1 : Int32) (v2 : Int32) (v3 : Int32) (v4 : Int32) : wpX_paint (fun r u' => wpY_paint (fun r' v' => r' = r ∧ i_Rel (k + 5) u' v') v v1 v2 v3 v4) u v1 v2 v3 v4 := by
  refine fx_el (P := fun u v => wpX_paint (fun r u' => wpY_paint (fun r' v' => r' = r ∧ i_Rel (k + 5) u' v') v v1 v2 v3 v4) u v1 v2 v3 v4) I ?_
  intro w h l cd us t ro q pn pb m fr c fin unt st ph pas hor ver s dot src dec R
  have R' := R
  obtain ⟨⟨s1, s2, s3, s4, s5, s6⟩, ⟨r1, r2, r3, r4, r5, r6, r7, r8⟩, d1, d2, d3, d4, d5, d6, d7, d8, d9⟩ := R'
  rcases fx_ix3 v1 (n := h) (by omega) with z | ⟨z1, z2, _⟩ | ⟨j, hj, rfl⟩
  · exact br_t z (br_t z ⟨rfl, fx_in _ R⟩)
  · exact br_f z1 (br_f z2 (br_f z1 (br_f z2 ⟨rfl, fx_in _ R⟩)))
  have n0 : ¬ nI j < 0 := nI_pos (by omega)
  have n1 : nI j < nI h := nI_lt hj (by omega)
  rcases fx_ix3 v2 (n := w) (by omega) with z | ⟨z1, z2, _⟩ | ⟨a, ha, rfl⟩
  · exact br_f n0 (br_t n1 (br_t z (br_f n0 (br_t n1 (br_t z ⟨rfl, fx_in _ R⟩)))))
  · exact br_f n0 (br_t n1 (br_f z1 (br_f z2 (br_f n0 (br_t n1 (br_f z1 (br_f z2 ⟨rfl, fx_in _ R⟩)))))))
  have m0 : ¬ nI a < 0 := nI_pos (by omega)
  have m1 : nI a < nI w := nI_lt ha (by omega)
  have es : nI w - nI a = nI (w - a) := pk_sub (by omega)
  by_cases z3 : v3 < 1
  · exact br_f n0 (br_t n1 (br_f m0 (br_t m1 (br_t z3 (br_f n0 (br_t n1 (br_f m0 (br_t m1 (br_t z3 ⟨rfl, fx_in _ R⟩)))))))))
  have z3' : ¬ v3 < 0 := by
    rw [Int32.lt_iff_toInt_lt, fx_i1] at z3
    rw [Int32.lt_iff_toInt_lt, fx_i0]
    omega
  obtain ⟨n, hn, rfl⟩ := nI_of z3'
  have hn1 : 1 ≤ n := by
    rw [Int32.lt_iff_toInt_lt, fx_i1, nI_toInt hn] at z3
    omega
  by_cases z4 : n ≤ w - a
  · have z4' : nI n ≤ nI w - nI a := by rw [es]; exact nI_le z4 (by omega)
    by_cases y : cd ≤ j
    · have y' : nI cd ≤ nI j := nI_le y (by omega)
      have hv : vp_in (nI j) 8 := vp_in_nI (by omega) (by decide)
      have main : ∀ b : Bool, wX_paint_58 (fun r u' => wpY_paint (fun r' v' => r' = r ∧ i_Rel (k + 5) u' v') ((fx_pt (nI w) (nI h) (nI l) (nI us) (nI cd) fin unt st (nI t) (nI ro) ph (fx_m q) (fx_b c) (nI pn) (nI m) (nI fr) pas hor ver), dot, s) (nI j) (nI a) (nI n) (fx_b b)) (nI j) (nI a) (nI n) (fx_b b) (nI w) (nI h) (nI l) (nI cd) fin (nI us) unt st (nI t) (nI ro) ph (fx_m q) (fx_b c) (nI pn) (nI pb) (nI m) (nI fr) pas hor ver fx_WB fx_WS src s dec := by
        intro b
        have fin' : ∀ src', src' = vp_updL src j (fx_fw (src j) a (a + n) b) → wpY_paint (fun r' v' => r' = 0 ∧ i_Rel (k + 5) ((nI w), (nI h), (nI l), (nI cd), fin, (nI us), unt, st, (nI t), (nI ro), ph, (fx_m q), (fx_b c), (nI pn), (nI pb), (nI m), (nI fr), pas, hor, ver, fx_WB, fx_WS, src', s, dec) v') ((fx_pt (nI w) (nI h) (nI l) (nI us) (nI cd) fin unt st (nI t) (nI ro) ph (fx_m q) (fx_b c) (nI pn) (nI m) (nI fr) pas hor ver), dot, s) (nI j) (nI a) (nI n) (fx_b b) := by
          intro src' es'
          have Y0 : wY_paint_64 (fun r' v' => r' = 0 ∧ i_Rel (k + 5) ((nI w), (nI h), (nI l), (nI cd), fin, (nI us), unt, st, (nI t), (nI ro), ph, (fx_m q), (fx_b c), (nI pn), (nI pb), (nI m), (nI fr), pas, hor, ver, fx_WB, fx_WS, src', s, dec) v') (nI j) (nI a) (nI n) (fx_b b) (fx_pt (nI w) (nI h) (nI l) (nI us) (nI cd) fin unt st (nI t) (nI ro) ph (fx_m q) (fx_b c) (nI pn) (nI m) (nI fr) pas hor ver) dot s := by
            refine br_t y' ?_
            refine fx_Y_fill (p := 0) (r := j) (a := a) (b := a + n) (h := h) (w := w) rfl rfl s2 s4 (by decide) hj (by omega) (by omega) rfl rfl rfl (nI_add a n) ⟨rfl, ?_⟩
            refine fx_in _ (fx_RR_src R (j := j) (by omega) ?_ (fx_fl_chg (by omega)))
            rw [es']
            exact fx_PD_fill d8 (by omega) s2 (by omega) (by omega)
          refine br_f n0 (br_t n1 (br_f m0 (br_t m1 (br_f z3 (br_t z4' ?_)))))
          cases b
          · exact br_t rfl Y0
          · exact br_f (by decide) (br_t rfl Y0)
        refine br_t y' ?_
        rw [nI_add]
        refine fx_X_span (a := a) (b := a + n) (by omega) (by omega) ?_
        rw [nI_clamp (by omega)]
        cases b
        · exact br_f (by decide) ⟨hv, hv, fin'⟩
        · exact br_t rfl ⟨hv, hv, fin'⟩
      refine br_f n0 (br_t n1 (br_f m0 (br_t m1 (br_f z3 (br_t z4' ?_)))))
      by_cases c0 : v4 = 0
      · subst c0; exact br_t rfl (main false)
      · by_cases c1 : v4 = 1
        · subst c1; exact br_f c0 (br_t rfl (main true))
        · refine br_f c0 (br_f c1 (br_f n0 (br_t n1 (br_f m0 (br_t m1 (br_f z3 (br_t z4' (br_f c0 (br_f c1 ⟨rfl, fx_in _ R⟩)))))))))
    · have y' : ¬ nI cd ≤ nI j := nI_ge (by omega) (by omega)
      refine br_f n0 (br_t n1 (br_f m0 (br_t m1 (br_f z3 (br_t z4' ?_)))))
      by_cases c0 : v4 = 0
      · exact br_t c0 (br_f y' (br_f n0 (br_t n1 (br_f m0 (br_t m1 (br_f z3 (br_t z4' (br_t c0 (br_f y' ⟨rfl, fx_in _ R⟩)))))))))
      · by_cases c1 : v4 = 1
        · exact br_f c0 (br_t c1 (br_f y' (br_f n0 (br_t n1 (br_f m0 (br_t m1 (br_f z3 (br_t z4' (br_f c0 (br_t c1 (br_f y' ⟨rfl, fx_in _ R⟩)))))))))))
        · exact br_f c0 (br_f c1 (br_f n0 (br_t n1 (br_f m0 (br_t m1 (br_f z3 (br_t z4' (br_f c0 (br_f c1 ⟨rfl, fx_in _ R⟩)))))))))
  · have z4' : ¬ nI n ≤ nI w - nI a := by rw [es]; exact nI_ge (by omega) hn
    exact br_f n0 (br_t n1 (br_f m0 (br_t m1 (br_f z3 (br_f z4' (br_f n0 (br_t n1 (br_f m0 (br_t m1 (br_f z3 (br_f z4' ⟨rfl, fx_in _ R⟩)))))))))))
end
section
/-! slant, sourceRow, decodedRow -/
theorem fx_neg_i {w : Nat} (h : w < 2 ^ 30) : (-nI w).toInt = -(w : Int) := by
  rw [Int32.toInt_neg, nI_toInt (by omega)]
  exact Int.bmod_eq_of_le (by omega) (by omega)
theorem fx_sub_i {x y : Int32} (h1 : -1000 ≤ x.toInt) (h2 : x.toInt ≤ 1000) (h3 : -1000 ≤ y.toInt) (h4 : y.toInt ≤ 1000) : (x - y).toInt = x.toInt - y.toInt := by
  rw [Int32.toInt_sub]
  exact Int.bmod_eq_of_le (by omega) (by omega)
section
variable {part dot s : Nat → Int32} {w h j : Nat}
/-- column c of a row moved by b -/
def fx_mv (w : Nat) (ab : Int64) (b : Int) (c : Nat) : Bool := decide (0 ≤ (c : Int) - b) && (decide ((c : Int) - b < w) && fx_t ab ((c : Int) - b).toNat)
theorem fx_Y_px {post : Int32 → Prop} {r : Nat} {x : Int32} {ab : Int64} (e0 : part 0 = nI w) (e1 : part 1 = nI h) (hw : w ≤ 64) (hh : h ≤ 8) (hr : r < h) (E : ∀ c, c < 64 → dot (0 * 512 + r * 64 + c) = fx_b (fx_t ab c)) (hp : post (fx_b (decide (0 ≤ x.toInt) && (decide (x.toInt < w) && fx_t ab x.toInt.toNat)))) : wpY_pixel post (part, dot, s) 0 (nI r) x := by
  refine br_f (nI_pos (by omega)) (br_f (by rw [e1]; exact nI_ge hr (by omega)) ?_)
  by_cases z : x < 0
  · refine br_t z ?_
    rw [Int32.lt_iff_toInt_lt, fx_i0] at z
    rw [decide_eq_false (by omega)] at hp
    exact hp
  · obtain ⟨n, hn, rfl⟩ := nI_of z
    rw [nI_toInt hn, decide_eq_true (by omega), Bool.true_and, Int.toNat_natCast] at hp
    refine br_f z (ek_if (d := n < w) (by rw [e0]; exact nI_ltI hn (by omega)) (fun y => ?_) (fun y => ?_))
    · rw [decide_eq_true (by omega), Bool.true_and] at hp
      have ei : (((0 : Int32) * 512) + (nI r * 64)) + nI n = nI (0 * 512 + r * 64 + n) := fx_idx 0 r n
      rw [ei, nI_clamp (by omega), E n (by omega)]
      exact ⟨vp_in_nI (by omega) (by omega), hp⟩
    · rw [decide_eq_false (by omega)] at hp
      exact hp
theorem fx_Y_slal {post : Int32 → SY → Prop} {ab : Int64} {v2 : Int32} {b : Int} (eb : v2.toInt = b) (hb1 : -100 ≤ b) (hb2 : b ≤ 100) (e0 : part 0 = nI w) (e1 : part 1 = nI h) (hw : w ≤ 64) (hh : h ≤ 8) (hj : j + 1 < h) : ∀ d fuel c dot, d = w - c → c ≤ w → d < fuel → (∀ c, c < 64 → dot (0 * 512 + j * 64 + c) = fx_b (fx_t ab c)) → (∀ d', (∀ i, d' i = if 0 * 512 + (j + 1) * 64 + c ≤ i ∧ i < 0 * 512 + (j + 1) * 64 + w then fx_b (fx_mv w ab b (i - (0 * 512 + (j + 1) * 64))) else dot i) → post 0 (part, d', s)) → wY_slant_55 post (nI (j + 1)) v2 fuel (nI c) part dot s := by
  intro d
  induction d with
  | zero =>
    intro fuel c dot hd hc hf E H
    obtain ⟨fuel, rfl⟩ : ∃ n', fuel = n' + 1 := ⟨fuel - 1, by omega⟩
    exact br_t (by rw [e0]; exact nI_le (by omega) (by omega)) (H dot (fun i => (if_neg (by omega)).symm))
  | succ d ih =>
    intro fuel c dot hd hc hf E H
    obtain ⟨fuel, rfl⟩ : ∃ n', fuel = n' + 1 := ⟨fuel - 1, by omega⟩
    refine br_f (by rw [e0]; exact nI_ge (by omega) (by omega)) ?_
    rw [nI_pred]
    have ex : (nI c - v2).toInt = (c : Int) - b := by
      rw [fx_sub_i (by rw [nI_toInt (by omega)]; omega) (by rw [nI_toInt (by omega)]; omega) (by omega) (by omega), nI_toInt (by omega), eb]
    refine fx_Y_px e0 e1 hw hh (by omega) E ?_
    rw [ex]
    refine fx_Y_fill (p := 0) (r := j + 1) (a := c) (b := c + 1) e0 e1 hw hh (by decide) hj (by omega) (by omega) rfl rfl rfl (nI_1 c) ?_
    refine nm_r (nI_1 c) (ih fuel (c + 1) _ (by omega) (by omega) (by omega) (fun c' hc' => ?_) (fun d' hd' => H d' ?_))
    · rw [← E c' hc']
      exact if_neg (by omega)
    · exact fx_Y_col (g := fx_mv w ab b) hd' (by omega)
end
theorem i_vc_slant {k : Nat} {u : SX} {v : SY} (I : i_Rel k u v) (hk : k + 5 ≤ 2563) (v1 : Int32) (v2 : Int32) : wpX_slant (fun r u' => wpY_slant (fun r' v' => r' = r ∧ i_Rel (k + 5) u' v') v v1 v2) u v1 v2 := by
  refine fx_el (P := fun u v => wpX_slant (fun r u' => wpY_slant (fun r' v' => r' = r ∧ i_Rel (k + 5) u' v') v v1 v2) u v1 v2) I ?_
  intro w h l cd us t ro q pn pb m fr c fin unt st ph pas hor ver s dot src dec R
  have R' := R
  obtain ⟨⟨s1, s2, s3, s4, s5, s6⟩, ⟨r1, r2, r3, r4, r5, r6, r7, r8⟩, d1, d2, d3, d4, d5, d6, d7, d8, d9⟩ := R'
  by_cases z1 : v1 < 1
  · exact br_t z1 (br_t z1 ⟨rfl, fx_in _ R⟩)
  have z1' : ¬ v1 < 0 := by
    rw [Int32.lt_iff_toInt_lt, fx_i1] at z1
    rw [Int32.lt_iff_toInt_lt, fx_i0]
    omega
  obtain ⟨j1, hj1, rfl⟩ := nI_of z1'
  have g1 : 1 ≤ j1 := by
    rw [Int32.lt_iff_toInt_lt, fx_i1, nI_toInt hj1] at z1
    omega
  obtain ⟨j, rfl⟩ : ∃ j, j1 = j + 1 := ⟨j1 - 1, by omega⟩
  by_cases hj : j + 1 < h
  case neg =>
    have n1 : ¬ nI (j + 1) < nI h := nI_nlt (by omega) hj1
    exact br_f z1 (br_f n1 (br_f z1 (br_f n1 ⟨rfl, fx_in _ R⟩)))
  have n1 : nI (j + 1) < nI h := nI_lt hj (by omega)
  by_cases z2 : v2 < -nI w
  · exact br_f z1 (br_t n1 (br_t z2 (br_f z1 (br_t n1 (br_t z2 ⟨rfl, fx_in _ R⟩)))))
  by_cases z3 : v2 ≤ nI w
  case neg =>
    exact br_f z1 (br_t n1 (br_f z2 (br_f z3 (br_f z1 (br_t n1 (br_f z2 (br_f z3 ⟨rfl, fx_in _ R⟩)))))))
  by_cases y : cd ≤ j + 1
  case neg =>
    have y' : ¬ nI cd ≤ nI (j + 1) := nI_ge (by omega) (by omega)
    exact br_f z1 (br_t n1 (br_f z2 (br_t z3 (br_f y' (br_f z1 (br_t n1 (br_f z2 (br_t z3 (br_f y' ⟨rfl, fx_in _ R⟩)))))))))
  have y' : nI cd ≤ nI (j + 1) := nI_le y (by omega)
  obtain ⟨b, eb⟩ : ∃ b, v2.toInt = b := ⟨_, rfl⟩
  have b1 : -(w : Int) ≤ b := by
    rw [Int32.lt_iff_toInt_lt, fx_neg_i (by omega)] at z2
    omega
  have b2 : b ≤ w := by
    rw [Int32.le_iff_toInt_le, nI_toInt (by omega)] at z3
    omega
  have hv : vp_in (nI (j + 1)) 8 := vp_in_nI (by omega) (by decide)
  have main : ∀ mv : Int64, (∀ c, c < w → fx_t mv c = fx_mv w (src j) b c) → wX_slant_106 (fun r u' => wpY_slant (fun r' v' => r' = r ∧ i_Rel (k + 5) u' v') ((fx_pt (nI w) (nI h) (nI l) (nI us) (nI cd) fin unt st (nI t) (nI ro) ph (fx_m q) (fx_b c) (nI pn) (nI m) (nI fr) pas hor ver), dot, s) (nI (j + 1)) v2) (nI (j + 1)) (fx_mk 0 w) mv (nI w) (nI h) (nI l) (nI cd) fin (nI us) unt st (nI t) (nI ro) ph (fx_m q) (fx_b c) (nI pn) (nI pb) (nI m) (nI fr) pas hor ver fx_WB fx_WS src s dec := by
    intro mv hmv
    refine ⟨hv, nm_r (e' := vp_updL src (j + 1) (mv &&& fx_mk 0 w)) (by rw [nI_clamp (by omega)]) ?_⟩
    refine br_f z1 (br_t n1 (br_f z2 (br_t z3 (br_t y' ⟨w + 1, ?_⟩))))
    refine fx_Y_slal (w := w) (h := h) (ab := src j) eb (by omega) (by omega) rfl rfl s2 s4 hj w (w + 1) 0 dot rfl (by omega) (by omega) (fun c hc => (d8 j c (by omega) hc).1) (fun d' hd' => ?_)
    refine ⟨rfl, ?_⟩
    have g := fx_PD_col (j := j + 1) (y := mv &&& fx_mk 0 w) (g := fx_mv w (src j) b) d8 s2 (by omega) hd' (fun c hc => by
      rw [fx_t_and, fx_mk_t (by omega) (by omega) hc, decide_eq_true (Nat.zero_le c), Bool.true_and, Bool.and_comm]
      by_cases x : c < w
      · rw [hmv c x]
      · rw [decide_eq_false x, Bool.false_and, Bool.false_and])
    exact fx_in _ (fx_RR_src R (j := j + 1) (by omega) g.1 g.2)
  refine br_f z1 (br_t n1 (br_f z2 (br_t z3 (br_t y' ?_))))
  rw [nI_pred, nI_clamp (by omega)]
  refine ⟨vp_in_nI (by omega) (by decide), nm_e ?_⟩
  refine fx_X_span (a := 0) (b := w) (by omega) (by omega) ?_
  by_cases e1 : v2 = nI w
  · have eb' : b = w := by rw [← eb, e1, nI_toInt (by omega)]
    refine br_t e1 (main 0 (fun c hc => ?_))
    rw [fx_t_0]; unfold fx_mv
    rw [decide_eq_false (by omega)]; rfl
  · have eb1 : b ≠ w := by
      intro x
      exact e1 (Int32.toInt_inj.mp (by rw [eb, x, nI_toInt (by omega)]))
    refine br_f e1 ?_
    by_cases e2 : v2 = -nI w
    · have eb' : b = -(w : Int) := by rw [← eb, e2, fx_neg_i (by omega)]
      refine br_t e2 (main 0 (fun c hc => ?_))
      rw [fx_t_0]; unfold fx_mv
      rw [decide_eq_true (by omega), decide_eq_false (by omega)]; rfl
    · have eb2 : b ≠ -(w : Int) := by
        intro x
        exact e2 (Int32.toInt_inj.mp (by rw [eb, x, fx_neg_i (by omega)]))
      refine br_f e2 ?_
      by_cases e3 : v2 < 0
      · have b3 : b < 0 := by rw [Int32.lt_iff_toInt_lt, fx_i0, eb] at e3; exact e3
        obtain ⟨n, hn⟩ : ∃ n : Nat, b = -(n : Int) := ⟨b.natAbs, by omega⟩
        have en : -v2 = nI n := by
          apply Int32.toInt_inj.mp
          rw [Int32.toInt_neg, eb, nI_toInt (by omega), Int.bmod_eq_of_le (by omega) (by omega)]
          omega
        refine br_t e3 (nm_e (main _ (fun c hc => ?_)))
        rw [en, fx_t_ushr (by omega)]
        unfold fx_mv
        rw [decide_eq_true (by omega), Bool.true_and, show ((c : Int) - b).toNat = n + c by omega]
        by_cases x : n + c < w
        · rw [decide_eq_true (by omega), Bool.true_and]
        · rw [decide_eq_false (by omega), Bool.false_and]
          rcases Nat.lt_or_ge (n + c) 64 with x2 | x2
          · exact (d8 j (n + c) (by omega) x2).2 (by omega)
          · exact fx_t_big x2
      · obtain ⟨n, hn, hn'⟩ := nI_of e3
        have hb : b = n := by rw [← eb, hn', nI_toInt hn]
        refine br_f e3 (nm_e (main _ (fun c hc => ?_)))
        rw [hn', fx_t_shl (by omega) _ (by omega)]
        unfold fx_mv
        by_cases x : n ≤ c
        · rw [decide_eq_true x, decide_eq_true (show 0 ≤ (c : Int) - b by omega), decide_eq_true (show (c : Int) - b < w by omega), show ((c : Int) - b).toNat = c - n by omega, Bool.true_and, Bool.true_and]
        · rw [decide_eq_false x, decide_eq_false (by omega)]; rfl
/-! a row as a long -/
section
variable {part dot s : Nat → Int32} {p r : Int32} {f : Nat → Bool} {w : Nat}
theorem fx_Y_rb {post : Int64 → Prop} (R : fx_Row (part, dot, s) p r f w) (e0 : part 0 = nI w) (hw : w ≤ 64) : ∀ d fuel c x, d = w - c → c ≤ w → d < fuel → (∀ y, (∀ i, i < 64 → fx_t y i = (fx_t x i || (decide (c ≤ i) && (decide (i < w) && f i)))) → post y) → wY_rowBits_5 post p r part dot s fuel x (nI c) := by
  intro d
  induction d with
  | zero =>
    intro fuel c x hd hc hf H
    obtain ⟨fuel, rfl⟩ : ∃ n', fuel = n' + 1 := ⟨fuel - 1, by omega⟩
    refine br_t (by rw [e0]; exact nI_le (by omega) (by omega)) (H x (fun i hi => ?_))
    by_cases z : c ≤ i
    · rw [decide_eq_false (show ¬ i < w by omega)]; simp
    · rw [decide_eq_false z]; simp
  | succ d ih =>
    intro fuel c x hd hc hf H
    obtain ⟨fuel, rfl⟩ : ∃ n', fuel = n' + 1 := ⟨fuel - 1, by omega⟩
    refine br_f (by rw [e0]; exact nI_ge (by omega) (by omega)) ?_
    refine fx_Row_n R (by omega) ?_
    refine ek_if (fx_b_1 _) (fun z => ?_) (fun z => ?_)
    · refine nm_e (nm_r (nI_1 c) (ih fuel (c + 1) _ (by omega) (by omega) (by omega) (fun y hy => H y (fun i hi => ?_))))
      rw [hy i hi, fx_t_or, fx_t_one (by omega) hi]
      by_cases v : i = c
      · subst v
        rw [decide_eq_true (show i ≤ i by omega), decide_eq_true (show i < w by omega), z]; simp
      · rw [decide_eq_false v]
        by_cases v2 : c ≤ i
        · rw [decide_eq_true v2, decide_eq_true (show c + 1 ≤ i by omega)]; simp
        · rw [decide_eq_false v2, decide_eq_false (show ¬ c + 1 ≤ i by omega)]; simp
    · have z' : f c = false := by
        cases hf : f c
        · rfl
        · exact absurd hf z
      refine nm_r (nI_1 c) (ih fuel (c + 1) _ (by omega) (by omega) (by omega) (fun y hy => H y (fun i hi => ?_)))
      rw [hy i hi]
      by_cases v : i = c
      · subst v
        rw [decide_eq_false (show ¬ i + 1 ≤ i by omega), z']; simp
      · by_cases v2 : c ≤ i
        · rw [decide_eq_true v2, decide_eq_true (show c + 1 ≤ i by omega)]
        · rw [decide_eq_false v2, decide_eq_false (show ¬ c + 1 ≤ i by omega)]
theorem fx_Y_rowBits {post : Int64 → Prop} (x : Int64) (R : fx_Row (part, dot, s) p r f w) (e0 : part 0 = nI w) (hw : w ≤ 64) (hx : ∀ i, i < 64 → fx_t x i = (decide (i < w) && f i)) (hp : post x) : wpY_rowBits post (part, dot, s) p r := by
  refine ⟨w + 1, fx_Y_rb R e0 hw w (w + 1) 0 0 rfl (by omega) (by omega) (fun y hy => ?_)⟩
  have e : y = x := fx_t_ext (fun i hi => by
    rw [hy i hi, hx i hi, fx_t_0, decide_eq_true (Nat.zero_le i), Bool.true_and, Bool.false_or])
  rw [e]; exact hp
theorem fx_rb_pd {a : Nat → Int64} {dot : Nat → Int32} {w p r : Nat} (P : fx_PD w p a dot) (hr : r < 8) : ∀ i, i < 64 → fx_t (a r) i = (decide (i < w) && fx_t (a r) i) := by
  intro i hi
  by_cases z : i < w
  · rw [decide_eq_true z, Bool.true_and]
  · rw [(P r i hr hi).2 (by omega), Bool.and_false]
end
theorem i_vc_sourceRow {k : Nat} {u : SX} {v : SY} (I : i_Rel k u v) (hk : k + 5 ≤ 2563) (v1 : Int32) : wpX_sourceRow (fun r => wpY_sourceRow (fun r' => r' = r ∧ i_Rel (k + 5) u v) v v1) u v1 := by
  refine fx_el (P := fun u v => wpX_sourceRow (fun r => wpY_sourceRow (fun r' => r' = r ∧ i_Rel (k + 5) u v) v v1) u v1) I ?_
  intro w h l cd us t ro q pn pb m fr c fin unt st ph pas hor ver s dot src dec R
  have R' := R
  obtain ⟨⟨s1, s2, s3, s4, s5, s6⟩, ⟨r1, r2, r3, r4, r5, r6, r7, r8⟩, d1, d2, d3, d4, d5, d6, d7, d8, d9⟩ := R'
  have out : (v1 < 0 ∨ nI h ≤ v1) → wpY_sourceRow (fun r' => r' = 0 ∧ i_Rel (k + 5) ((nI w), (nI h), (nI l), (nI cd), fin, (nI us), unt, st, (nI t), (nI ro), ph, (fx_m q), (fx_b c), (nI pn), (nI pb), (nI m), (nI fr), pas, hor, ver, fx_WB, fx_WS, src, s, dec) ((fx_pt (nI w) (nI h) (nI l) (nI us) (nI cd) fin unt st (nI t) (nI ro) ph (fx_m q) (fx_b c) (nI pn) (nI m) (nI fr) pas hor ver), dot, s)) ((fx_pt (nI w) (nI h) (nI l) (nI us) (nI cd) fin unt st (nI t) (nI ro) ph (fx_m q) (fx_b c) (nI pn) (nI m) (nI fr) pas hor ver), dot, s) v1 := by
    intro z
    unfold wpY_sourceRow
    exact fx_Y_rowBits 0 (fx_row_out (h := h) rfl z) rfl s2 (fun i hi => by rw [fx_t_0, Bool.and_false]) ⟨rfl, fx_in _ R⟩
  rcases fx_ix3 v1 (n := h) (by omega) with z | ⟨z1, z2, z3⟩ | ⟨j, hj, rfl⟩
  · exact br_t z (out (Or.inl z))
  · exact br_f z1 (br_f z2 (out (Or.inr z3)))
  · refine br_f (nI_pos (by omega)) (br_t (nI_lt hj (by omega)) ?_)
    rw [nI_clamp (by omega)]
    refine ⟨vp_in_nI (by omega) (by decide), ?_⟩
    unfold wpY_sourceRow
    exact fx_Y_rowBits (src j) (fx_row_pd (p := 0) rfl rfl s2 s4 (by decide) hj d8) rfl s2 (fx_rb_pd d8 (by omega)) ⟨rfl, fx_in _ R⟩
theorem i_vc_decodedRow {k : Nat} {u : SX} {v : SY} (I : i_Rel k u v) (hk : k + 5 ≤ 2563) (v1 : Int32) : wpX_decodedRow (fun r => wpY_decodedRow (fun r' => r' = r ∧ i_Rel (k + 5) u v) v v1) u v1 := by
  refine fx_el (P := fun u v => wpX_decodedRow (fun r => wpY_decodedRow (fun r' => r' = r ∧ i_Rel (k + 5) u v) v v1) u v1) I ?_
  intro w h l cd us t ro q pn pb m fr c fin unt st ph pas hor ver s dot src dec R
  have R' := R
  obtain ⟨⟨s1, s2, s3, s4, s5, s6⟩, ⟨r1, r2, r3, r4, r5, r6, r7, r8⟩, d1, d2, d3, d4, d5, d6, d7, d8, d9⟩ := R'
  have out : (v1 < 0 ∨ nI h ≤ v1) → wpY_decodedRow (fun r' => r' = 0 ∧ i_Rel (k + 5) ((nI w), (nI h), (nI l), (nI cd), fin, (nI us), unt, st, (nI t), (nI ro), ph, (fx_m q), (fx_b c), (nI pn), (nI pb), (nI m), (nI fr), pas, hor, ver, fx_WB, fx_WS, src, s, dec) ((fx_pt (nI w) (nI h) (nI l) (nI us) (nI cd) fin unt st (nI t) (nI ro) ph (fx_m q) (fx_b c) (nI pn) (nI m) (nI fr) pas hor ver), dot, s)) ((fx_pt (nI w) (nI h) (nI l) (nI us) (nI cd) fin unt st (nI t) (nI ro) ph (fx_m q) (fx_b c) (nI pn) (nI m) (nI fr) pas hor ver), dot, s) v1 := by
    intro z
    unfold wpY_decodedRow
    exact fx_Y_rowBits 0 (fx_row_out (h := h) rfl z) rfl s2 (fun i hi => by rw [fx_t_0, Bool.and_false]) ⟨rfl, fx_in _ R⟩
  rcases fx_ix3 v1 (n := h) (by omega) with z | ⟨z1, z2, z3⟩ | ⟨j, hj, rfl⟩
  · exact br_t z (out (Or.inl z))
  · exact br_f z1 (br_t z3 (out (Or.inr z3)))
  · have inn : wpY_decodedRow (fun r' => r' = dec j ∧ i_Rel (k + 5) ((nI w), (nI h), (nI l), (nI cd), fin, (nI us), unt, st, (nI t), (nI ro), ph, (fx_m q), (fx_b c), (nI pn), (nI pb), (nI m), (nI fr), pas, hor, ver, fx_WB, fx_WS, src, s, dec) ((fx_pt (nI w) (nI h) (nI l) (nI us) (nI cd) fin unt st (nI t) (nI ro) ph (fx_m q) (fx_b c) (nI pn) (nI m) (nI fr) pas hor ver), dot, s)) ((fx_pt (nI w) (nI h) (nI l) (nI us) (nI cd) fin unt st (nI t) (nI ro) ph (fx_m q) (fx_b c) (nI pn) (nI m) (nI fr) pas hor ver), dot, s) (nI j) := by
      unfold wpY_decodedRow
      exact fx_Y_rowBits (dec j) (fx_row_pd (p := 1) rfl rfl s2 s4 (by decide) hj d7) rfl s2 (fx_rb_pd d7 (by omega)) ⟨rfl, fx_in _ R⟩
    refine br_f (nI_pos (by omega)) (br_f (nI_ge hj (by omega)) ?_)
    by_cases z : j ≤ ro
    · refine br_t (nI_le z (by omega)) ?_
      rw [nI_clamp (by omega)]
      exact ⟨vp_in_nI (by omega) (by decide), inn⟩
    · rw [d9 j (by omega) (by omega)] at inn
      exact br_f (nI_ge (by omega) (by omega)) inn
end
section
/-! the coder and the stream -/
section
variable {w h l cd us t ro q pn pb m fr : Nat} {k : Bool} {fin unt st ph pas hor ver : Int32} {s dot : Nat → Int32} {src dec : Nat → Int64}
/-- the stream grew -/
theorem fx_RR_app {z' : Nat × (Nat → Int32)} (R : fx_RR w h l cd us t ro ph q pn pb m fr src s dec dot) (K : fx_K l (us, s) z') : fx_RR w h l cd z'.1 t ro ph q pn pb m fr src z'.2 dec dot := by
  obtain ⟨hS, ⟨r1, r2, r3, r4, r5, r6, r7, r8⟩, D⟩ := R
  obtain ⟨k1, k2, k3, k4⟩ := K
  refine ⟨hS, ⟨r1, k2 r2, Nat.le_trans r3 k1, r4, r5, r6, ?_, k4 r8⟩, D⟩
  rw [r7]
  exact (fx_vl_c pn (fun i hi => k3 _ (Nat.lt_of_lt_of_le (by omega) r3))).symm
theorem fx_RR_cd {cd' : Nat} (R : fx_RR w h l cd us t ro ph q pn pb m fr src s dec dot) (hc : cd' ≤ h) : fx_RR w h l cd' us t ro ph q pn pb m fr src s dec dot := by
  obtain ⟨hS, ⟨r1, r2, r3, r4, r5, r6, r7, r8⟩, D⟩ := R
  exact ⟨hS, ⟨hc, r2, r3, r4, r5, r6, r7, r8⟩, D⟩
theorem fx_codeRow (e : Bool) (R : fx_RR w h l cd us t ro ph q pn pb m fr src s dec dot) (hc : cd < h) :
    ∃ (tot : Nat) (z' : Nat × (Nat → Int32)), tot ≤ 7800 ∧ fx_K l (us, s) z' ∧ (e = false → z' = (us, s)) ∧
    (∀ post, post (nI tot) ((nI w), (nI h), (nI l), (nI cd), fin, (nI z'.1), unt, st, (nI t), (nI ro), ph, (fx_m q), (fx_b k), (nI pn), (nI pb), (nI m), (nI fr), pas, hor, ver, fx_WB, fx_WS, src, z'.2, dec) → wpX_codeRow post ((nI w), (nI h), (nI l), (nI cd), fin, (nI us), unt, st, (nI t), (nI ro), ph, (fx_m q), (fx_b k), (nI pn), (nI pb), (nI m), (nI fr), pas, hor, ver, fx_WB, fx_WS, src, s, dec) (fx_b e)) ∧
    (∀ post, post (nI tot) ((fx_pt (nI w) (nI h) (nI l) (nI z'.1) (nI cd) fin unt st (nI t) (nI ro) ph (fx_m q) (fx_b k) (nI pn) (nI m) (nI fr) pas hor ver), dot, z'.2) → wpY_codeRow post ((fx_pt (nI w) (nI h) (nI l) (nI us) (nI cd) fin unt st (nI t) (nI ro) ph (fx_m q) (fx_b k) (nI pn) (nI m) (nI fr) pas hor ver), dot, s) (fx_b e)) := by
  obtain ⟨⟨s1, s2, s3, s4, s5, s6⟩, ⟨r1, r2, r3, r4, r5, r6, r7, r8⟩, d1, d2, d3, d4, d5, d6, d7, d8, d9⟩ := R
  obtain ⟨tot, z', i1, i2, i3, iX, iY⟩ := fx_code (fin := fin) (unt := unt) (st := st) (t := t) (ro := ro) (ph := ph) (q := q) (k := k) (pn := pn) (pb := pb) (m := m) (fr := fr) (pas := pas) (hor := hor) (ver := ver) (dec := dec) e s2 s4 s6 hc d8 65 (by omega) 0 false 0 us s (by omega) r2
  refine ⟨tot, z', by omega, i2, i3, fun post hp => ?_, fun post hp => ?_⟩
  · have hX := iX post 66 (by omega) hp
    refine ⟨vp_in_nI (by omega) (by decide), nm_r (e' := src cd) (by rw [nI_clamp (by omega)]) ?_⟩
    by_cases z : cd = 0
    · unfold fx_up at hX
      rw [if_pos z] at hX
      exact br_t (by rw [z]; decide) ⟨66, hX⟩
    · unfold fx_up at hX
      rw [if_neg z] at hX
      obtain ⟨c, rfl⟩ : ∃ c, cd = c + 1 := ⟨cd - 1, by omega⟩
      refine br_f (nI_nle (by omega) (by omega)) ?_
      rw [nI_pred, nI_clamp (by omega)]
      exact ⟨vp_in_nI (by omega) (by decide), ⟨66, hX⟩⟩
  · exact nm_r (e' := nI cd) rfl ⟨66, iY post 66 (by omega) hp⟩
end
theorem i_vc_encodeRow {k : Nat} {u : SX} {v : SY} (I : i_Rel k u v) (hk : k + 5 ≤ 2563) : wpX_encodeRow (fun r u' => wpY_encodeRow (fun r' v' => r' = r ∧ i_Rel (k + 5) u' v') v) u := by
  refine fx_el (P := fun u v => wpX_encodeRow (fun r u' => wpY_encodeRow (fun r' v' => r' = r ∧ i_Rel (k + 5) u' v') v) u) I ?_
  intro w h l cd us t ro q pn pb m fr c fin unt st ph pas hor ver s dot src dec R
  have R' := R
  obtain ⟨⟨s1, s2, s3, s4, s5, s6⟩, ⟨r1, r2, r3, r4, r5, r6, r7, r8⟩, d1, d2, d3, d4, d5, d6, d7, d8, d9⟩ := R'
  have m4 : ¬ (0 : Int32) ≤ -4 := by decide
  by_cases zf : fin = 1
  · refine br_t zf ?_
    unfold wpY_encodeRow
    exact br_t zf (br_f m4 ⟨rfl, fx_in _ R⟩)
  by_cases zc : cd < h
  · obtain ⟨tot, z0, i1, i2, i3, X0, Y0⟩ := fx_codeRow (fin := fin) (unt := unt) (st := st) (k := c) (pas := pas) (hor := hor) (ver := ver) false R zc
    obtain ⟨tot1, z1, j1, j2, j3, X1, Y1⟩ := fx_codeRow (fin := fin) (unt := unt) (st := st) (k := c) (pas := pas) (hor := hor) (ver := ver) true R zc
    have e0 := i3 rfl
    subst e0
    have zc' : ¬ nI cd = nI h := by rw [nI_eq (by omega) (by omega)]; omega
    have es : nI l - nI us = nI (l - us) := pk_sub r2
    have t0 : 0 ≤ nI tot := nI_pos' (by omega)
    refine br_f zf (br_t (nI_lt zc (by omega)) (X0 _ ?_))
    by_cases y : tot ≤ l - us
    · have y' : nI tot ≤ nI l - nI us := by rw [es]; exact nI_le y (by omega)
      refine br_t y' (X1 _ ?_)
      refine nm_r (nI_1 cd) ?_
      unfold wpY_encodeRow
      refine br_f zf (br_f zc' (Y0 _ ?_))
      refine br_t t0 (br_t y' (Y1 _ ?_))
      refine nm_r (e' := (fx_pt (nI w) (nI h) (nI l) (nI z1.1) (nI (cd + 1)) fin unt st (nI t) (nI ro) ph (fx_m q) (fx_b c) (nI pn) (nI m) (nI fr) pas hor ver)) (fx_pt_u4.trans ?_) ⟨rfl, fx_in _ (fx_RR_cd (fx_RR_app R j2) zc)⟩
      show (fx_pt (nI w) (nI h) (nI l) (nI z1.1) (nI cd + 1) fin unt st (nI t) (nI ro) ph (fx_m q) (fx_b c) (nI pn) (nI m) (nI fr) pas hor ver) = _
      rw [nI_1]
    · have y' : ¬ nI tot ≤ nI l - nI us := by rw [es]; exact nI_ge (by omega) (by omega)
      refine br_f y' ?_
      unfold wpY_encodeRow
      refine br_f zf (br_f zc' (Y0 _ ?_))
      exact br_t t0 (br_f y' ⟨rfl, fx_in _ R⟩)
  · have ec : cd = h := by omega
    refine br_f zf (br_f (nI_nlt (by omega) (by omega)) ?_)
    unfold wpY_encodeRow
    exact br_f zf (br_t (congrArg nI ec) (br_f m4 ⟨rfl, fx_in _ R⟩))
theorem i_vc_cost {k : Nat} {u : SX} {v : SY} (I : i_Rel k u v) (hk : k + 5 ≤ 2563) : wpX_cost (fun r u' => wpY_cost (fun r' v' => r' = r ∧ i_Rel (k + 5) u' v') v) u := by
  refine fx_el (P := fun u v => wpX_cost (fun r u' => wpY_cost (fun r' v' => r' = r ∧ i_Rel (k + 5) u' v') v) u) I ?_
  intro w h l cd us t ro q pn pb m fr c fin unt st ph pas hor ver s dot src dec R
  have R' := R
  obtain ⟨⟨s1, s2, s3, s4, s5, s6⟩, ⟨r1, r2, r3, r4, r5, r6, r7, r8⟩, d1, d2, d3, d4, d5, d6, d7, d8, d9⟩ := R'
  by_cases zf : fin = 1
  · exact br_t zf (br_t zf ⟨rfl, fx_in _ R⟩)
  by_cases zc : cd < h
  · obtain ⟨tot, z0, i1, i2, i3, X0, Y0⟩ := fx_codeRow (fin := fin) (unt := unt) (st := st) (k := c) (pas := pas) (hor := hor) (ver := ver) false R zc
    have e0 := i3 rfl
    subst e0
    have zc' : ¬ nI cd = nI h := by rw [nI_eq (by omega) (by omega)]; omega
    refine br_f zf (br_t (nI_lt zc (by omega)) (X0 _ ?_))
    exact br_f zf (br_f zc' (Y0 _ ⟨rfl, fx_in _ R⟩))
  · have ec : cd = h := by omega
    exact br_f zf (br_f (nI_nlt (by omega) (by omega)) (br_f zf (br_t (congrArg nI ec) ⟨rfl, fx_in _ R⟩)))
theorem fx_sz49 : nI (fx_sz 49) = 24 := by decide +kernel
theorem i_vc_finish {k : Nat} {u : SX} {v : SY} (I : i_Rel k u v) (hk : k + 5 ≤ 2563) : wpX_finish (fun r u' => wpY_finish (fun r' v' => r' = r ∧ i_Rel (k + 5) u' v') v) u := by
  refine fx_el (P := fun u v => wpX_finish (fun r u' => wpY_finish (fun r' v' => r' = r ∧ i_Rel (k + 5) u' v') v) u) I ?_
  intro w h l cd us t ro q pn pb m fr c fin unt st ph pas hor ver s dot src dec R
  have R' := R
  obtain ⟨⟨s1, s2, s3, s4, s5, s6⟩, ⟨r1, r2, r3, r4, r5, r6, r7, r8⟩, d1, d2, d3, d4, d5, d6, d7, d8, d9⟩ := R'
  by_cases zf : fin = 1
  · exact br_t zf (br_t zf ⟨rfl, fx_in _ R⟩)
  by_cases y : 24 ≤ nI l - nI us
  · refine br_f zf (br_t y ?_)
    refine fx_X_send (e := true) (c := 49) (by decide) (by decide) s6 r2 ?_
    refine br_f zf (br_t y (nm_r fx_pt_u5 ?_))
    refine fx_Y_emit (e := true) (c := 49) (by decide) (by decide) s6 r2 ?_
    exact ⟨fx_sz49, fx_in _ (fx_RR_app R (fx_K_em true 49 l (us, s)))⟩
  · exact br_f zf (br_f y (br_f zf (br_f y ⟨rfl, fx_in _ R⟩)))
section
variable {l : Nat} {p0 p1 p4 p5 p6 p7 p8 p9 p10 p11 p12 p13 p14 p15 p16 p17 p18 : Int32} {dot : Nat → Int32}
theorem fx_Y_put {post : Int32 → SY → Prop} {x : Int32} {n : Nat} (hl : l ≤ 2048) (hn : n ≤ 32) : ∀ d fuel i z, d = n - i → i ≤ n → d < fuel → z.1 ≤ l → post (nI n) (fx_pt p0 p1 (nI l) (nI (fx_av l (bt x) d z).1) p4 p5 0 p7 p8 p9 p10 p11 p12 p13 p14 p15 p16 p17 p18, dot, (fx_av l (bt x) d z).2) → wY_putBits_35 post x (nI n) fuel (nI i) (fx_pt p0 p1 (nI l) (nI z.1) p4 p5 p6 p7 p8 p9 p10 p11 p12 p13 p14 p15 p16 p17 p18) dot z.2 := by
  intro d
  induction d with
  | zero =>
    intro fuel i z hd hi hf hz hp
    obtain ⟨fuel, rfl⟩ : ∃ n', fuel = n' + 1 := ⟨fuel - 1, by omega⟩
    exact br_t (nI_le (by omega) (by omega)) (nm_r fx_pt_u6 hp)
  | succ d ih =>
    intro fuel i z hd hi hf hz hp
    obtain ⟨fuel, rfl⟩ : ∃ n', fuel = n' + 1 := ⟨fuel - 1, by omega⟩
    refine br_f (nI_ge (by omega) (by omega)) ?_
    have ei : (nI n - 1) - nI i = nI d := by
      obtain ⟨n', rfl⟩ : ∃ n', n = n' + 1 := ⟨n - 1, by omega⟩
      rw [nI_pred, pk_sub (by omega)]
      exact congrArg nI (by omega)
    refine fx_Y_append (b := bt x d) (by rw [ei, fx_sb (by omega)]) hl hz ?_
    exact nm_r (nI_1 i) (ih fuel (i + 1) (fx_a1 l z (bt x d)) (by omega) (by omega) (by omega) ((fx_K_1 l z (bt x d)).2.1 hz) hp)
end
theorem i_vc_putBits {k : Nat} {u : SX} {v : SY} (I : i_Rel k u v) (hk : k + 5 ≤ 2563) (v1 : Int32) (v2 : Int32) : wpX_putBits (fun r u' => wpY_putBits (fun r' v' => r' = r ∧ i_Rel (k + 5) u' v') v v1 v2) u v1 v2 := by
  refine fx_el (P := fun u v => wpX_putBits (fun r u' => wpY_putBits (fun r' v' => r' = r ∧ i_Rel (k + 5) u' v') v v1 v2) u v1 v2) I ?_
  intro w h l cd us t ro q pn pb m fr c fin unt st ph pas hor ver s dot src dec R
  have R' := R
  obtain ⟨⟨s1, s2, s3, s4, s5, s6⟩, ⟨r1, r2, r3, r4, r5, r6, r7, r8⟩, d1, d2, d3, d4, d5, d6, d7, d8, d9⟩ := R'
  by_cases z1 : v2 < 1
  · exact br_t z1 (br_t z1 ⟨rfl, fx_in _ R⟩)
  by_cases z2 : v2 ≤ 32
  case neg => exact br_f z1 (br_f z2 (br_f z1 (br_f z2 ⟨rfl, fx_in _ R⟩)))
  by_cases z3 : v2 ≤ nI l - nI us
  case neg => exact br_f z1 (br_t z2 (br_f z3 (br_f z1 (br_t z2 (br_f z3 ⟨rfl, fx_in _ R⟩)))))
  obtain ⟨n, hn, rfl⟩ := nI_of2 (x := v2) (M := 32) (n := 32) (by decide) (by
    rw [Int32.lt_iff_toInt_lt, fx_i1] at z1
    rw [Int32.lt_iff_toInt_lt, fx_i0]
    omega) z2
  refine br_f z1 (br_t z2 (br_t z3 ?_))
  refine fx_X_append s6 hn r2 ?_
  refine br_f z1 (br_t z2 (br_t z3 ⟨n + 1, ?_⟩))
  refine fx_Y_put s6 hn n (n + 1) 0 (us, s) rfl (by omega) (by omega) r2 ?_
  exact ⟨rfl, fx_in _ (fx_RR_app R (fx_K_v l (bt v1) n (us, s)))⟩
theorem fx_01_b {s : Nat → Int32} (h : fx_01 s) (i : Nat) : ∃ b, s i = fx_b b := by
  rcases h i with z | z
  · exact ⟨false, z⟩
  · exact ⟨true, z⟩
theorem i_vc_flipBit {k : Nat} {u : SX} {v : SY} (I : i_Rel k u v) (hk : k + 5 ≤ 2563) (v1 : Int32) : wpX_flipBit (fun r u' => wpY_flipBit (fun r' v' => r' = r ∧ i_Rel (k + 5) u' v') v v1) u v1 := by
  refine fx_el (P := fun u v => wpX_flipBit (fun r u' => wpY_flipBit (fun r' v' => r' = r ∧ i_Rel (k + 5) u' v') v v1) u v1) I ?_
  intro w h l cd us t ro q pn pb m fr c fin unt st ph pas hor ver s dot src dec R
  have R' := R
  obtain ⟨hS, ⟨r1, r2, r3, r4, r5, r6, r7, r8⟩, D⟩ := R'
  have s6 := hS.2.2.2.2.2
  rcases fx_ix3 v1 (n := us) (by omega) with z | ⟨z1, z2, _⟩ | ⟨j, hj, rfl⟩
  · exact br_t z (br_t z ⟨rfl, fx_in _ R⟩)
  · exact br_f z1 (br_f z2 (br_f z1 (br_f z2 ⟨rfl, fx_in _ R⟩)))
  have n0 : ¬ nI j < 0 := nI_pos (by omega)
  have n1 : nI j < nI us := nI_lt hj (by omega)
  by_cases y : t ≤ j
  · have y' : nI t ≤ nI j := nI_le y (by omega)
    have hv : vp_in (nI j) 2048 := vp_in_nI (by omega) (by decide)
    obtain ⟨b, hb⟩ := fx_01_b r8 j
    refine br_f n0 (br_t n1 (br_t y' ⟨hv, hv, nm_r (e' := upd s j (fx_b (!b))) (by rw [nI_clamp (by omega), hb, fx_flip]) ?_⟩))
    refine br_f n0 (br_t n1 (br_t y' ⟨hv, hv, nm_r (e' := upd s j (fx_b (!b))) (by rw [nI_clamp (by omega), hb, fx_b_not]) (nm_r fx_pt_u6 ⟨rfl, ?_⟩)⟩))
    refine fx_in _ ⟨hS, ⟨r1, r2, r3, r4, r5, r6, ?_, fx_01_u r8 j _⟩, D⟩
    rw [r7]
    exact (fx_vl_c pn (fun i hi => pk_un (by omega))).symm
  · have y' : ¬ nI t ≤ nI j := nI_ge (by omega) (by omega)
    exact br_f n0 (br_t n1 (br_f y' (br_f n0 (br_t n1 (br_f y' ⟨rfl, fx_in _ R⟩)))))
section
variable {w h l cd us t ro q pn pb m fr : Nat} {k : Bool} {fin unt st ph pas hor ver : Int32} {s dot : Nat → Int32} {src dec : Nat → Int64}
theorem fx_bits {n p : Nat} (hl : us ≤ 2048) (h01 : fx_01 s) (hn : n ≤ 32) (hp : p < us) : ∀ d i a, d = n - i → i ≤ n → ∃ r, (∀ (post : Int32 → Prop) fuel, d < fuel → post r → wX_bitsAt_32 post (nI p) (nI n) (nI w) (nI h) (nI l) (nI cd) fin (nI us) unt st (nI t) (nI ro) ph (fx_m q) (fx_b k) (nI pn) (nI pb) (nI m) (nI fr) pas hor ver fx_WB fx_WS src s dec fuel (nI a) (nI i)) ∧ (∀ (post : Int32 → Prop) fuel, d < fuel → post r → wY_bitsAt_34 post (nI p) (nI n) (fx_pt (nI w) (nI h) (nI l) (nI us) (nI cd) fin unt st (nI t) (nI ro) ph (fx_m q) (fx_b k) (nI pn) (nI m) (nI fr) pas hor ver) dot s fuel (nI a) (nI i)) := by
  intro d
  induction d with
  | zero =>
    intro i a hd hi
    refine ⟨nI a, fun post fuel hf hq => ?_, fun post fuel hf hq => ?_⟩
    · obtain ⟨fuel, rfl⟩ : ∃ n', fuel = n' + 1 := ⟨fuel - 1, by omega⟩
      exact br_t (nI_le (by omega) (by omega)) hq
    · obtain ⟨fuel, rfl⟩ : ∃ n', fuel = n' + 1 := ⟨fuel - 1, by omega⟩
      exact br_t (nI_le (by omega) (by omega)) hq
  | succ d ih =>
    intro i a hd hi
    have nge : ¬ nI n ≤ nI i := nI_ge (by omega) (by omega)
    by_cases z : p + i < us
    · have hI := fx_01_n h01 (p + i)
      obtain ⟨r, hX, hY⟩ := ih (i + 1) (2 * a + (s (p + i)).toNatClampNeg) (by omega) (by omega)
      refine ⟨r, fun post fuel hf hq => ?_, fun post fuel hf hq => ?_⟩
      · obtain ⟨fuel, rfl⟩ : ∃ n', fuel = n' + 1 := ⟨fuel - 1, by omega⟩
        refine br_f nge (nm_r (nI_add p i) (nm_e (br_f (nI_ge z (by omega)) ⟨vp_in_nI (by omega) (by decide), ?_⟩)))
        refine nm_r (e' := nI (2 * a + (s (p + i)).toNatClampNeg)) ?_ (nm_r (nI_1 i) (hX post fuel (by omega) hq))
        rw [nI_clamp (by omega), hI.1, fx_sh_or hI.2, ← hI.1]
      · obtain ⟨fuel, rfl⟩ : ∃ n', fuel = n' + 1 := ⟨fuel - 1, by omega⟩
        refine br_f nge ?_
        rw [nI_add]
        refine br_f (nI_pos (by omega)) (br_t (nI_lt (b := us) z (by omega)) ⟨vp_in_nI (by omega) (by decide), ?_⟩)
        refine nm_r (e' := nI (2 * a + (s (p + i)).toNatClampNeg)) ?_ (nm_r (nI_1 i) (hY post fuel (by omega) hq))
        rw [nI_clamp (by omega), hI.1, fx_dbl, ← hI.1]
    · obtain ⟨r, hX, hY⟩ := ih (i + 1) (a * 2) (by omega) (by omega)
      refine ⟨r, fun post fuel hf hq => ?_, fun post fuel hf hq => ?_⟩
      · obtain ⟨fuel, rfl⟩ : ∃ n', fuel = n' + 1 := ⟨fuel - 1, by omega⟩
        exact br_f nge (nm_r (nI_add p i) (nm_r (fx_shl1 a) (br_t (nI_le (by omega) (by omega)) (nm_r (nI_1 i) (hX post fuel (by omega) hq)))))
      · obtain ⟨fuel, rfl⟩ : ∃ n', fuel = n' + 1 := ⟨fuel - 1, by omega⟩
        refine br_f nge ?_
        rw [nI_add]
        refine br_f (nI_pos (by omega)) (br_f (nI_nlt (b := us) (by omega) (by omega)) ?_)
        refine nm_r (e' := nI (a * 2)) ?_ (nm_r (nI_1 i) (hY post fuel (by omega) hq))
        rw [Int32.add_zero]
        exact pk_mul a 2
end
theorem i_vc_bitsAt {k : Nat} {u : SX} {v : SY} (I : i_Rel k u v) (hk : k + 5 ≤ 2563) (v1 : Int32) (v2 : Int32) : wpX_bitsAt (fun r => wpY_bitsAt (fun r' => r' = r ∧ i_Rel (k + 5) u v) v v1 v2) u v1 v2 := by
  refine fx_el (P := fun u v => wpX_bitsAt (fun r => wpY_bitsAt (fun r' => r' = r ∧ i_Rel (k + 5) u v) v v1 v2) u v1 v2) I ?_
  intro w h l cd us t ro q pn pb m fr c fin unt st ph pas hor ver s dot src dec R
  have R' := R
  obtain ⟨⟨s1, s2, s3, s4, s5, s6⟩, ⟨r1, r2, r3, r4, r5, r6, r7, r8⟩, D⟩ := R'
  by_cases z1 : v2 < 1
  · exact br_t z1 (br_t z1 ⟨rfl, fx_in _ R⟩)
  by_cases z2 : v2 ≤ 32
  case neg => exact br_f z1 (br_f z2 (br_f z1 (br_f z2 ⟨rfl, fx_in _ R⟩)))
  rcases fx_ix3 v1 (n := us) (by omega) with z | ⟨y1, y2, _⟩ | ⟨j, hj, rfl⟩
  · exact br_f z1 (br_t z2 (br_t z (br_f z1 (br_t z2 (br_t z ⟨rfl, fx_in _ R⟩)))))
  · exact br_f z1 (br_t z2 (br_f y1 (br_f y2 (br_f z1 (br_t z2 (br_f y1 (br_f y2 ⟨rfl, fx_in _ R⟩)))))))
  obtain ⟨n, hn, rfl⟩ := nI_of2 (x := v2) (M := 32) (n := 32) (by decide) (by
    rw [Int32.lt_iff_toInt_lt, fx_i1] at z1
    rw [Int32.lt_iff_toInt_lt, fx_i0]
    omega) z2
  have n0 : ¬ nI j < 0 := nI_pos (by omega)
  have n1 : nI j < nI us := nI_lt hj (by omega)
  obtain ⟨r, hX, hY⟩ := fx_bits (w := w) (h := h) (l := l) (cd := cd) (t := t) (ro := ro) (q := q) (pn := pn) (pb := pb) (m := m) (fr := fr) (k := c) (fin := fin) (unt := unt) (st := st) (ph := ph) (pas := pas) (hor := hor) (ver := ver) (dot := dot) (src := src) (dec := dec) (by omega) r8 hn hj n 0 0 rfl (by omega)
  exact br_f z1 (br_t z2 (br_f n0 (br_t n1 ⟨n + 1, hX _ _ (by omega) (br_f z1 (br_t z2 (br_f n0 (br_t n1 ⟨n + 1, hY _ _ (by omega) ⟨rfl, fx_in _ R⟩⟩))))⟩)))
end
section
/-! receive, receiveRow -/
section
variable {w h l cd us : Nat} {fin unt : Int32} {s : Nat → Int32} {src : Nat → Int64}
theorem fx_recv (n : Nat) {cnt : Nat} (hc : cnt ≤ 256) : ∀ d i, i + d = cnt → ∀ (t ro q pn pb m fr : Nat) (k : Bool) (st ph pas hor ver : Int32) (dot : Nat → Int32) (dec : Nat → Int64), fx_RR w h l cd us t ro ph q pn pb m fr src s dec dot → ∃ r u' v', i_Rel n u' v' ∧
    (∀ (post : Int32 → SX → Prop) fuel, d < fuel → post r u' → wX_receive_18 post (nI cnt) fuel (nI i) (nI i) (nI w) (nI h) (nI l) (nI cd) fin (nI us) unt st (nI t) (nI ro) ph (fx_m q) (fx_b k) (nI pn) (nI pb) (nI m) (nI fr) pas hor ver fx_WB fx_WS src s dec) ∧
    (∀ (post : Int32 → SY → Prop) fuel, d < fuel → post r v' → wY_receive_16 post (nI cnt) fuel (nI i) (fx_pt (nI w) (nI h) (nI l) (nI us) (nI cd) fin unt st (nI t) (nI ro) ph (fx_m q) (fx_b k) (nI pn) (nI m) (nI fr) pas hor ver) dot s) := by
  intro d
  induction d with
  | zero =>
    intro i hi t ro q pn pb m fr k st ph pas hor ver dot dec R
    have e : i = cnt := by omega
    subst e
    refine ⟨nI i, ((nI w), (nI h), (nI l), (nI cd), fin, (nI us), unt, st, (nI t), (nI ro), ph, (fx_m q), (fx_b k), (nI pn), (nI pb), (nI m), (nI fr), pas, hor, ver, fx_WB, fx_WS, src, s, dec), ((fx_pt (nI w) (nI h) (nI l) (nI us) (nI cd) fin unt st (nI t) (nI ro) ph (fx_m q) (fx_b k) (nI pn) (nI m) (nI fr) pas hor ver), dot, s), fx_in n R, fun post fuel hf hp => ?_, fun post fuel hf hp => ?_⟩
    · obtain ⟨fuel, rfl⟩ : ∃ n', fuel = n' + 1 := ⟨fuel - 1, by omega⟩
      exact br_t (nI_le (by omega) (by omega)) hp
    · obtain ⟨fuel, rfl⟩ : ∃ n', fuel = n' + 1 := ⟨fuel - 1, by omega⟩
      exact br_t (nI_le (by omega) (by omega)) hp
  | succ d ih =>
    intro i hi t ro q pn pb m fr k st ph pas hor ver dot dec R
    have R' := R
    obtain ⟨⟨s1, s2, s3, s4, s5, s6⟩, ⟨r1, r2, r3, r4, r5, r6, r7, r8⟩, D⟩ := R'
    have ng : ¬ nI cnt ≤ nI i := nI_ge (by omega) (by omega)
    by_cases zs : st = 0
    · by_cases zt : t < us
      · subst zs
        obtain ⟨ro', st', ph', q', k', pn', pb', m', fr', pas', hor', ver', dec', dot', R1, X1, Y1⟩ := fx_take (k := k) (fin := fin) (unt := unt) (pas := pas) (hor := hor) (ver := ver) R zt
        obtain ⟨r, u', v', hI, hX, hY⟩ := ih (i + 1) (by omega) (t + 1) ro' q' pn' pb' m' fr' k' st' ph' pas' hor' ver' dot' dec' R1
        refine ⟨r, u', v', hI, fun post fuel hf hp => ?_, fun post fuel hf hp => ?_⟩
        · obtain ⟨fuel, rfl⟩ : ∃ n', fuel = n' + 1 := ⟨fuel - 1, by omega⟩
          exact br_f ng (br_t rfl (br_f (nI_ge zt (by omega)) (X1 _ (nm_r (nI_1 i) (nm_r (nI_1 i) (hX post fuel (by omega) hp))))))
        · obtain ⟨fuel, rfl⟩ : ∃ n', fuel = n' + 1 := ⟨fuel - 1, by omega⟩
          exact br_f ng (br_t rfl (br_t (nI_lt (b := us) zt (by omega)) (Y1 _ (nm_r (nI_1 i) (hY post fuel (by omega) hp)))))
      · refine ⟨nI i, ((nI w), (nI h), (nI l), (nI cd), fin, (nI us), unt, st, (nI t), (nI ro), ph, (fx_m q), (fx_b k), (nI pn), (nI pb), (nI m), (nI fr), pas, hor, ver, fx_WB, fx_WS, src, s, dec), ((fx_pt (nI w) (nI h) (nI l) (nI us) (nI cd) fin unt st (nI t) (nI ro) ph (fx_m q) (fx_b k) (nI pn) (nI m) (nI fr) pas hor ver), dot, s), fx_in n R, fun post fuel hf hp => ?_, fun post fuel hf hp => ?_⟩
        · obtain ⟨fuel, rfl⟩ : ∃ n', fuel = n' + 1 := ⟨fuel - 1, by omega⟩
          exact br_f ng (br_t zs (br_t (nI_le (by omega) (by omega)) hp))
        · obtain ⟨fuel, rfl⟩ : ∃ n', fuel = n' + 1 := ⟨fuel - 1, by omega⟩
          exact br_f ng (br_t zs (br_f (nI_nlt (a := t) (b := us) (by omega) (by omega)) hp))
    · refine ⟨nI i, ((nI w), (nI h), (nI l), (nI cd), fin, (nI us), unt, st, (nI t), (nI ro), ph, (fx_m q), (fx_b k), (nI pn), (nI pb), (nI m), (nI fr), pas, hor, ver, fx_WB, fx_WS, src, s, dec), ((fx_pt (nI w) (nI h) (nI l) (nI us) (nI cd) fin unt st (nI t) (nI ro) ph (fx_m q) (fx_b k) (nI pn) (nI m) (nI fr) pas hor ver), dot, s), fx_in n R, fun post fuel hf hp => ?_, fun post fuel hf hp => ?_⟩
      · obtain ⟨fuel, rfl⟩ : ∃ n', fuel = n' + 1 := ⟨fuel - 1, by omega⟩
        exact br_f ng (br_f zs hp)
      · obtain ⟨fuel, rfl⟩ : ∃ n', fuel = n' + 1 := ⟨fuel - 1, by omega⟩
        exact br_f ng (br_f zs hp)
theorem fx_recvRow (n : Nat) {ro0 : Nat} (h0 : ro0 ≤ 8) : ∀ d i, i + d = 2048 → ∀ (t ro q pn pb m fr : Nat) (k : Bool) (st ph pas hor ver : Int32) (dot : Nat → Int32) (dec : Nat → Int64), fx_RR w h l cd us t ro ph q pn pb m fr src s dec dot → ∃ r u' v', i_Rel n u' v' ∧
    (∀ (post : Int32 → SX → Prop) fuel, d < fuel → post r u' → wX_receiveRow_9 post (nI ro0) fuel (nI i) (nI i) (nI w) (nI h) (nI l) (nI cd) fin (nI us) unt st (nI t) (nI ro) ph (fx_m q) (fx_b k) (nI pn) (nI pb) (nI m) (nI fr) pas hor ver fx_WB fx_WS src s dec) ∧
    (∀ (post : Int32 → SY → Prop) fuel, d < fuel → post r v' → wY_receiveRow_10 post (nI ro0) fuel (nI i) (fx_pt (nI w) (nI h) (nI l) (nI us) (nI cd) fin unt st (nI t) (nI ro) ph (fx_m q) (fx_b k) (nI pn) (nI m) (nI fr) pas hor ver) dot s) := by
  intro d
  induction d with
  | zero =>
    intro i hi t ro q pn pb m fr k st ph pas hor ver dot dec R
    have e : i = 2048 := by omega
    subst e
    refine ⟨nI 2048, ((nI w), (nI h), (nI l), (nI cd), fin, (nI us), unt, st, (nI t), (nI ro), ph, (fx_m q), (fx_b k), (nI pn), (nI pb), (nI m), (nI fr), pas, hor, ver, fx_WB, fx_WS, src, s, dec), ((fx_pt (nI w) (nI h) (nI l) (nI us) (nI cd) fin unt st (nI t) (nI ro) ph (fx_m q) (fx_b k) (nI pn) (nI m) (nI fr) pas hor ver), dot, s), fx_in n R, fun post fuel hf hp => ?_, fun post fuel hf hp => ?_⟩
    · obtain ⟨fuel, rfl⟩ : ∃ n', fuel = n' + 1 := ⟨fuel - 1, by omega⟩
      exact br_t (nI_le (a := 2048) (b := 2048) (by decide) (by decide)) hp
    · obtain ⟨fuel, rfl⟩ : ∃ n', fuel = n' + 1 := ⟨fuel - 1, by omega⟩
      exact br_t (nI_le (a := 2048) (b := 2048) (by decide) (by decide)) hp
  | succ d ih =>
    intro i hi t ro q pn pb m fr k st ph pas hor ver dot dec R
    have R' := R
    obtain ⟨⟨s1, s2, s3, s4, s5, s6⟩, ⟨r1, r2, r3, r4, r5, r6, r7, r8⟩, D⟩ := R'
    have d1 := D.1
    have ng : ¬ (2048 : Int32) ≤ nI i := nI_ge (b := 2048) (by omega) (by decide)
    by_cases zr : ro = ro0
    case neg =>
      have zr' : ¬ nI ro = nI ro0 := by rw [nI_eq (by omega) (by omega)]; exact zr
      refine ⟨nI i, ((nI w), (nI h), (nI l), (nI cd), fin, (nI us), unt, st, (nI t), (nI ro), ph, (fx_m q), (fx_b k), (nI pn), (nI pb), (nI m), (nI fr), pas, hor, ver, fx_WB, fx_WS, src, s, dec), ((fx_pt (nI w) (nI h) (nI l) (nI us) (nI cd) fin unt st (nI t) (nI ro) ph (fx_m q) (fx_b k) (nI pn) (nI m) (nI fr) pas hor ver), dot, s), fx_in n R, fun post fuel hf hp => ?_, fun post fuel hf hp => ?_⟩
      · obtain ⟨fuel, rfl⟩ : ∃ n', fuel = n' + 1 := ⟨fuel - 1, by omega⟩
        exact br_f ng (br_f zr' hp)
      · obtain ⟨fuel, rfl⟩ : ∃ n', fuel = n' + 1 := ⟨fuel - 1, by omega⟩
        exact br_f ng (br_f zr' hp)
    have zr' : nI ro = nI ro0 := congrArg nI zr
    by_cases zs : st = 0
    · by_cases zt : t < us
      · subst zs
        obtain ⟨ro', st', ph', q', k', pn', pb', m', fr', pas', hor', ver', dec', dot', R1, X1, Y1⟩ := fx_take (k := k) (fin := fin) (unt := unt) (pas := pas) (hor := hor) (ver := ver) R zt
        obtain ⟨r, u', v', hI, hX, hY⟩ := ih (i + 1) (by omega) (t + 1) ro' q' pn' pb' m' fr' k' st' ph' pas' hor' ver' dot' dec' R1
        refine ⟨r, u', v', hI, fun post fuel hf hp => ?_, fun post fuel hf hp => ?_⟩
        · obtain ⟨fuel, rfl⟩ : ∃ n', fuel = n' + 1 := ⟨fuel - 1, by omega⟩
          exact br_f ng (br_t zr' (br_t rfl (br_f (nI_ge zt (by omega)) (X1 _ (nm_r (nI_1 i) (nm_r (nI_1 i) (hX post fuel (by omega) hp)))))))
        · obtain ⟨fuel, rfl⟩ : ∃ n', fuel = n' + 1 := ⟨fuel - 1, by omega⟩
          exact br_f ng (br_t zr' (br_t rfl (br_t (nI_lt (b := us) zt (by omega)) (Y1 _ (nm_r (nI_1 i) (hY post fuel (by omega) hp))))))
      · refine ⟨nI i, ((nI w), (nI h), (nI l), (nI cd), fin, (nI us), unt, st, (nI t), (nI ro), ph, (fx_m q), (fx_b k), (nI pn), (nI pb), (nI m), (nI fr), pas, hor, ver, fx_WB, fx_WS, src, s, dec), ((fx_pt (nI w) (nI h) (nI l) (nI us) (nI cd) fin unt st (nI t) (nI ro) ph (fx_m q) (fx_b k) (nI pn) (nI m) (nI fr) pas hor ver), dot, s), fx_in n R, fun post fuel hf hp => ?_, fun post fuel hf hp => ?_⟩
        · obtain ⟨fuel, rfl⟩ : ∃ n', fuel = n' + 1 := ⟨fuel - 1, by omega⟩
          exact br_f ng (br_t zr' (br_t zs (br_t (nI_le (by omega) (by omega)) hp)))
        · obtain ⟨fuel, rfl⟩ : ∃ n', fuel = n' + 1 := ⟨fuel - 1, by omega⟩
          exact br_f ng (br_t zr' (br_t zs (br_f (nI_nlt (a := t) (b := us) (by omega) (by omega)) hp)))
    · refine ⟨nI i, ((nI w), (nI h), (nI l), (nI cd), fin, (nI us), unt, st, (nI t), (nI ro), ph, (fx_m q), (fx_b k), (nI pn), (nI pb), (nI m), (nI fr), pas, hor, ver, fx_WB, fx_WS, src, s, dec), ((fx_pt (nI w) (nI h) (nI l) (nI us) (nI cd) fin unt st (nI t) (nI ro) ph (fx_m q) (fx_b k) (nI pn) (nI m) (nI fr) pas hor ver), dot, s), fx_in n R, fun post fuel hf hp => ?_, fun post fuel hf hp => ?_⟩
      · obtain ⟨fuel, rfl⟩ : ∃ n', fuel = n' + 1 := ⟨fuel - 1, by omega⟩
        exact br_f ng (br_t zr' (br_f zs hp))
      · obtain ⟨fuel, rfl⟩ : ∃ n', fuel = n' + 1 := ⟨fuel - 1, by omega⟩
        exact br_f ng (br_t zr' (br_f zs hp))
end
theorem i_vc_receive {k : Nat} {u : SX} {v : SY} (I : i_Rel k u v) (hk : k + 5 ≤ 2563) (v1 : Int32) : wpX_receive (fun r u' => wpY_receive (fun r' v' => r' = r ∧ i_Rel (k + 5) u' v') v v1) u v1 := by
  refine fx_el (P := fun u v => wpX_receive (fun r u' => wpY_receive (fun r' v' => r' = r ∧ i_Rel (k + 5) u' v') v v1) u v1) I ?_
  intro w h l cd us t ro q pn pb m fr c fin unt st ph pas hor ver s dot src dec R
  by_cases z1 : v1 < 1
  · exact br_t z1 (br_t z1 ⟨rfl, fx_in _ R⟩)
  by_cases z2 : v1 ≤ 256
  case neg => exact br_f z1 (br_f z2 (br_f z1 (br_f z2 ⟨rfl, fx_in _ R⟩)))
  obtain ⟨n, hn, rfl⟩ := nI_of2 (x := v1) (M := 256) (n := 256) (by decide) (by
    rw [Int32.lt_iff_toInt_lt, fx_i1] at z1
    rw [Int32.lt_iff_toInt_lt, fx_i0]
    omega) z2
  obtain ⟨r, u', v', hI, hX, hY⟩ := fx_recv (fin := fin) (unt := unt) (k + 5) hn n 0 (by omega) t ro q pn pb m fr c st ph pas hor ver dot dec R
  exact br_f z1 (br_t z2 ⟨n + 1, hX _ (n + 1) (by omega) (br_f z1 (br_t z2 ⟨n + 1, hY _ (n + 1) (by omega) ⟨rfl, hI⟩⟩))⟩)
theorem i_vc_receiveRow {k : Nat} {u : SX} {v : SY} (I : i_Rel k u v) (hk : k + 5 ≤ 2563) : wpX_receiveRow (fun r u' => wpY_receiveRow (fun r' v' => r' = r ∧ i_Rel (k + 5) u' v') v) u := by
  refine fx_el (P := fun u v => wpX_receiveRow (fun r u' => wpY_receiveRow (fun r' v' => r' = r ∧ i_Rel (k + 5) u' v') v) u) I ?_
  intro w h l cd us t ro q pn pb m fr c fin unt st ph pas hor ver s dot src dec R
  have hr : ro ≤ 8 := Nat.le_trans R.2.2.1 R.1.2.2.2.1
  obtain ⟨r, u', v', hI, hX, hY⟩ := fx_recvRow (fin := fin) (unt := unt) (k + 5) hr 2048 0 (by omega) t ro q pn pb m fr c st ph pas hor ver dot dec R
  exact ⟨2049, hX _ 2049 (by omega) (nm_r (e' := nI ro) rfl ⟨2049, hY _ 2049 (by omega) ⟨rfl, hI⟩⟩)⟩
end
section
/-! runCount, runLength, info -/
def fx_ch (f : Nat → Bool) : Nat → Nat
  | 0 => 0
  | c + 1 => if f c = fx_pv f c then fx_ch f c else fx_ch f c + 1
theorem fx_ch_e {f : Nat → Bool} {c : Nat} (h : f c = fx_pv f c) : fx_ch f (c + 1) = fx_ch f c := by rw [fx_ch, if_pos h]
theorem fx_ch_n {f : Nat → Bool} {c : Nat} (h : ¬ f c = fx_pv f c) : fx_ch f (c + 1) = fx_ch f c + 1 := by rw [fx_ch, if_neg h]
def fx_cn (f : Nat → Bool) (x : Int32) : Nat → Nat
  | 0 => 0
  | c + 1 => if nI (fx_ch f (c + 1)) = x then fx_cn f x c + 1 else fx_cn f x c
section
variable {f_pageWidth f_pageHeight f_limit f_coded f_finished f_used f_untouched f_state f_taken f_rows f_phase f_position f_current f_pending f_pendingBits f_makeUp f_firstRun f_passes f_horizontals f_verticals : Int32} {a_wordBits a_wordSize a_stream : Nat → Int32} {a_source a_decoded : Nat → Int64}
variable {w : Nat}
theorem fx_X_rc {post : Int32 → Prop} {b : Int64} (hw : w ≤ 64) (hp : post (nI (fx_ch (fx_t b) w + 1))) : ∀ d fuel c, d = w - c → c ≤ w → d < fuel → wX_runCount_38 post b (nI w) f_pageHeight f_limit f_coded f_finished f_used f_untouched f_state f_taken f_rows f_phase f_position f_current f_pending f_pendingBits f_makeUp f_firstRun f_passes f_horizontals f_verticals a_wordBits a_wordSize a_source a_stream a_decoded fuel (nI (fx_ch (fx_t b) c + 1)) (fx_b (fx_pv (fx_t b) c)) (nI c) := by
  intro d
  induction d with
  | zero =>
    intro fuel c hd hc hf
    obtain ⟨fuel, rfl⟩ : ∃ n', fuel = n' + 1 := ⟨fuel - 1, by omega⟩
    have e : c = w := by omega
    subst e
    exact br_t (nI_le (by omega) (by omega)) hp
  | succ d ih =>
    intro fuel c hd hc hf
    obtain ⟨fuel, rfl⟩ : ∃ n', fuel = n' + 1 := ⟨fuel - 1, by omega⟩
    have H := ih fuel (c + 1) (by omega) (by omega) (by omega)
    refine br_f (nI_ge (by omega) (by omega)) (nm_r (fx_bit (by omega) b) (ek_if (fx_b_inj _ _) (fun z => ?_) (fun z => ?_)))
    · rw [fx_ch_e z] at H
      refine nm_r (nI_1 c) ?_
      rw [← z]
      exact H
    · rw [fx_ch_n z] at H
      exact nm_r (nI_1 _) (nm_r (nI_1 c) H)
theorem fx_X_rl {post : Int32 → Prop} {b : Int64} {x : Int32} (hw : w ≤ 64) (hp : post (nI (fx_cn (fx_t b) x w))) : ∀ d fuel c, d = w - c → c ≤ w → d < fuel → wX_runLength_41 post x b (nI w) f_pageHeight f_limit f_coded f_finished f_used f_untouched f_state f_taken f_rows f_phase f_position f_current f_pending f_pendingBits f_makeUp f_firstRun f_passes f_horizontals f_verticals a_wordBits a_wordSize a_source a_stream a_decoded fuel (nI (fx_ch (fx_t b) c)) (nI (fx_cn (fx_t b) x c)) (fx_b (fx_pv (fx_t b) c)) (nI c) := by
  intro d
  induction d with
  | zero =>
    intro fuel c hd hc hf
    obtain ⟨fuel, rfl⟩ : ∃ n', fuel = n' + 1 := ⟨fuel - 1, by omega⟩
    have e : c = w := by omega
    subst e
    exact br_t (nI_le (by omega) (by omega)) hp
  | succ d ih =>
    intro fuel c hd hc hf
    obtain ⟨fuel, rfl⟩ : ∃ n', fuel = n' + 1 := ⟨fuel - 1, by omega⟩
    have H := ih fuel (c + 1) (by omega) (by omega) (by omega)
    have K : wX_runLength_73 post (wX_runLength_41 post x b (nI w) f_pageHeight f_limit f_coded f_finished f_used f_untouched f_state f_taken f_rows f_phase f_position f_current f_pending f_pendingBits f_makeUp f_firstRun f_passes f_horizontals f_verticals a_wordBits a_wordSize a_source a_stream a_decoded fuel) x b (nI (fx_ch (fx_t b) (c + 1))) (nI (fx_cn (fx_t b) x c)) (fx_b (fx_t b c)) (nI c) (nI w) f_pageHeight f_limit f_coded f_finished f_used f_untouched f_state f_taken f_rows f_phase f_position f_current f_pending f_pendingBits f_makeUp f_firstRun f_passes f_horizontals f_verticals a_wordBits a_wordSize a_source a_stream a_decoded := by
      rw [fx_cn] at H
      by_cases y : nI (fx_ch (fx_t b) (c + 1)) = x
      · rw [if_pos y] at H
        exact br_t y (nm_r (nI_1 _) (nm_r (nI_1 c) H))
      · rw [if_neg y] at H
        exact br_f y (nm_r (nI_1 c) H)
    refine br_f (nI_ge (by omega) (by omega)) (nm_r (fx_bit (by omega) b) (ek_if (fx_b_inj _ _) (fun z => ?_) (fun z => ?_)))
    · rw [fx_ch_e z] at K
      rw [← z]
      exact K
    · rw [fx_ch_n z] at K
      exact nm_r (nI_1 _) K
end
section
variable {part dot s : Nat → Int32} {r : Int32} {f : Nat → Bool} {w : Nat}
theorem fx_Y_ro {post : Int32 → Prop} {n : Nat} (R : fx_Row (part, dot, s) 1 r f w) (hw : w ≤ 64) (hn : n ≤ w) (hp : post (nI (fx_ch f n))) : ∀ d fuel c, d = n - c → c ≤ n → d < fuel → wY_runOf_5 post r (fx_m n) part dot s fuel (nI (fx_ch f c)) (nI c) := by
  intro d
  induction d with
  | zero =>
    intro fuel c hd hc hf
    obtain ⟨fuel, rfl⟩ : ∃ n', fuel = n' + 1 := ⟨fuel - 1, by omega⟩
    have e : c = n := by omega
    subst e
    exact br_t ((fx_m_lt (by omega) (by omega)).mpr (by omega)) hp
  | succ d ih =>
    intro fuel c hd hc hf
    obtain ⟨fuel, rfl⟩ : ∃ n', fuel = n' + 1 := ⟨fuel - 1, by omega⟩
    have H := ih fuel (c + 1) (by omega) (by omega) (by omega)
    refine br_f (by rw [fx_m_lt (by omega) (by omega)]; omega) ?_
    refine fx_Row_n R (by omega) ?_
    refine R _ c (by omega) ?_
    refine ek_if (fx_b_inj _ _) (fun z => ?_) (fun z => ?_)
    · rw [fx_ch_e z] at H
      exact nm_r (nI_1 c) H
    · rw [fx_ch_n z] at H
      exact nm_r (nI_1 _) (nm_r (nI_1 c) H)
theorem fx_Y_runOf {post : Int32 → Prop} {n : Nat} {p1 : Int32} (R : fx_Row (part, dot, s) 1 r f w) (hw : w ≤ 64) (hn : n ≤ w) (e : p1 = fx_m n) (hp : post (nI (fx_ch f n))) : wpY_runOf post (part, dot, s) r p1 := by
  subst e
  exact ⟨n + 1, fx_Y_ro R hw hn hp n (n + 1) 0 rfl (by omega) (by omega)⟩
theorem fx_Y_rl {post : Int32 → Prop} {x : Int32} (R : fx_Row (part, dot, s) 1 r f w) (e0 : part 0 = nI w) (hw : w ≤ 64) (hp : post (nI (fx_cn f x w))) : ∀ d fuel c, d = w - c → c ≤ w → d < fuel → wY_runLength_22 post r x part dot s fuel (nI (fx_cn f x c)) (nI c) := by
  intro d
  induction d with
  | zero =>
    intro fuel c hd hc hf
    obtain ⟨fuel, rfl⟩ : ∃ n', fuel = n' + 1 := ⟨fuel - 1, by omega⟩
    have e : c = w := by omega
    subst e
    exact br_t (by rw [e0]; exact nI_le (by omega) (by omega)) hp
  | succ d ih =>
    intro fuel c hd hc hf
    obtain ⟨fuel, rfl⟩ : ∃ n', fuel = n' + 1 := ⟨fuel - 1, by omega⟩
    have H := ih fuel (c + 1) (by omega) (by omega) (by omega)
    refine br_f (by rw [e0]; exact nI_ge (by omega) (by omega)) ?_
    refine fx_Y_runOf (n := c + 1) R hw (by omega) (fx_m_s c).symm ?_
    rw [fx_cn] at H
    by_cases y : nI (fx_ch f (c + 1)) = x
    · rw [if_pos y] at H
      exact br_t y (nm_r (nI_1 _) (nm_r (nI_1 c) H))
    · rw [if_neg y] at H
      exact br_f y (nm_r (nI_1 c) H)
end
theorem i_vc_runCount {k : Nat} {u : SX} {v : SY} (I : i_Rel k u v) (hk : k + 5 ≤ 2563) (v1 : Int32) : wpX_runCount (fun r => wpY_runCount (fun r' => r' = r ∧ i_Rel (k + 5) u v) v v1) u v1 := by
  refine fx_el (P := fun u v => wpX_runCount (fun r => wpY_runCount (fun r' => r' = r ∧ i_Rel (k + 5) u v) v v1) u v1) I ?_
  intro w h l cd us t ro q pn pb m fr c fin unt st ph pas hor ver s dot src dec R
  have R' := R
  obtain ⟨⟨s1, s2, s3, s4, s5, s6⟩, ⟨r1, r2, r3, r4, r5, r6, r7, r8⟩, d1, d2, d3, d4, d5, d6, d7, d8, d9⟩ := R'
  rcases fx_ix3 v1 (n := ro) (by omega) with z | ⟨z1, z2, z3⟩ | ⟨j, hj, rfl⟩
  · exact br_t z (br_t z ⟨rfl, fx_in _ R⟩)
  · exact br_f z1 (br_t z3 (br_f z1 (br_f z2 ⟨rfl, fx_in _ R⟩)))
  · have n0 : ¬ nI j < 0 := nI_pos (by omega)
    refine br_f n0 (br_f (nI_ge hj (by omega)) (br_t (nI_lt (b := h) (by omega) (by omega)) ⟨vp_in_nI (by omega) (by decide), nm_r (e' := dec j) (by rw [nI_clamp (by omega)]) ⟨w + 1, ?_⟩⟩))
    refine fx_X_rc (b := dec j) s2 ?_ w (w + 1) 0 rfl (by omega) (by omega)
    refine br_f n0 (br_t (nI_lt (b := ro) hj (by omega)) (nm_r (e' := fx_m w) rfl ?_))
    refine fx_Y_runOf (n := w) (f := fx_t (dec j)) (w := w) (fx_row_pd (p := 1) (h := h) rfl rfl s2 s4 (by decide) (by omega) d7) s2 (Nat.le_refl w) rfl ?_
    exact ⟨nI_1 _, fx_in _ R⟩
theorem i_vc_runLength {k : Nat} {u : SX} {v : SY} (I : i_Rel k u v) (hk : k + 5 ≤ 2563) (v1 : Int32) (v2 : Int32) : wpX_runLength (fun r => wpY_runLength (fun r' => r' = r ∧ i_Rel (k + 5) u v) v v1 v2) u v1 v2 := by
  refine fx_el (P := fun u v => wpX_runLength (fun r => wpY_runLength (fun r' => r' = r ∧ i_Rel (k + 5) u v) v v1 v2) u v1 v2) I ?_
  intro w h l cd us t ro q pn pb m fr c fin unt st ph pas hor ver s dot src dec R
  have R' := R
  obtain ⟨⟨s1, s2, s3, s4, s5, s6⟩, ⟨r1, r2, r3, r4, r5, r6, r7, r8⟩, d1, d2, d3, d4, d5, d6, d7, d8, d9⟩ := R'
  rcases fx_ix3 v1 (n := ro) (by omega) with z | ⟨z1, z2, z3⟩ | ⟨j, hj, rfl⟩
  · exact br_t z (br_t z ⟨rfl, fx_in _ R⟩)
  · exact br_f z1 (br_t z3 (br_f z1 (br_f z2 ⟨rfl, fx_in _ R⟩)))
  · have n0 : ¬ nI j < 0 := nI_pos (by omega)
    refine br_f n0 (br_f (nI_ge hj (by omega)) (br_t (nI_lt (b := h) (by omega) (by omega)) ⟨vp_in_nI (by omega) (by decide), nm_r (e' := dec j) (by rw [nI_clamp (by omega)]) ⟨w + 1, ?_⟩⟩))
    refine fx_X_rl (b := dec j) (x := v2) s2 ?_ w (w + 1) 0 rfl (by omega) (by omega)
    refine br_f n0 (br_t (nI_lt (b := ro) hj (by omega)) ⟨w + 1, ?_⟩)
    refine fx_Y_rl (f := fx_t (dec j)) (w := w) (x := v2) (fx_row_pd (p := 1) (h := h) rfl rfl s2 s4 (by decide) (by omega) d7) rfl s2 ?_ w (w + 1) 0 rfl (by omega) (by omega)
    exact ⟨rfl, fx_in _ R⟩
theorem fx_inf {part dot s : Nat → Int32} {A : Prop} {j i : Nat} {x y : Int32} (z : nI j = y) (hj : j < 19) (ey : y = nI i) (hi : i < 19) (hx : part i = x) (a : A) : wpY_info (fun r' => r' = x ∧ A) (part, dot, s) (nI j) := by
  have e : j = i := (nI_eq (by omega) (by omega)).mp (z.trans ey)
  subst e
  refine br_f (nI_pos (by omega)) (br_t (nI_le (b := 18) (by omega) (by decide)) ?_)
  rw [nI_clamp (by omega)]
  exact ⟨vp_in_nI hj (by decide), hx, a⟩
theorem i_vc_info {k : Nat} {u : SX} {v : SY} (I : i_Rel k u v) (hk : k + 5 ≤ 2563) (v1 : Int32) : wpX_info (fun r => wpY_info (fun r' => r' = r ∧ i_Rel (k + 5) u v) v v1) u v1 := by
  refine fx_el (P := fun u v => wpX_info (fun r => wpY_info (fun r' => r' = r ∧ i_Rel (k + 5) u v) v v1) u v1) I ?_
  intro w h l cd us t ro q pn pb m fr c fin unt st ph pas hor ver s dot src dec R
  have A : i_Rel (k + 5) ((nI w), (nI h), (nI l), (nI cd), fin, (nI us), unt, st, (nI t), (nI ro), ph, (fx_m q), (fx_b c), (nI pn), (nI pb), (nI m), (nI fr), pas, hor, ver, fx_WB, fx_WS, src, s, dec) ((fx_pt (nI w) (nI h) (nI l) (nI us) (nI cd) fin unt st (nI t) (nI ro) ph (fx_m q) (fx_b c) (nI pn) (nI m) (nI fr) pas hor ver), dot, s) := fx_in _ R
  rcases fx_ix3 v1 (n := 19) (by decide) with z | ⟨z1, z2, z3⟩ | ⟨j, hj, rfl⟩
  · exact br_t z (br_t z ⟨rfl, A⟩)
  · have g : 18 < v1 := by
      rw [Int32.le_iff_toInt_le, nI_toInt (by decide)] at z3
      rw [Int32.lt_iff_toInt_lt, show (18 : Int32).toInt = 18 by decide]
      omega
    have g' : ¬ v1 ≤ 18 := Int32.not_le.mpr g
    exact br_f z1 (br_t g (br_f z1 (br_f g' ⟨rfl, A⟩)))
  · refine br_f (nI_pos (by omega)) (br_f (nI_nlt (a := 18) (b := j) (by omega) (by decide)) ?_)
    refine br_c (fun z => fx_inf (i := 0) z hj (by decide) (by decide) rfl A) (fun _ => ?_)
    refine br_c (fun z => fx_inf (i := 1) z hj (by decide) (by decide) rfl A) (fun _ => ?_)
    refine br_c (fun z => fx_inf (i := 2) z hj (by decide) (by decide) rfl A) (fun _ => ?_)
    refine br_c (fun z => fx_inf (i := 3) z hj (by decide) (by decide) rfl A) (fun _ => ?_)
    refine br_c (fun z => fx_inf (i := 4) z hj (by decide) (by decide) rfl A) (fun _ => ?_)
    refine br_c (fun z => fx_inf (i := 5) z hj (by decide) (by decide) rfl A) (fun _ => ?_)
    refine br_c (fun z => fx_inf (i := 6) z hj (by decide) (by decide) rfl A) (fun _ => ?_)
    refine br_c (fun z => fx_inf (i := 7) z hj (by decide) (by decide) rfl A) (fun _ => ?_)
    refine br_c (fun z => fx_inf (i := 8) z hj (by decide) (by decide) rfl A) (fun _ => ?_)
    refine br_c (fun z => fx_inf (i := 9) z hj (by decide) (by decide) rfl A) (fun _ => ?_)
    refine br_c (fun z => fx_inf (i := 10) z hj (by decide) (by decide) rfl A) (fun _ => ?_)
    refine br_c (fun z => fx_inf (i := 11) z hj (by decide) (by decide) rfl A) (fun _ => ?_)
    refine br_c (fun z => fx_inf (i := 12) z hj (by decide) (by decide) rfl A) (fun _ => ?_)
    refine br_c (fun z => fx_inf (i := 13) z hj (by decide) (by decide) rfl A) (fun _ => ?_)
    refine br_c (fun z => fx_inf (i := 14) z hj (by decide) (by decide) rfl A) (fun _ => ?_)
    refine br_c (fun z => fx_inf (i := 15) z hj (by decide) (by decide) rfl A) (fun _ => ?_)
    refine br_c (fun z => fx_inf (i := 16) z hj (by decide) (by decide) rfl A) (fun _ => ?_)
    refine br_c (fun z => fx_inf (i := 17) z hj (by decide) (by decide) rfl A) (fun _ => ?_)
    refine br_c (fun z => fx_inf (i := 18) z hj (by decide) (by decide) rfl A) (fun _ => ?_)
    exact trivial
end
