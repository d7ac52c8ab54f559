section
/-! rows pasted from the kit's rows (starting text) -/
theorem pk_us {f : Nat → Int32} {k : Nat} {x : Int32} : upd f k x k = x := if_pos rfl
theorem pk_un {f : Nat → Int32} {k j : Nat} {x : Int32} (h : j ≠ k) : upd f k x j = f j := if_neg h
theorem pk_uLs {f : Nat → Int64} {k : Nat} {x : Int64} : vp_updL f k x k = x := if_pos rfl
theorem pk_uLn {f : Nat → Int64} {k j : Nat} {x : Int64} (h : j ≠ k) : vp_updL f k x j = f j := if_neg h
theorem pk_sub {a b : Nat} (h : b ≤ a) : nI a - nI b = nI (a - b) := by
  obtain ⟨c, rfl⟩ : ∃ c, a = c + b := ⟨a - b, by omega⟩
  rw [← nI_add, Int32.add_sub_cancel, Nat.add_sub_cancel]
theorem pk_m1 (n : Nat) : nI (n + 1) + (-1) = nI n := by
  rw [← nI_1, Int32.add_assoc, show (1 : Int32) + (-1) = 0 from rfl, Int32.add_zero]
theorem pk_mul (a b : Nat) : nI a * nI b = nI (a * b) := (Int32.ofNat_mul a b).symm
theorem pk_div {a d : Nat} (ha : a < 2 ^ 31) (h0 : 0 < d) (hd : d < 2 ^ 31) : nI a / nI d = nI (a / d) := by
  apply Int32.toInt_inj.mp
  rw [lg_idiv_nonneg (by rw [nI_toInt ha]; omega) (by rw [nI_toInt hd]; omega), nI_toInt ha, nI_toInt hd, nI_toInt (Nat.lt_of_le_of_lt (Nat.div_le_self a d) ha)]
  first | rfl | exact (Int.natCast_ediv _ _).symm
theorem pk_rem {a d : Nat} (ha : a < 2 ^ 31) (h0 : 0 < d) (hd : d < 2 ^ 31) : nI a - nI a / nI d * nI d = nI (a % d) := by
  rw [pk_div ha h0 hd, pk_mul, pk_sub (Nat.div_mul_le_self a d)]
  exact congrArg nI (by have := Nat.div_add_mod' a d; omega)
theorem pk_sub_toInt {a b : Nat} (ha : a < 2 ^ 30) (hb : b < 2 ^ 30) : (nI a - nI b).toInt = (a : Int) - b := by
  rw [Int32.toInt_sub, nI_toInt (by omega), nI_toInt (by omega)]
  exact Int.bmod_eq_of_le (by omega) (by omega)
theorem pk_sneg {a b : Nat} (hb : b < 2 ^ 30) (h : a < b) : nI a - nI b < 0 := by
  rw [Int32.lt_iff_toInt_lt, pk_sub_toInt (by omega) hb, show (0 : Int32).toInt = 0 from by decide]
  omega
theorem pk_ix (x : Int32) {n : Nat} (hn : n < 2 ^ 31) : x < 0 ∨ nI n ≤ x ∨ ∃ j : Nat, j < n ∧ x = nI j := by
  by_cases h : x < 0
  · exact Or.inl h
  · obtain ⟨j, hj, rfl⟩ := nI_of h
    by_cases h2 : j < n
    · exact Or.inr (Or.inr ⟨j, h2, rfl⟩)
    · exact Or.inr (Or.inl (nI_le (by omega) hj))
theorem pk_le {x y : Int32} {A B : Prop} (a b : Nat) (f : a ≤ b → A) (g : b < a → B) (hx : x = nI a := by rfl) (hy : y = nI b := by rfl) (ha : a < 2 ^ 31 := by omega) (hb : b < 2 ^ 31 := by omega) : (x ≤ y → A) ∧ (¬ x ≤ y → B) := by
  subst hx hy
  rw [nI_leI ha hb]
  exact ⟨f, fun z => g (by omega)⟩
theorem pk_lt {x y : Int32} {A B : Prop} (a b : Nat) (f : a < b → A) (g : b ≤ a → B) (hx : x = nI a := by rfl) (hy : y = nI b := by rfl) (ha : a < 2 ^ 31 := by omega) (hb : b < 2 ^ 31 := by omega) : (x < y → A) ∧ (¬ x < y → B) := by
  subst hx hy
  rw [nI_ltI ha hb]
  exact ⟨f, fun z => g (by omega)⟩
theorem pk_eq {x y : Int32} {A B : Prop} (a b : Nat) (f : a = b → A) (g : a ≠ b → B) (hx : x = nI a := by rfl) (hy : y = nI b := by rfl) (ha : a < 2 ^ 31 := by omega) (hb : b < 2 ^ 31 := by omega) : (x = y → A) ∧ (¬ x = y → B) := by
  subst hx hy
  rw [nI_eq ha hb]
  exact ⟨f, g⟩
theorem pk_in {x : Int32} (n N : Nat) (h : n < N) (hx : x = nI n := by rfl) (hN : N < 2 ^ 31 := by omega) : vp_in x N := by
  subst hx
  exact vp_in_nI h hN
theorem pk_cl {x : Int32} (n : Nat) (hx : x = nI n := by rfl) (h : n < 2 ^ 31 := by omega) : x.toNatClampNeg = n := by
  subst hx
  exact nI_clamp h
theorem pk_tn {n : Nat} (h : n < 2 ^ 32) : (nI n).toBitVec.toNat = n := Nat.mod_eq_of_lt h
theorem pk_and (x : Int32) {m : Int32} (k : Nat) (hm : m.toBitVec.toNat = 2 ^ k - 1) : x &&& m = nI (x.toBitVec.toNat % 2 ^ k) := by
  apply Int32.toBitVec_inj.mp
  apply BitVec.eq_of_toNat_eq
  rw [Int32.toBitVec_and, BitVec.toNat_and, hm, Nat.and_two_pow_sub_one_eq_mod]
  show _ = (BitVec.ofNat 32 _).toNat
  rw [BitVec.toNat_ofNat]
  exact (Nat.mod_eq_of_lt (Nat.lt_of_le_of_lt (Nat.mod_le _ _) x.toBitVec.isLt)).symm
theorem pk_andN {n : Nat} (h : n < 2 ^ 32) {m : Int32} (k : Nat) (hm : m.toBitVec.toNat = 2 ^ k - 1) : nI n &&& m = nI (n % 2 ^ k) := by
  rw [pk_and _ k hm, pk_tn h]
theorem pk_andE (x : Int32) {m : Int32} (k : Nat) (hm : m.toBitVec.toNat = 2 ^ k - 1) : ∃ j : Nat, j < 2 ^ k ∧ x &&& m = nI j := ⟨_, Nat.mod_lt _ (Nat.two_pow_pos k), pk_and x k hm⟩
theorem pk_andIn (x : Int32) {m : Int32} (k : Nat) (hm : m.toBitVec.toNat = 2 ^ k - 1) (hk : k ≤ 30) : vp_in (x &&& m) (2 ^ k) := by
  obtain ⟨j, hj, e⟩ := pk_andE x k hm
  rw [e]
  exact vp_in_nI hj (Nat.lt_of_le_of_lt (Nat.pow_le_pow_right (by decide) hk) (by decide))
theorem pk_shl (a s : Int32) (k : Nat) (hs : (s.toBitVec.smod 32).toNat = k) : (a <<< s).toBitVec.toNat = a.toBitVec.toNat * 2 ^ k % 2 ^ 32 := by
  show (a.toBitVec <<< (s.toBitVec.smod 32).toNat).toNat = _
  rw [hs, BitVec.toNat_shiftLeft, Nat.shiftLeft_eq]
theorem pk_shlN {n : Nat} (s : Int32) (k : Nat) (hs : (s.toBitVec.smod 32).toNat = k) (h : n * 2 ^ k < 2 ^ 32) : nI n <<< s = nI (n * 2 ^ k) := by
  apply Int32.toBitVec_inj.mp
  apply BitVec.eq_of_toNat_eq
  have hn : n < 2 ^ 32 := Nat.lt_of_le_of_lt (Nat.le_mul_of_pos_right n (Nat.two_pow_pos k)) h
  rw [pk_shl _ _ k hs, pk_tn hn, pk_tn h, Nat.mod_eq_of_lt h]
theorem pk_shr (a s : Int32) (k : Nat) (hs : (s.toBitVec.smod 32).toNat = k) : (a >>> s).toInt = a.toInt >>> k := by
  show (a.toBitVec.sshiftRight (s.toBitVec.smod 32).toNat).toInt = _
  rw [hs, BitVec.toInt_sshiftRight]
  rfl
theorem pk_shrN {n : Nat} (h : n < 2 ^ 31) (s : Int32) (k : Nat) (hs : (s.toBitVec.smod 32).toNat = k) : nI n >>> s = nI (n / 2 ^ k) := by
  apply Int32.toInt_inj.mp
  have h2 : n / 2 ^ k ≤ n := Nat.div_le_self _ _
  rw [pk_shr _ _ k hs, nI_toInt h, nI_toInt (by omega), Int.shiftRight_eq_div_pow]
  rfl
theorem pk_vb (z : Int32) : vp_nar .byte z.toInt8.toInt32 = z.toInt8.toInt32 := by rw [vp_nar_byte]; simp
theorem pk_vs (z : Int32) : vp_nar .short z.toInt16.toInt32 = z.toInt16.toInt32 := by rw [vp_nar_short]; simp
theorem s_l : ∀ n, n < 32 → ((nI n &&& 31).toBitVec.smod 32).toNat = n := by decide +kernel
/-! ===== lN n to 2^64: shifts, and, or, masks, one bit ===== -/
theorem wb_tb (n : Nat) : (lN n).toBitVec = BitVec.ofNat 64 n := rfl
theorem wb_inj {a b : Int64} (h : a.toBitVec = b.toBitVec) : a = b := Int64.toBitVec_inj.mp h
theorem wb_tn {n : Nat} (h : n < 2 ^ 64) : (lN n).toBitVec.toNat = n := by rw [wb_tb, BitVec.toNat_ofNat, Nat.mod_eq_of_lt h]
theorem wb_of (x : Int64) : ∃ n, n < 2 ^ 64 ∧ x = lN n := ⟨x.toBitVec.toNat, x.toBitVec.isLt, wb_inj (by rw [wb_tb]; simp)⟩
theorem wb_of32 (x : Int32) : ∃ n, n < 2 ^ 32 ∧ x = nI n := ⟨x.toBitVec.toNat, x.toBitVec.isLt, Int32.toBitVec_inj.mp (by show _ = BitVec.ofNat 32 _; simp)⟩
theorem wb_c : ∀ k, k < 64 → ((nI k).toInt64 &&& 63) = lN k := by decide +kernel
theorem wb_cu : ∀ k, k < 64 → ((nI k).toInt64.toUInt64 &&& Int64.toUInt64 63) = UInt64.ofNat k := by decide +kernel
theorem wb_sm : ∀ k, k < 64 → (BitVec.ofNat 64 k).smod 64 = BitVec.ofNat 64 k := by decide +kernel
theorem wb_pw {a b : Nat} (h : a ≤ b) : 2 ^ b = 2 ^ a * 2 ^ (b - a) := by rw [← Nat.pow_add]; congr 1; omega
theorem wb_lt2 {a b : Nat} (h : a < b) : 2 ^ a < 2 ^ b := Nat.pow_lt_pow_right (by decide) h
theorem wb_mod (n : Nat) : lN n = lN (n % 2 ^ 64) := wb_inj (by rw [wb_tb, wb_tb]; apply BitVec.eq_of_toNat_eq; rw [BitVec.toNat_ofNat, BitVec.toNat_ofNat, Nat.mod_mod])
theorem wb_shr {n k : Nat} (hn : n < 2 ^ 64) (hk : k < 64) : ((lN n).toUInt64 >>> ((nI k).toInt64.toUInt64 &&& Int64.toUInt64 63)).toInt64 = lN (n / 2 ^ k) := by
  rw [wb_cu k hk]
  apply wb_inj
  apply BitVec.eq_of_toNat_eq
  show ((lN n).toUInt64 >>> UInt64.ofNat k).toNat = (BitVec.ofNat 64 _).toNat
  have h1 : (UInt64.ofNat k).toNat = k := by
    show (BitVec.ofNat 64 k).toNat = k
    rw [BitVec.toNat_ofNat, Nat.mod_eq_of_lt (by omega)]
  have h2 : (lN n).toUInt64.toNat = n := wb_tn hn
  rw [UInt64.toNat_shiftRight, h1, h2, Nat.mod_eq_of_lt hk, Nat.shiftRight_eq_div_pow, BitVec.toNat_ofNat, Nat.mod_eq_of_lt (Nat.lt_of_le_of_lt (Nat.div_le_self _ _) hn)]
theorem wb_shl (n : Nat) {k : Nat} (hk : k < 64) : lN n <<< ((nI k).toInt64 &&& 63) = lN (n * 2 ^ k) := by
  rw [wb_c k hk]
  apply wb_inj
  rw [Int64.toBitVec_shiftLeft, wb_tb, wb_tb, wb_tb, wb_sm k hk]
  apply BitVec.eq_of_toNat_eq
  rw [BitVec.shiftLeft_eq', BitVec.toNat_shiftLeft, BitVec.toNat_ofNat, BitVec.toNat_ofNat, BitVec.toNat_ofNat, Nat.mod_eq_of_lt (show k < 2 ^ 64 by omega), Nat.shiftLeft_eq, Nat.mul_mod, Nat.mod_mod, ← Nat.mul_mod]
theorem wb_and {a b : Nat} (ha : a < 2 ^ 64) (hb : b < 2 ^ 64) : lN a &&& lN b = lN (a &&& b) := by
  apply wb_inj
  rw [Int64.toBitVec_and, wb_tb, wb_tb, wb_tb]
  apply BitVec.eq_of_toNat_eq
  rw [BitVec.toNat_and, BitVec.toNat_ofNat, BitVec.toNat_ofNat, BitVec.toNat_ofNat, Nat.mod_eq_of_lt ha, Nat.mod_eq_of_lt hb, Nat.mod_eq_of_lt (Nat.and_lt_two_pow _ hb)]
theorem wb_or {a b : Nat} (ha : a < 2 ^ 64) (hb : b < 2 ^ 64) : lN a ||| lN b = lN (a ||| b) := by
  apply wb_inj
  rw [Int64.toBitVec_or, wb_tb, wb_tb, wb_tb]
  apply BitVec.eq_of_toNat_eq
  rw [BitVec.toNat_or, BitVec.toNat_ofNat, BitVec.toNat_ofNat, BitVec.toNat_ofNat, Nat.mod_eq_of_lt ha, Nat.mod_eq_of_lt hb, Nat.mod_eq_of_lt (Nat.or_lt_two_pow ha hb)]
theorem wb_mask {n k : Nat} (hn : n < 2 ^ 64) (hk : k < 64) : lN n &&& lN (2 ^ k - 1) = lN (n % 2 ^ k) := by
  rw [wb_and hn (by have := wb_lt2 hk; omega), Nat.and_two_pow_sub_one_eq_mod]
theorem wb_a1 {n : Nat} (hn : n < 2 ^ 64) : lN n &&& 1 = lN (n % 2) := wb_mask (k := 1) hn (by decide)
theorem wb_bit {n k : Nat} (hn : n < 2 ^ 64) (hk : k < 64) : ((lN n).toUInt64 >>> ((nI k).toInt64.toUInt64 &&& Int64.toUInt64 63)).toInt64 &&& 1 = lN (n / 2 ^ k % 2) := by
  rw [wb_shr hn hk, wb_a1 (Nat.lt_of_le_of_lt (Nat.div_le_self _ _) hn)]
end
section
/-! arrays of naturals -/
def jn_a (f : Nat → Nat) (j : Nat) : Int32 := nI (f j)
def jn_u (f : Nat → Nat) (k x : Nat) (j : Nat) : Nat := if j = k then x else f j
theorem jn_us {f : Nat → Nat} {k x : Nat} : jn_u f k x k = x := if_pos rfl
theorem jn_un {f : Nat → Nat} {k x j : Nat} (h : j ≠ k) : jn_u f k x j = f j := if_neg h
theorem jn_upd (f : Nat → Nat) (k x : Nat) : upd (jn_a f) k (nI x) = jn_a (jn_u f k x) := by
  funext j
  by_cases h : j = k
  · subst h
    show upd (jn_a f) j (nI x) j = nI (jn_u f j x j)
    rw [pk_us, jn_us]
  · show upd (jn_a f) k (nI x) j = nI (jn_u f k x j)
    rw [pk_un h, jn_un h]
    rfl
theorem jn_ub {P : Nat → Prop} {f : Nat → Nat} {k x : Nat} (h : ∀ j, P (f j)) (hx : P x) (j : Nat) : P (jn_u f k x j) := by
  by_cases e : j = k
  · subst e; rw [jn_us]; exact hx
  · rw [jn_un e]; exact h j
/-! bits -/
theorem jn_bitI : ∀ q, q < 256 → ∀ y, y < 8 → ((nI q >>> (nI y &&& 31)) &&& 1) = if q.testBit y = true then 1 else 0 := by decide +kernel
def jn_st (q y : Nat) (o : Bool) : Nat := if o = true then q ||| 2 ^ y else q &&& (255 - 2 ^ y)
theorem jn_orI : ∀ q, q < 256 → ∀ y, y < 8 → nI q ||| ((1 : Int32) <<< (nI y &&& 31)) = nI (jn_st q y true) := by decide +kernel
theorem jn_clI : ∀ q, q < 256 → ∀ y, y < 8 → nI q &&& (((1 : Int32) <<< (nI y &&& 31)) ^^^ (-1)) = nI (jn_st q y false) := by decide +kernel
theorem jn_stL1 : ∀ q, q < 256 → ∀ y, y < 8 → jn_st q y true < 256 := by decide +kernel
theorem jn_stL0 : ∀ q, q < 256 → ∀ y, y < 8 → jn_st q y false < 256 := by decide +kernel
theorem jn_stL (q : Nat) (hq : q < 256) (y : Nat) (hy : y < 8) (o : Bool) : jn_st q y o < 256 := by
  cases o
  · exact jn_stL0 q hq y hy
  · exact jn_stL1 q hq y hy
theorem jn_stB1 : ∀ q, q < 256 → ∀ y, y < 8 → ∀ j, j < 8 → (jn_st q y true).testBit j = if j = y then true else q.testBit j := by decide +kernel
theorem jn_stB0 : ∀ q, q < 256 → ∀ y, y < 8 → ∀ j, j < 8 → (jn_st q y false).testBit j = if j = y then false else q.testBit j := by decide +kernel
theorem jn_stB (q : Nat) (hq : q < 256) (y : Nat) (hy : y < 8) (j : Nat) (hj : j < 8) (o : Bool) : (jn_st q y o).testBit j = if j = y then o else q.testBit j := by
  cases o
  · exact jn_stB0 q hq y hy j hj
  · exact jn_stB1 q hq y hy j hj
theorem jn_s16 : ∀ q, q < 256 → (nI q).toInt16.toInt32 = nI q := by decide +kernel
theorem jn_s8 : ∀ q, q < 128 → (nI q).toInt8.toInt32 = nI q := by decide +kernel
theorem jn_narS {q : Nat} (h : q < 256) : vp_nar .short (nI q).toInt16.toInt32 = nI q := by rw [pk_vs, jn_s16 q h]
theorem jn_narB {q : Nat} (h : q < 128) : vp_nar .byte (nI q).toInt8.toInt32 = nI q := by rw [pk_vb, jn_s8 q h]
theorem jn_mo1 : ∀ q, q < 256 → ∀ y, y < 8 → q.testBit y = true → nI (q % 2 ^ y) ||| ((1 : Int32) <<< (nI y &&& 31)) = nI (q % 2 ^ (y + 1)) := by decide +kernel
theorem jn_mo0 : ∀ q, q < 256 → ∀ y, y < 8 → q.testBit y = false → q % 2 ^ y = q % 2 ^ (y + 1) := by decide +kernel
theorem jn_b0 {q y : Nat} (h : q.testBit y = true) : q ≠ 0 := by
  intro e
  subst e
  rw [Nat.zero_testBit] at h
  exact nomatch h
/-! digits -/
def jn_dg (n v : Nat) : Nat := n / 2 ^ (9 - 3 * v) % 8
def jn_tp (n d : Nat) : Nat := n / 2 ^ (12 - 3 * d)
theorem jn_dgL (n v : Nat) : jn_dg n v < 8 := Nat.mod_lt _ (by decide)
theorem jn_4 {P : Nat → Prop} (h0 : P 0) (h1 : P 1) (h2 : P 2) (h3 : P 3) {i : Nat} (hi : i < 4) : P i := by
  have h : i = 0 ∨ i = 1 ∨ i = 2 ∨ i = 3 := by omega
  rcases h with h | h | h | h <;> subst h
  · exact h0
  · exact h1
  · exact h2
  · exact h3
theorem jn_dgI {n v : Nat} (hn : n < 2 ^ 31) (hv : v < 4) : (nI n >>> ((9 - (3 * nI v)) &&& 31)) &&& 7 = nI (jn_dg n v) := by
  refine jn_4 (P := fun v => (nI n >>> ((9 - (3 * nI v)) &&& 31)) &&& 7 = nI (jn_dg n v)) ?_ ?_ ?_ ?_ hv
  · rw [pk_shrN hn _ 9 (by decide +kernel), pk_andN (Nat.lt_of_le_of_lt (Nat.div_le_self _ _) (by omega)) 3 (by decide)]; rfl
  · rw [pk_shrN hn _ 6 (by decide +kernel), pk_andN (Nat.lt_of_le_of_lt (Nat.div_le_self _ _) (by omega)) 3 (by decide)]; rfl
  · rw [pk_shrN hn _ 3 (by decide +kernel), pk_andN (Nat.lt_of_le_of_lt (Nat.div_le_self _ _) (by omega)) 3 (by decide)]; rfl
  · rw [pk_shrN hn _ 0 (by decide +kernel), pk_andN (Nat.lt_of_le_of_lt (Nat.div_le_self _ _) (by omega)) 3 (by decide)]; rfl
theorem jn_tpS {n d : Nat} (hd : d < 4) : jn_tp n (d + 1) = 8 * jn_tp n d + jn_dg n d := by
  refine jn_4 (P := fun d => jn_tp n (d + 1) = 8 * jn_tp n d + jn_dg n d) ?_ ?_ ?_ ?_ hd
  · show n / 512 = 8 * (n / 4096) + n / 512 % 8; omega
  · show n / 64 = 8 * (n / 512) + n / 64 % 8; omega
  · show n / 8 = 8 * (n / 64) + n / 8 % 8; omega
  · show n / 1 = 8 * (n / 8) + n / 1 % 8; omega
theorem jn_tp4 (n : Nat) : jn_tp n 4 = n := by show n / 1 = n; omega
theorem jn_tp0 {n : Nat} (h : n < 4096) : jn_tp n 0 = 0 := by show n / 4096 = 0; omega
theorem jn_tpM {a b d : Nat} (h : a ≤ b) : jn_tp a d ≤ jn_tp b d := Nat.div_le_div_right h
def jn_pre (th : Nat → Nat) : Nat → Nat
  | 0 => 0
  | d + 1 => 8 * jn_pre th d + th d
theorem jn_preC {s t : Nat → Nat} : ∀ d, (∀ e, e < d → s e = t e) → jn_pre s d = jn_pre t d
  | 0, _ => rfl
  | d + 1, h => by
    show 8 * jn_pre s d + s d = 8 * jn_pre t d + t d
    rw [jn_preC d (fun e he => h e (by omega)), h d (by omega)]
theorem jn_preU {th : Nat → Nat} {d x : Nat} : jn_pre (jn_u th d x) d = jn_pre th d := jn_preC d fun _ he => jn_un (by omega)
theorem jn_preU1 {th : Nat → Nat} {d x : Nat} : jn_pre (jn_u th d x) (d + 1) = 8 * jn_pre th d + x := by
  show 8 * jn_pre (jn_u th d x) d + jn_u th d x d = _
  rw [jn_preU, jn_us]
theorem jn_preT {th : Nat → Nat} {n : Nat} (hn : n < 4096) : ∀ d, d ≤ 4 → (∀ e, e < d → th e = jn_dg n e) → jn_pre th d = jn_tp n d
  | 0, _, _ => (jn_tp0 hn).symm
  | d + 1, hd, h => by
    rw [jn_tpS (by omega), ← jn_preT hn d (by omega) (fun e he => h e (by omega)), ← h d (by omega)]
    rfl
theorem jn_preD {th : Nat → Nat} {n : Nat} (ht : ∀ j, th j < 8) : ∀ d, d ≤ 4 → jn_pre th d = jn_tp n d → ∀ e, e < d → th e = jn_dg n e
  | 0, _, _ => fun _ he => absurd he (Nat.not_lt_zero _)
  | d + 1, hd, h => by
    have h2 : 8 * jn_pre th d + th d = 8 * jn_tp n d + jn_dg n d := h.trans (jn_tpS (by omega))
    have a := ht d
    have b := jn_dgL n d
    have h3 : jn_pre th d = jn_tp n d := by omega
    intro e he
    by_cases e2 : e = d
    · subst e2; omega
    · exact jn_preD ht d (by omega) h3 e (by omega)
theorem jn_preL {th : Nat → Nat} (ht : ∀ j, th j < 8) : jn_pre th 4 < 4096 := by
  have a := ht 0
  have b := ht 1
  have c := ht 2
  have d := ht 3
  show 8 * (8 * (8 * (8 * 0 + th 0) + th 1) + th 2) + th 3 < 4096
  omega
/-! the least from x on -/
def jn_L (P : Nat → Prop) (x r : Nat) : Prop := x ≤ r ∧ r ≤ 8 ∧ (∀ y, x ≤ y → y < r → ¬ P y) ∧ (r < 8 → P r)
/-! what the state holds -/
def jn_G (m : Nat) (on bk rl fs sn : Nat → Nat) : Prop := m ≤ 5 ∧ (∀ j, on j < 256) ∧ (∀ j, bk j < 256) ∧ (∀ j, rl j < 3) ∧ (∀ j, fs j < 4) ∧ (∀ j, sn j < 4) ∧ (∀ r x y, r < 3 → x < 8 → y < 8 → (bk (8 * r + y)).testBit x = (on (8 * r + x)).testBit y)
def jn_has (fs sn : Nat → Nat) (a d : Nat) : Prop := fs a = d ∨ sn a = d
def jn_al (on bk rl fs sn th : Nat → Nat) (a d y : Nat) : Prop :=
  if fs a = d then
    if sn a = d then (on (8 * rl a + y)).testBit y = true
    else if sn a < d then (bk (8 * rl a + th (sn a))).testBit y = true else on (8 * rl a + y) ≠ 0
  else if fs a < d then (on (8 * rl a + th (fs a))).testBit y = true else bk (8 * rl a + y) ≠ 0
def jn_ok (m : Nat) (on bk rl fs sn th : Nat → Nat) (d y : Nat) : Prop := (∀ a, a < m → jn_has fs sn a d → jn_al on bk rl fs sn th a d y) ∧ ((∃ a, a < m ∧ jn_has fs sn a d) ∨ y = 0)
def jn_A (m : Nat) (on rl fs sn : Nat → Nat) (n : Nat) : Prop := (∀ a, a < m → (on (8 * rl a + jn_dg n (fs a))).testBit (jn_dg n (sn a)) = true) ∧ (∀ v, v < 4 → (∃ a, a < m ∧ jn_has fs sn a v) ∨ jn_dg n v = 0)
section
variable {m : Nat} {on bk rl fs sn : Nat → Nat}
theorem jn_al1 {th : Nat → Nat} {a d y : Nat} (h1 : fs a = d) (h2 : sn a = d) : jn_al on bk rl fs sn th a d y = ((on (8 * rl a + y)).testBit y = true) := by
  unfold jn_al; rw [if_pos h1, if_pos h2]
theorem jn_al2 {th : Nat → Nat} {a d y : Nat} (h1 : fs a = d) (h2 : sn a < d) : jn_al on bk rl fs sn th a d y = ((bk (8 * rl a + th (sn a))).testBit y = true) := by
  unfold jn_al; rw [if_pos h1, if_neg (by omega), if_pos h2]
theorem jn_al3 {th : Nat → Nat} {a d y : Nat} (h1 : fs a = d) (h2 : d < sn a) : jn_al on bk rl fs sn th a d y = (on (8 * rl a + y) ≠ 0) := by
  unfold jn_al; rw [if_pos h1, if_neg (by omega), if_neg (by omega)]
theorem jn_al4 {th : Nat → Nat} {a d y : Nat} (h1 : fs a < d) : jn_al on bk rl fs sn th a d y = ((on (8 * rl a + th (fs a))).testBit y = true) := by
  unfold jn_al; rw [if_neg (by omega), if_pos h1]
theorem jn_al5 {th : Nat → Nat} {a d y : Nat} (h1 : d < fs a) : jn_al on bk rl fs sn th a d y = (bk (8 * rl a + y) ≠ 0) := by
  unfold jn_al; rw [if_neg (by omega), if_neg (by omega)]
theorem jn_alC {s t : Nat → Nat} {a d y : Nat} (h : ∀ e, e < d → s e = t e) : jn_al on bk rl fs sn s a d y = jn_al on bk rl fs sn t a d y := by
  rcases Nat.lt_trichotomy (fs a) d with h1 | h1 | h1
  · rw [jn_al4 h1, jn_al4 h1, h _ h1]
  · rcases Nat.lt_trichotomy (sn a) d with h2 | h2 | h2
    · rw [jn_al2 h1 h2, jn_al2 h1 h2, h _ h2]
    · rw [jn_al1 h1 h2, jn_al1 h1 h2]
    · rw [jn_al3 h1 h2, jn_al3 h1 h2]
  · rw [jn_al5 h1, jn_al5 h1]
theorem jn_okC {s t : Nat → Nat} {d y : Nat} (h : ∀ e, e < d → s e = t e) (k : jn_ok m on bk rl fs sn s d y) : jn_ok m on bk rl fs sn t d y :=
  ⟨fun a ha hh => by rw [← jn_alC h]; exact k.1 a ha hh, k.2⟩
/-- an answer whose first things are th is allowed at d -/
theorem jn_L1 {th : Nat → Nat} {n d : Nat} (g : jn_G m on bk rl fs sn) (hA : jn_A m on rl fs sn n) (hd : d < 4) (ht : ∀ e, e < d → th e = jn_dg n e) : jn_ok m on bk rl fs sn th d (jn_dg n d) := by
  refine ⟨fun a ha hh => ?_, hA.2 d hd⟩
  obtain ⟨_, _, _, gr, _, _, gt⟩ := g
  have hb := hA.1 a ha
  have ht2 := gt (rl a) (jn_dg n (fs a)) (jn_dg n (sn a)) (gr a) (jn_dgL _ _) (jn_dgL _ _)
  rw [hb] at ht2
  rcases Nat.lt_trichotomy (fs a) d with h1 | h1 | h1
  · have h2 : sn a = d := by rcases hh with h | h <;> omega
    rw [jn_al4 h1, ht _ h1, ← h2]; exact hb
  · rcases Nat.lt_trichotomy (sn a) d with h2 | h2 | h2
    · rw [jn_al2 h1 h2, ht _ h2, ← h1]; exact ht2
    · rw [h1, h2] at hb
      rw [jn_al1 h1 h2]; exact hb
    · rw [jn_al3 h1 h2, ← h1]; exact jn_b0 hb
  · have h2 : sn a = d := by rcases hh with h | h <;> omega
    rw [jn_al5 h1, ← h2]; exact jn_b0 ht2
/-- things that are allowed everywhere are an answer -/
theorem jn_L2 {th : Nat → Nat} (g : jn_G m on bk rl fs sn) (ht : ∀ j, th j < 8) (h : ∀ d, d < 4 → jn_ok m on bk rl fs sn th d (th d)) : jn_A m on rl fs sn (jn_pre th 4) := by
  have hd := jn_preD (n := jn_pre th 4) ht 4 (by omega) (jn_tp4 _).symm
  obtain ⟨_, _, _, gr, gf, gs, gt⟩ := g
  refine ⟨fun a ha => ?_, fun v hv => ?_⟩
  · rw [← hd _ (gf a), ← hd _ (gs a)]
    rcases Nat.lt_trichotomy (fs a) (sn a) with h1 | h1 | h1
    · have k := (h (sn a) (gs a)).1 a ha (Or.inr rfl)
      rw [jn_al4 h1] at k; exact k
    · have k := (h (sn a) (gs a)).1 a ha (Or.inr rfl)
      rw [jn_al1 h1 rfl] at k
      rw [h1]; exact k
    · have k := (h (fs a) (gf a)).1 a ha (Or.inl rfl)
      rw [jn_al2 rfl h1, gt _ _ _ (gr a) (ht _) (ht _)] at k
      exact k
  · rw [← hd v hv]
    exact (h v hv).2
end
end
section
/-! the search: its invariant, its clock -/
def jn_I (m : Nat) (on bk rl fs sn : Nat → Nat) (low : Nat) (th : Nat → Nat) (d l : Nat) : Prop :=
  d < 4 ∧ l ≤ 8 ∧ (∀ e, e < d → jn_ok m on bk rl fs sn th e (th e)) ∧ jn_tp low (d + 1) ≤ 8 * jn_pre th d + l ∧
  (∀ n, n < 4096 → jn_A m on rl fs sn n → low ≤ n → 8 * jn_pre th d + l ≤ jn_tp n (d + 1))
def jn_N (A : Nat → Prop) (s : Nat) (r : Int32) : Prop :=
  (∃ j, j < 4096 ∧ r = nI j ∧ A j ∧ s ≤ j ∧ ∀ i, s ≤ i → i < j → ¬ A i) ∨ (r = -1 ∧ ∀ i, i < 4096 → s ≤ i → ¬ A i)
section
variable {m : Nat} {on bk rl fs sn : Nat → Nat}
theorem jn_C {low d l x n : Nat} {th : Nat → Nat} (g : jn_G m on bk rl fs sn) (ht : ∀ j, th j < 8) (I : jn_I m on bk rl fs sn low th d l) (hL : jn_L (jn_ok m on bk rl fs sn th d) l x) (hn : n < 4096) (hA : jn_A m on rl fs sn n) (hl : low ≤ n) : 8 * jn_pre th d + x ≤ jn_tp n (d + 1) := by
  obtain ⟨hd, _, _, _, I5⟩ := I
  have h := I5 n hn hA hl
  rw [jn_tpS hd] at h ⊢
  have b := jn_dgL n d
  obtain ⟨_, L2, L3, _⟩ := hL
  by_cases e : jn_pre th d = jn_tp n d
  · have k := jn_L1 g hA hd (jn_preD ht d (by omega) e)
    by_cases c : jn_dg n d < x
    · exact absurd k (L3 _ (by omega) c)
    · omega
  · omega
theorem jn_I0 {low : Nat} {th : Nat → Nat} (hl : low < 4096) : jn_I m on bk rl fs sn low th 0 (jn_dg low 0) := by
  have b := jn_dgL low 0
  have e := jn_tpS (n := low) (d := 0) (by omega)
  rw [jn_tp0 hl] at e
  refine ⟨by omega, by omega, fun e he => absurd he (Nat.not_lt_zero _), ?_, fun n hn hA hle => ?_⟩
  · show jn_tp low (0 + 1) ≤ 8 * 0 + jn_dg low 0
    omega
  · have := jn_tpM (d := 0 + 1) hle
    show 8 * 0 + jn_dg low 0 ≤ jn_tp n (0 + 1)
    omega
theorem jn_okU {d x : Nat} {th : Nat → Nat} (h : ∀ e, e < d → jn_ok m on bk rl fs sn th e (th e)) (hx : jn_ok m on bk rl fs sn th d x) : ∀ e, e < d + 1 → jn_ok m on bk rl fs sn (jn_u th d x) e (jn_u th d x e) := by
  intro e he
  have c : ∀ i, i < e → th i = jn_u th d x i := fun i hi => (jn_un (by omega)).symm
  by_cases e2 : e = d
  · subst e2
    rw [jn_us]
    exact jn_okC c hx
  · rw [jn_un e2]
    exact jn_okC c (h e (by omega))
theorem jn_It {low d l x : Nat} {th : Nat → Nat} (g : jn_G m on bk rl fs sn) (hlow : low < 4096) (ht : ∀ j, th j < 8) (I : jn_I m on bk rl fs sn low th d l) (hL : jn_L (jn_ok m on bk rl fs sn th d) l x) (hx : x < 8) (hd : d < 3) (hT : ∀ e, e < d + 1 → jn_u th d x e = jn_dg low e) : jn_I m on bk rl fs sn low (jn_u th d x) (d + 1) (jn_dg low (d + 1)) := by
  have e := jn_preT hlow (d + 1) (by omega) hT
  have b := jn_dgL low (d + 1)
  refine ⟨by omega, by omega, jn_okU I.2.2.1 (hL.2.2.2 hx), ?_, fun n hn hA hle => ?_⟩
  · rw [e, ← jn_tpS (by omega)]
    exact Nat.le_refl _
  · rw [e, ← jn_tpS (by omega)]
    exact jn_tpM hle
theorem jn_Il {low d l x : Nat} {th : Nat → Nat} (g : jn_G m on bk rl fs sn) (hlow : low < 4096) (ht : ∀ j, th j < 8) (I : jn_I m on bk rl fs sn low th d l) (hL : jn_L (jn_ok m on bk rl fs sn th d) l x) (hx : x < 8) (hd : d < 3) (hT : ¬ ∀ e, e < d + 1 → jn_u th d x e = jn_dg low e) : jn_I m on bk rl fs sn low (jn_u th d x) (d + 1) 0 := by
  have e1 : jn_pre (jn_u th d x) (d + 1) = 8 * jn_pre th d + x := jn_preU1
  have b := jn_dgL low (d + 1)
  have hne : ¬ jn_pre (jn_u th d x) (d + 1) = jn_tp low (d + 1) := fun z => hT (jn_preD (jn_ub (P := fun j => j < 8) ht hx) (d + 1) (by omega) z)
  have L1 := hL.1
  have I4 := I.2.2.2.1
  refine ⟨by omega, by omega, jn_okU I.2.2.1 (hL.2.2.2 hx), ?_, fun n hn hA hle => ?_⟩
  · rw [jn_tpS (by omega)]
    omega
  · have c := jn_C g ht I hL hn hA hle
    rw [jn_tpS (by omega)]
    omega
theorem jn_If {low l x : Nat} {th : Nat → Nat} (g : jn_G m on bk rl fs sn) (ht : ∀ j, th j < 8) (I : jn_I m on bk rl fs sn low th 3 l) (hL : jn_L (jn_ok m on bk rl fs sn th 3) l x) (hx : x < 8) : jn_N (jn_A m on rl fs sn) low (nI (jn_pre (jn_u th 3 x) 4)) := by
  have e1 : jn_pre (jn_u th 3 x) 4 = 8 * jn_pre th 3 + x := jn_preU1
  have ht2 := jn_ub (P := fun j => j < 8) (k := 3) ht hx
  have I4 := I.2.2.2.1
  have L1 := hL.1
  have t4 : jn_tp low (3 + 1) = low := jn_tp4 low
  refine Or.inl ⟨_, jn_preL ht2, rfl, jn_L2 g ht2 (jn_okU I.2.2.1 (hL.2.2.2 hx)), by omega, fun i hi hlt hA => ?_⟩
  have b := jn_preL ht2
  have c := jn_C g ht I hL (n := i) (by omega) hA hi
  have t5 : jn_tp i (3 + 1) = i := jn_tp4 i
  omega
theorem jn_Ib {low e l x : Nat} {th : Nat → Nat} (g : jn_G m on bk rl fs sn) (ht : ∀ j, th j < 8) (I : jn_I m on bk rl fs sn low th (e + 1) l) (hL : jn_L (jn_ok m on bk rl fs sn th (e + 1)) l x) (hx : 8 ≤ x) : jn_I m on bk rl fs sn low th e (th e + 1) := by
  have hd := I.1
  have I2 := I.2.1
  have I4 := I.2.2.2.1
  have a := ht e
  have p : jn_pre th (e + 1) = 8 * jn_pre th e + th e := rfl
  have L2 := hL.2.1
  refine ⟨by omega, by omega, fun i hi => I.2.2.1 i (by omega), ?_, fun n hn hA hle => ?_⟩
  · rw [jn_tpS hd] at I4
    omega
  · have c := jn_C g ht I hL hn hA hle
    have b := jn_dgL n (e + 1)
    rw [jn_tpS hd] at c
    omega
theorem jn_In {low l x : Nat} {th : Nat → Nat} (g : jn_G m on bk rl fs sn) (ht : ∀ j, th j < 8) (I : jn_I m on bk rl fs sn low th 0 l) (hL : jn_L (jn_ok m on bk rl fs sn th 0) l x) (hx : 8 ≤ x) : jn_N (jn_A m on rl fs sn) low (-1) := by
  refine Or.inr ⟨rfl, fun n hn hle hA => ?_⟩
  have c := jn_C g ht I hL hn hA hle
  have b := jn_dgL n 0
  rw [jn_tpS (by omega), jn_tp0 hn] at c
  have p : jn_pre th 0 = 0 := rfl
  omega
end
/-! the clock -/
def jn_S (d : Nat) : Nat := if d = 0 then 658 else if d = 1 then 82 else if d = 2 then 10 else 1
def jn_W (th : Nat → Nat) : Nat → Nat
  | 0 => 0
  | d + 1 => jn_W th d + th d * jn_S d + 1
def jn_T (th : Nat → Nat) (d l : Nat) : Nat := jn_W th d + l * jn_S d
theorem jn_WC {s t : Nat → Nat} : ∀ d, (∀ e, e < d → s e = t e) → jn_W s d = jn_W t d
  | 0, _ => rfl
  | d + 1, h => by
    show jn_W s d + s d * jn_S d + 1 = jn_W t d + t d * jn_S d + 1
    rw [jn_WC d (fun e he => h e (by omega)), h d (by omega)]
theorem jn_Tf {th : Nat → Nat} {d l x l' : Nat} (h : l ≤ x) : jn_T th d l < jn_T (jn_u th d x) (d + 1) l' := by
  show jn_W th d + l * jn_S d < jn_W (jn_u th d x) d + jn_u th d x d * jn_S d + 1 + l' * jn_S (d + 1)
  rw [jn_WC (s := jn_u th d x) (t := th) d (fun e he => jn_un (by omega)), jn_us]
  have := Nat.mul_le_mul_right (jn_S d) h
  omega
theorem jn_Tb {th : Nat → Nat} {e l : Nat} (he : e < 3) (hl : l ≤ 8) : jn_T th (e + 1) l < jn_T th e (th e + 1) := by
  show jn_W th e + th e * jn_S e + 1 + l * jn_S (e + 1) < jn_W th e + (th e + 1) * jn_S e
  have h : e = 0 ∨ e = 1 ∨ e = 2 := by omega
  rcases h with h | h | h <;> subst h
  · show jn_W th 0 + th 0 * 658 + 1 + l * 82 < jn_W th 0 + (th 0 + 1) * 658; omega
  · show jn_W th 1 + th 1 * 82 + 1 + l * 10 < jn_W th 1 + (th 1 + 1) * 82; omega
  · show jn_W th 2 + th 2 * 10 + 1 + l * 1 < jn_W th 2 + (th 2 + 1) * 10; omega
theorem jn_TL {th : Nat → Nat} {d l : Nat} (ht : ∀ j, th j < 8) (hd : d < 4) (hl : l ≤ 8) : jn_T th d l ≤ 5264 := by
  have a := ht 0
  have b := ht 1
  have c := ht 2
  refine jn_4 (P := fun d => jn_T th d l ≤ 5264) ?_ ?_ ?_ ?_ hd
  · show 0 + l * 658 ≤ 5264; omega
  · show 0 + th 0 * 658 + 1 + l * 82 ≤ 5264; omega
  · show 0 + th 0 * 658 + 1 + th 1 * 82 + 1 + l * 10 ≤ 5264; omega
  · show 0 + th 0 * 658 + 1 + th 1 * 82 + 1 + th 2 * 10 + 1 + l * 1 ≤ 5264; omega
end
section
/-! the component's small methods -/
abbrev jn_X (m : Nat) (on bk rl fs sn th ls : Nat → Nat) : SX := (nI m, jn_a on, jn_a bk, jn_a rl, jn_a fs, jn_a sn, jn_a th, jn_a ls)
abbrev jn_Y (m : Nat) (on rl fs sn : Nat → Nat) (se : Nat → Int32) : SY := (nI m, jn_a on, jn_a rl, jn_a fs, jn_a sn, se)
theorem jn_ixX (r x : Nat) : nI r * 8 + nI x = nI (8 * r + x) := by
  rw [show (8 : Int32) = nI 8 from rfl, pk_mul, nI_add, Nat.mul_comm r 8]
theorem jn_ixY (r x : Nat) : 8 * nI r + nI x = nI (8 * r + x) := by
  rw [show (8 : Int32) = nI 8 from rfl, pk_mul, nI_add]
theorem jn_rd {f : Nat → Nat} {k : Nat} (h : k < 2 ^ 31) : jn_a f (nI k).toNatClampNeg = nI (f k) := by
  rw [nI_clamp h]; rfl
theorem jn_xin {post : Int32 → Prop} {q y : Nat} (hq : q < 256) (hy : y < 8) (h1 : q.testBit y = true → post 1) (h0 : ¬ q.testBit y = true → post 0) : wpX_in post (nI q) (nI y) := by
  unfold wpX_in
  rw [jn_bitI q hq y hy]
  by_cases h : q.testBit y = true
  · rw [if_pos h]; exact br_f (by decide) (h1 h)
  · rw [if_neg h]; exact br_t rfl (h0 h)
/-! from -/
theorem jn_from2 {post : Int32 → Prop} {q x : Nat} (hq : q < 256) (K : ∀ r, jn_L (fun y => q.testBit y = true) x r → post (nI r)) : ∀ n y, x ≤ y → y ≤ 8 → 8 - y < n → (∀ z, x ≤ z → z < y → ¬ q.testBit z = true) → wX_from_2 post (nI q) n (nI y) := by
  intro n
  induction n with
  | zero => intro y _ _ h; exact absurd h (Nat.not_lt_zero _)
  | succ n ih =>
    intro y hxy hy hn hz
    rw [wX_from_2]
    refine pk_le 8 y (fun h => ?_) (fun h => ?_)
    · have e : y = 8 := by omega
      subst e
      exact K 8 ⟨hxy, by omega, hz, fun z => absurd z (by omega)⟩
    · refine jn_xin hq h (fun b => br_f (by decide) (K y ⟨hxy, hy, hz, fun _ => b⟩)) (fun b => br_t rfl (nm_r (nI_1 y) (ih (y + 1) (by omega) (by omega) (by omega) ?_)))
      intro z h1 h2
      by_cases e : z = y
      · subst e; exact b
      · exact hz z h1 (by omega)
theorem jn_from {post : Int32 → Prop} {q x : Nat} (hq : q < 256) (hx : x ≤ 8) (K : ∀ r, jn_L (fun y => q.testBit y = true) x r → post (nI r)) : wpX_from post (nI q) (nI x) :=
  ⟨9, jn_from2 hq K 9 x (Nat.le_refl _) hx (by omega) (fun z h1 h2 => absurd h2 (by omega))⟩
section
variable {m : Nat} {on bk rl fs sn th ls : Nat → Nat} {post : Int32 → Prop}
theorem jn_diag2 {r x : Nat} (g : jn_G m on bk rl fs sn) (hr : r < 3) (K : ∀ z, jn_L (fun y => (on (8 * r + y)).testBit y = true) x z → post (nI z)) : ∀ n y, x ≤ y → y ≤ 8 → 8 - y < n → (∀ z, x ≤ z → z < y → ¬ (on (8 * r + z)).testBit z = true) → wX_nextOnDiagonal_2 post (nI (8 * r)) (nI m) (jn_a on) (jn_a bk) (jn_a rl) (jn_a fs) (jn_a sn) (jn_a th) (jn_a ls) n (nI y) := by
  intro n
  induction n with
  | zero => intro y _ _ h; exact absurd h (Nat.not_lt_zero _)
  | succ n ih =>
    intro y hxy hy hn hz
    rw [wX_nextOnDiagonal_2]
    refine pk_le 8 y (fun h => ?_) (fun h => ?_)
    · have e : y = 8 := by omega
      subst e
      exact K 8 ⟨hxy, by omega, hz, fun z => absurd z (by omega)⟩
    · rw [nI_add, jn_rd (by omega)]
      refine ⟨vp_in_nI (by omega) (by omega), ?_⟩
      refine jn_xin (g.2.1 _) h (fun b => br_f (by decide) (K y ⟨hxy, hy, hz, fun _ => b⟩)) (fun b => br_t rfl (nm_r (nI_1 y) (ih (y + 1) (by omega) (by omega) (by omega) ?_)))
      intro z h1 h2
      by_cases e : z = y
      · subst e; exact b
      · exact hz z h1 (by omega)
theorem jn_diag {r x : Nat} (g : jn_G m on bk rl fs sn) (hr : r < 3) (hx : x ≤ 8) (K : ∀ z, jn_L (fun y => (on (8 * r + y)).testBit y = true) x z → post (nI z)) : wpX_nextOnDiagonal post (jn_X m on bk rl fs sn th ls) (nI (8 * r)) (nI x) :=
  ⟨9, jn_diag2 g hr K 9 x (Nat.le_refl _) hx (by omega) (fun z h1 h2 => absurd h2 (by omega))⟩
theorem jn_any2a {r x : Nat} (g : jn_G m on bk rl fs sn) (hr : r < 3) (K : ∀ z, jn_L (fun y => on (8 * r + y) ≠ 0) x z → post (nI z)) : ∀ n y, x ≤ y → y ≤ 8 → 8 - y < n → (∀ z, x ≤ z → z < y → ¬ on (8 * r + z) ≠ 0) → wX_nextWithAny_3 post (nI (8 * r)) 1 (nI m) (jn_a on) (jn_a bk) (jn_a rl) (jn_a fs) (jn_a sn) (jn_a th) (jn_a ls) n (nI y) := by
  intro n
  induction n with
  | zero => intro y _ _ h; exact absurd h (Nat.not_lt_zero _)
  | succ n ih =>
    intro y hxy hy hn hz
    rw [wX_nextWithAny_3]
    refine pk_le 8 y (fun h => ?_) (fun h => ?_)
    · have e : y = 8 := by omega
      subst e
      exact K 8 ⟨hxy, by omega, hz, fun z => absurd z (by omega)⟩
    · rw [nI_add, jn_rd (by omega), jn_rd (by omega)]
      refine br_f (by decide) ⟨vp_in_nI (by omega) (by omega), ?_⟩
      unfold wX_nextWithAny_35
      have q := g.2.1 (8 * r + y)
      refine pk_eq (on (8 * r + y)) 0 (fun b => nm_r (nI_1 y) (ih (y + 1) (by omega) (by omega) (by omega) ?_)) (fun b => K y ⟨hxy, hy, hz, fun _ => b⟩)
      intro z h1 h2
      by_cases e : z = y
      · subst e; exact fun k => k b
      · exact hz z h1 (by omega)
theorem jn_any2b {r x : Nat} (g : jn_G m on bk rl fs sn) (hr : r < 3) (K : ∀ z, jn_L (fun y => bk (8 * r + y) ≠ 0) x z → post (nI z)) : ∀ n y, x ≤ y → y ≤ 8 → 8 - y < n → (∀ z, x ≤ z → z < y → ¬ bk (8 * r + z) ≠ 0) → wX_nextWithAny_3 post (nI (8 * r)) 0 (nI m) (jn_a on) (jn_a bk) (jn_a rl) (jn_a fs) (jn_a sn) (jn_a th) (jn_a ls) n (nI y) := by
  intro n
  induction n with
  | zero => intro y _ _ h; exact absurd h (Nat.not_lt_zero _)
  | succ n ih =>
    intro y hxy hy hn hz
    rw [wX_nextWithAny_3]
    refine pk_le 8 y (fun h => ?_) (fun h => ?_)
    · have e : y = 8 := by omega
      subst e
      exact K 8 ⟨hxy, by omega, hz, fun z => absurd z (by omega)⟩
    · rw [nI_add, jn_rd (by omega), jn_rd (by omega)]
      refine br_t rfl ⟨vp_in_nI (by omega) (by omega), ?_⟩
      unfold wX_nextWithAny_35
      have q := g.2.2.1 (8 * r + y)
      refine pk_eq (bk (8 * r + y)) 0 (fun b => nm_r (nI_1 y) (ih (y + 1) (by omega) (by omega) (by omega) ?_)) (fun b => K y ⟨hxy, hy, hz, fun _ => b⟩)
      intro z h1 h2
      by_cases e : z = y
      · subst e; exact fun k => k b
      · exact hz z h1 (by omega)
theorem jn_anyA {r x : Nat} (g : jn_G m on bk rl fs sn) (hr : r < 3) (hx : x ≤ 8) (K : ∀ z, jn_L (fun y => on (8 * r + y) ≠ 0) x z → post (nI z)) : wpX_nextWithAny post (jn_X m on bk rl fs sn th ls) (nI (8 * r)) (nI x) 1 :=
  ⟨9, jn_any2a g hr K 9 x (Nat.le_refl _) hx (by omega) (fun z h1 h2 => absurd h2 (by omega))⟩
theorem jn_anyB {r x : Nat} (g : jn_G m on bk rl fs sn) (hr : r < 3) (hx : x ≤ 8) (K : ∀ z, jn_L (fun y => bk (8 * r + y) ≠ 0) x z → post (nI z)) : wpX_nextWithAny post (jn_X m on bk rl fs sn th ls) (nI (8 * r)) (nI x) 0 :=
  ⟨9, jn_any2b g hr K 9 x (Nat.le_refl _) hx (by omega) (fun z h1 h2 => absurd h2 (by omega))⟩
theorem jn_LC {P Q : Nat → Prop} {x r : Nat} (e : ∀ y, P y = Q y) (h : jn_L P x r) : jn_L Q x r := by
  have k : P = Q := funext e
  subst k
  exact h
/-! allowedFrom -/
theorem jn_allowed {a d x : Nat} (g : jn_G m on bk rl fs sn) (ht : ∀ j, th j < 8) (ha : a < 5) (hh : jn_has fs sn a d) (hx : x ≤ 8) (K : ∀ r, jn_L (jn_al on bk rl fs sn th a d) x r → post (nI r)) : wpX_allowedFrom post (jn_X m on bk rl fs sn th ls) (nI a) (nI d) (nI x) := by
  have gr := g.2.2.2.1 a
  have gf := g.2.2.2.2.1 a
  have gs := g.2.2.2.2.2.1 a
  have hd : d < 4 := by rcases hh with h | h <;> omega
  have hi : vp_in (nI a) 5 := vp_in_nI ha (by omega)
  have e1 : jn_a rl (nI a).toNatClampNeg * 8 = nI (8 * rl a) := by
    rw [jn_rd (by omega), show (8 : Int32) = nI 8 from rfl, pk_mul, Nat.mul_comm]
  have e2 : jn_a fs (nI a).toNatClampNeg = nI (fs a) := jn_rd (by omega)
  have e3 : jn_a sn (nI a).toNatClampNeg = nI (sn a) := jn_rd (by omega)
  unfold wpX_allowedFrom
  refine ⟨hi, nm_r e1 ⟨hi, nm_r e2 ⟨hi, nm_r e3 ?_⟩⟩⟩
  have k47 : ¬ (fs a = d ∧ sn a = d) → wX_allowedFrom_47 post (nI d) (nI x) (nI (8 * rl a)) (nI (fs a)) (nI (sn a)) (nI m) (jn_a on) (jn_a bk) (jn_a rl) (jn_a fs) (jn_a sn) (jn_a th) (jn_a ls) := by
    intro hne
    unfold wX_allowedFrom_47
    refine pk_eq (fs a) d (fun h1 => ?_) (fun h1 => ?_)
    · refine pk_le d (sn a) (fun h2 => ?_) (fun h2 => ?_)
      · refine jn_anyA g gr hx (fun r hr => K r (jn_LC (fun y => ?_) hr))
        rw [jn_al3 h1 (by omega)]
      · have t := ht (sn a)
        rw [jn_rd (by omega), nI_add, jn_rd (by omega)]
        refine ⟨vp_in_nI gs (by omega), vp_in_nI (by omega) (by omega), jn_from (g.2.2.1 _) hx (fun r hr => K r (jn_LC (fun y => ?_) hr))⟩
        rw [jn_al2 h1 h2]
    · refine pk_le d (fs a) (fun h2 => ?_) (fun h2 => ?_)
      · refine jn_anyB g gr hx (fun r hr => K r (jn_LC (fun y => ?_) hr))
        rw [jn_al5 (by omega)]
      · have t := ht (fs a)
        rw [jn_rd (by omega), nI_add, jn_rd (by omega)]
        refine ⟨vp_in_nI gf (by omega), vp_in_nI (by omega) (by omega), jn_from (g.2.1 _) hx (fun r hr => K r (jn_LC (fun y => ?_) hr))⟩
        rw [jn_al4 h2]
  refine pk_eq (fs a) d (fun h1 => ?_) (fun h1 => k47 (fun z => h1 z.1))
  refine pk_eq (sn a) d (fun h2 => ?_) (fun h2 => k47 (fun z => h2 z.2))
  refine jn_diag g gr hx (fun r hr => K r (jn_LC (fun y => ?_) hr))
  rw [jn_al1 h1 h2]
theorem jn_xhas {a d : Nat} (g : jn_G m on bk rl fs sn) (ha : a < 5) (hd : d < 4) (K1 : jn_has fs sn a d → post 1) (K0 : ¬ jn_has fs sn a d → post 0) : wpX_has post (jn_X m on bk rl fs sn th ls) (nI a) (nI d) := by
  have gf := g.2.2.2.2.1 a
  have gs := g.2.2.2.2.2.1 a
  have hi : vp_in (nI a) 5 := vp_in_nI ha (by omega)
  unfold wpX_has
  dsimp only
  rw [jn_rd (by omega), jn_rd (by omega)]
  refine ⟨hi, pk_eq (fs a) d (fun h => K1 (Or.inl h)) (fun h => ⟨hi, pk_eq (sn a) d (fun h2 => K1 (Or.inr h2)) (fun h2 => K0 (fun z => z.elim h h2))⟩)⟩
/-! digits, tightness, code -/
theorem jn_digit {n v : Nat} (hn : n < 2 ^ 31) (hv : v < 4) (K : post (nI (jn_dg n v))) : wpX_digit post (nI n) (nI v) := by
  unfold wpX_digit
  rw [jn_dgI hn hv]
  exact K
theorem jn_tight2 {low d : Nat} (hl : low < 2 ^ 31) (hd : d < 4) (ht : ∀ j, th j < 8) (K1 : (∀ e, e < d + 1 → th e = jn_dg low e) → post 1) (K0 : (¬ ∀ e, e < d + 1 → th e = jn_dg low e) → post 0) : ∀ n i, i ≤ d + 1 → d + 1 - i < n → (∀ e, e < i → th e = jn_dg low e) → wX_tightUpTo_2 post (nI low) (nI d) (nI m) (jn_a on) (jn_a bk) (jn_a rl) (jn_a fs) (jn_a sn) (jn_a th) (jn_a ls) n (nI i) := by
  intro n
  induction n with
  | zero => intro y _ h; exact absurd h (Nat.not_lt_zero _)
  | succ n ih =>
    intro i hi hn hz
    rw [wX_tightUpTo_2]
    refine pk_lt d i (fun h => K1 (fun e he => hz e (by omega))) (fun h => ⟨vp_in_nI (by omega) (by omega), ?_⟩)
    refine jn_digit hl (by omega) ?_
    rw [jn_rd (by omega)]
    have t := ht i
    have b := jn_dgL low i
    refine pk_eq (th i) (jn_dg low i) (fun e => nm_r (nI_1 i) (ih (i + 1) (by omega) (by omega) (fun j hj => ?_))) (fun e => K0 (fun z => e (z i (by omega))))
    by_cases e2 : j = i
    · subst e2; exact e
    · exact hz j (by omega)
theorem jn_tight {low d : Nat} (hl : low < 2 ^ 31) (hd : d < 4) (ht : ∀ j, th j < 8) (K1 : (∀ e, e < d + 1 → th e = jn_dg low e) → post 1) (K0 : (¬ ∀ e, e < d + 1 → th e = jn_dg low e) → post 0) : wpX_tightUpTo post (jn_X m on bk rl fs sn th ls) (nI low) (nI d) :=
  ⟨6, jn_tight2 hl hd ht K1 K0 6 0 (by omega) (by omega) (fun e he => absurd he (Nat.not_lt_zero _))⟩
theorem jn_code (K : post (nI (jn_pre th 4))) : wpX_code post (jn_X m on bk rl fs sn th ls) := by
  have e : (((jn_a th 3) + (8 * (jn_a th 2))) + (64 * (jn_a th 1))) + (512 * (jn_a th 0)) = nI (jn_pre th 4) := by
    show (((nI (th 3)) + (nI 8 * (nI (th 2)))) + (nI 64 * (nI (th 1)))) + (nI 512 * (nI (th 0))) = nI (8 * (8 * (8 * (8 * 0 + th 0) + th 1) + th 2) + th 3)
    rw [pk_mul, pk_mul, pk_mul, nI_add, nI_add, nI_add]
    exact congrArg nI (by omega)
  unfold wpX_code
  dsimp only
  rw [e]
  exact K
end
end
section
/-! leap -/
def jn_ex (m : Nat) (fs sn : Nat → Nat) (d : Nat) : Prop := ∃ a, a < m ∧ jn_has fs sn a d
def jn_okA (m : Nat) (on bk rl fs sn th : Nat → Nat) (d y : Nat) : Prop := ∀ a, a < m → jn_has fs sn a d → jn_al on bk rl fs sn th a d y
def jn_E (m : Nat) (on bk rl fs sn th : Nat → Nat) (d x y0 any y mv : Nat) : Prop :=
  any ≤ 1 ∧ mv ≤ 1 ∧ y0 ≤ y ∧ y ≤ 8 ∧ (∀ z, x ≤ z → z < y → ¬ jn_okA m on bk rl fs sn th d z) ∧ (mv = 1 → y0 < y) ∧ (mv = 0 → jn_okA m on bk rl fs sn th d y) ∧ (any = 0 → ∀ a, a < m → ¬ jn_has fs sn a d) ∧ (any = 1 → jn_ex m fs sn d)
section
variable {m : Nat} {on bk rl fs sn th ls : Nat → Nat} {post : Int32 → Prop} {J : Int32 → Int32 → Int32 → Int32 → Prop}
theorem jn_leap36 {d x y0 rd : Nat} {x2 : Int32} (g : jn_G m on bk rl fs sn) (ht : ∀ j, th j < 8) (hd : d < 4) (h0 : y0 < 8) (K : ∀ any y mv, jn_E m on bk rl fs sn th d x y0 any y mv → J (nI any) (nI y) (nI mv) (nI (rd + 1))) :
    ∀ n i any y mv, i ≤ m → m - i < n → any ≤ 1 → mv ≤ 1 → y0 ≤ y → y ≤ 8 → (∀ z, x ≤ z → z < y → ¬ jn_okA m on bk rl fs sn th d z) → (mv = 1 → y0 < y) → (mv = 0 → y = y0 ∧ ∀ a, a < i → jn_has fs sn a d → jn_al on bk rl fs sn th a d y) → (any = 0 → y = y0 ∧ ∀ a, a < i → ¬ jn_has fs sn a d) → (any = 1 → jn_ex m fs sn d) →
    wX_leap_36 post J (nI d) x2 (nI rd) (nI m) (jn_a on) (jn_a bk) (jn_a rl) (jn_a fs) (jn_a sn) (jn_a th) (jn_a ls) n (nI any) (nI y) (nI mv) (nI i) := by
  have gm := g.1
  intro n
  induction n with
  | zero => intro i any y mv _ h; exact absurd h (Nat.not_lt_zero _)
  | succ n ih =>
    intro i any y mv hi hn ha hm hy hy8 hz m1 m0 a0 a1
    rw [wX_leap_36]
    refine pk_le m i (fun h => nm_r (nI_1 rd) (K any y mv ?_)) (fun h => ?_)
    · have e : i = m := by omega
      subst e
      exact ⟨ha, hm, hy, hy8, hz, m1, fun z => (m0 z).2, fun z => (a0 z).2, a1⟩
    · refine pk_le 8 y (fun h2 => nm_r (nI_1 rd) (K any y mv ?_)) (fun h2 => ?_)
      · refine ⟨ha, hm, hy, hy8, hz, m1, fun z => ?_, fun z => ?_, a1⟩
        · have := (m0 z).1; omega
        · have := (a0 z).1; omega
      · refine jn_xhas g (by omega) hd (fun hh => br_f (by decide) ?_) (fun hh => br_t rfl ?_)
        · refine jn_allowed g ht (by omega) hh hy8 (fun r hr => ?_)
          obtain ⟨l1, l2, l3, l4⟩ := hr
          have hz2 : ∀ z, x ≤ z → z < r → ¬ jn_okA m on bk rl fs sn th d z := by
            intro z z1 z2
            by_cases c : z < y
            · exact hz z z1 c
            · exact fun k => l3 z (by omega) z2 (k i h hh)
          refine pk_le r y (fun c => ?_) (fun c => ?_)
          · have e : r = y := by omega
            subst e
            refine nm_r (e' := nI mv) (Int32.or_zero) (nm_r (nI_1 i) (ih (i + 1) 1 r mv (by omega) (by omega) (by omega) hm hy hy8 hz2 m1 (fun z => ⟨(m0 z).1, fun a b k => ?_⟩) (fun z => absurd z (by decide)) (fun _ => ⟨i, h, hh⟩)))
            by_cases e2 : a = i
            · subst e2; exact l4 h2
            · exact (m0 z).2 a (by omega) k
          · have e : nI mv ||| 1 = nI 1 := by
              have c2 : mv = 0 ∨ mv = 1 := by omega
              rcases c2 with c2 | c2 <;> subst c2 <;> decide
            exact nm_r e (nm_r (nI_1 i) (ih (i + 1) 1 r 1 (by omega) (by omega) (by omega) (by omega) (by omega) l2 hz2 (fun _ => by omega) (fun z => absurd z (by decide)) (fun z => absurd z (by decide)) (fun _ => ⟨i, h, hh⟩)))
        · refine nm_r (nI_1 i) (ih (i + 1) any y mv (by omega) (by omega) ha hm hy hy8 hz m1 (fun z => ⟨(m0 z).1, fun a b k => ?_⟩) (fun z => ⟨(a0 z).1, fun a b => ?_⟩) a1)
          · by_cases e2 : a = i
            · subst e2; exact absurd k hh
            · exact (m0 z).2 a (by omega) k
          · by_cases e2 : a = i
            · subst e2; exact hh
            · exact (a0 z).2 a (by omega)
theorem jn_leap108 {d x any y : Nat} (ha : any ≤ 1) (hx : x ≤ 8) (hxy : x ≤ y) (hy8 : y ≤ 8) (hz : ∀ z, x ≤ z → z < y → ¬ jn_okA m on bk rl fs sn th d z) (he : 8 ≤ y ∨ jn_okA m on bk rl fs sn th d y) (a0 : any = 0 → x = 8 ∨ ∀ a, a < m → ¬ jn_has fs sn a d) (a1 : any = 1 → ∃ a, a < m ∧ jn_has fs sn a d) (K : ∀ r, jn_L (jn_ok m on bk rl fs sn th d) x r → post (nI r)) :
    wX_leap_108 post (nI x) (nI any) (nI y) (nI m) (jn_a on) (jn_a bk) (jn_a rl) (jn_a fs) (jn_a sn) (jn_a th) (jn_a ls) := by
  unfold wX_leap_108
  refine pk_eq any 0 (fun e => ?_) (fun e => ?_)
  · refine pk_eq x 0 (fun e2 => ?_) (fun e2 => ?_)
    · have hno : ∀ a, a < m → ¬ jn_has fs sn a d := (a0 e).resolve_left (by omega)
      have hk : ∀ z, jn_okA m on bk rl fs sn th d z := fun z a b k => absurd k (hno a b)
      have ey : y = 0 := by
        by_cases c : y = 0
        · exact c
        · exact absurd (hk x) (hz x (Nat.le_refl _) (by omega))
      subst ey
      exact K 0 ⟨hxy, by omega, fun z _ z2 => absurd z2 (Nat.not_lt_zero _), fun _ => ⟨hk 0, Or.inr rfl⟩⟩
    · refine K 8 ⟨hx, by omega, fun z z1 z2 k => ?_, fun z => absurd z (by omega)⟩
      rcases a0 e with c | hno
      · omega
      · rcases k.2 with ⟨a, b, k2⟩ | k2
        · exact hno a b k2
        · omega
  · exact K y ⟨hxy, hy8, fun z z1 z2 k => hz z z1 z2 k.1, fun z => ⟨he.resolve_left (by omega), Or.inl (a1 (by omega))⟩⟩
theorem jn_leap11 {d x : Nat} (g : jn_G m on bk rl fs sn) (ht : ∀ j, th j < 8) (hd : d < 4) (hx : x ≤ 8) (K : ∀ r, jn_L (jn_ok m on bk rl fs sn th d) x r → post (nI r)) :
    ∀ n rd any y mv, rd ≤ 9 → 9 - rd < n → any ≤ 1 → mv ≤ 1 → x ≤ y → y ≤ 8 → (∀ z, x ≤ z → z < y → ¬ jn_okA m on bk rl fs sn th d z) → (mv = 1 → rd ≤ y) → (mv = 0 → jn_okA m on bk rl fs sn th d y) → (rd = 0 → mv = 1 ∧ y = x) → (1 ≤ rd → any = 0 → ∀ a, a < m → ¬ jn_has fs sn a d) → (any = 1 → jn_ex m fs sn d) →
    wX_leap_11 post (nI d) (nI x) (nI m) (jn_a on) (jn_a bk) (jn_a rl) (jn_a fs) (jn_a sn) (jn_a th) (jn_a ls) n (nI any) (nI y) (nI mv) (nI rd) := by
  have gm := g.1
  intro n
  induction n with
  | zero => intro i any y mv _ h; exact absurd h (Nat.not_lt_zero _)
  | succ n ih =>
    intro rd any y mv hr hn ha hm hxy hy8 hz m1 m0 r0 a0 a1
    rw [wX_leap_11]
    refine pk_lt 8 rd (fun h => ?_) (fun h => pk_eq mv 0 (fun h2 => ?_) (fun h2 => pk_le 8 y (fun h3 => ?_) (fun h3 => ?_)))
    · have e : mv = 0 := by
        by_cases c : mv = 0
        · exact c
        · have := m1 (by omega); omega
      exact jn_leap108 ha hx hxy hy8 hz (Or.inr (m0 e)) (fun z => Or.inr (a0 (by omega) z)) a1 K
    · have e : 1 ≤ rd := by
        by_cases c : rd = 0
        · have := (r0 c).1; omega
        · omega
      exact jn_leap108 ha hx hxy hy8 hz (Or.inr (m0 h2)) (fun z => Or.inr (a0 e z)) a1 K
    · refine jn_leap108 ha hx hxy hy8 hz (Or.inl h3) (fun z => ?_) a1 K
      by_cases c : rd = 0
      · have := (r0 c).2; exact Or.inl (by omega)
      · exact Or.inr (a0 (by omega) z)
    · refine ⟨m + 1, jn_leap36 (x := x) (y0 := y) g ht hd h3 (fun any' y' mv' e => ?_) (m + 1) 0 any y 0 (by omega) (by omega) ha (by omega) (Nat.le_refl _) hy8 hz (fun z => absurd z (by decide)) (fun _ => ⟨rfl, fun a b => absurd b (Nat.not_lt_zero _)⟩) (fun _ => ⟨rfl, fun a b => absurd b (Nat.not_lt_zero _)⟩) a1⟩
      obtain ⟨e1, e2, e3, e4, e5, e6, e7, e8, e9⟩ := e
      have m1' := m1 (by omega)
      exact ih (rd + 1) any' y' mv' (by omega) (by omega) e1 e2 (by omega) e4 e5 (fun z => by have := e6 z; omega) e7 (fun z => absurd z (by omega)) (fun _ => e8) e9
theorem jn_leap {d x : Nat} (g : jn_G m on bk rl fs sn) (ht : ∀ j, th j < 8) (hd : d < 4) (hx : x ≤ 8) (K : ∀ r, jn_L (jn_ok m on bk rl fs sn th d) x r → post (nI r)) : wpX_leap post (jn_X m on bk rl fs sn th ls) (nI d) (nI x) :=
  ⟨10, jn_leap11 g ht hd hx K 10 0 0 x 1 (by omega) (by omega) (by omega) (by omega) (Nat.le_refl _) hx (fun z z1 z2 => absurd z2 (by omega)) (fun _ => Nat.zero_le _) (fun z => absurd z (by decide)) (fun _ => ⟨rfl, rfl⟩) (fun z => absurd z (by decide)) (fun z => absurd z (by decide))⟩
end
end
section
/-! nextFrom -/
section
variable {m : Nat} {on bk rl fs sn : Nat → Nat} {post : Int32 → SX → Prop}
theorem jn_w8 {f : Nat → Nat} {k q : Nat} (hk : k < 2 ^ 31) (hq : q < 128) : upd (jn_a f) (nI k).toNatClampNeg (vp_nar .byte (nI q).toInt8.toInt32) = jn_a (jn_u f k q) := by
  rw [nI_clamp hk, jn_narB hq, jn_upd]
theorem jn_next36 {low : Nat} (g : jn_G m on bk rl fs sn) (hlow : low < 4096) (K : ∀ r th' ls', (∀ j, th' j < 8) → jn_N (jn_A m on rl fs sn) low r → post r (jn_X m on bk rl fs sn th' ls')) :
    ∀ n d rd th ls, (∀ j, th j < 8) → jn_I m on bk rl fs sn low th d (ls d) → rd ≤ jn_T th d (ls d) → 5264 < n + jn_T th d (ls d) →
    wX_nextFrom_36 post (nI low) (nI m) n (nI d) (nI rd) (jn_a on) (jn_a bk) (jn_a rl) (jn_a fs) (jn_a sn) (jn_a th) (jn_a ls) := by
  intro n
  induction n with
  | zero =>
    intro d rd th ls ht I _ h
    have := jn_TL ht I.1 I.2.1
    omega
  | succ n ih =>
    intro d rd th ls ht I hr hn
    have hT := jn_TL ht I.1 I.2.1
    have hd := I.1
    have hl := I.2.1
    rw [wX_nextFrom_36]
    refine pk_le 16384 rd (fun h => absurd h (by omega)) (fun _ => ⟨vp_in_nI hd (by omega), ?_⟩)
    rw [jn_rd (f := ls) (k := d) (by omega)]
    refine jn_leap g ht hd hl (fun x hx => ?_)
    have hx2 := hx.2.1
    refine pk_le 8 x (fun h8 => ?_) (fun h8 => ?_)
    · cases d with
      | zero => exact nm_e (br_f (by decide) (K (-1) th ls ht (jn_In g ht I hx h8)))
      | succ e =>
        have t := ht e
        have q : upd (jn_a ls) (nI e).toNatClampNeg (vp_nar .byte ((jn_a th (nI e).toNatClampNeg) + 1).toInt8.toInt32) = jn_a (jn_u ls e (th e + 1)) := by
          rw [jn_rd (by omega), nI_1, jn_w8 (by omega) (by omega)]
        have I' := jn_Ib g ht I hx h8
        have T' := jn_Tb (th := th) (e := e) (l := ls (e + 1)) (by omega) hl
        refine nm_r (pk_m1 e) (br_t (nI_pos' (by omega)) ⟨vp_in_nI (by omega) (by omega), vp_in_nI (by omega) (by omega), nm_r q (nm_r (nI_1 rd) (ih e (rd + 1) th (jn_u ls e (th e + 1)) ht ?_ ?_ ?_))⟩)
        · rw [jn_us]; exact I'
        · rw [jn_us]; omega
        · rw [jn_us]; omega
    · have ht2 : ∀ j, jn_u th d x j < 8 := jn_ub (P := fun j => j < 8) ht h8
      have hx1 := hx.1
      refine ⟨vp_in_nI hd (by omega), nm_r (jn_w8 (by omega) (by omega)) ?_⟩
      refine jn_tight (th := jn_u th d x) (by omega) hd ht2 (fun hT1 => ?_) (fun hT0 => ?_)
      · refine nm_r (nI_1 d) (pk_eq (d + 1) 4 (fun e => ?_) (fun e => br_f (by decide) ?_))
        · have e2 : d = 3 := by omega
          subst e2
          exact jn_code (K _ _ _ ht2 (jn_If g ht I hx h8))
        · have b := jn_dgL low (d + 1)
          have T' := jn_Tf (th := th) (d := d) (l := ls d) (x := x) (l' := jn_dg low (d + 1)) hx1
          refine jn_digit (by omega) (by omega) ⟨vp_in_nI (by omega) (by omega), nm_r (jn_w8 (by omega) (by omega)) (nm_r (nI_1 rd) (ih (d + 1) (rd + 1) (jn_u th d x) (jn_u ls (d + 1) (jn_dg low (d + 1))) ht2 ?_ ?_ ?_))⟩
          · rw [jn_us]; exact jn_It g hlow ht I hx h8 (by omega) hT1
          · rw [jn_us]; omega
          · rw [jn_us]; omega
      · refine nm_r (nI_1 d) (pk_eq (d + 1) 4 (fun e => ?_) (fun e => br_t rfl ?_))
        · have e2 : d = 3 := by omega
          subst e2
          exact jn_code (K _ _ _ ht2 (jn_If g ht I hx h8))
        · have T' := jn_Tf (th := th) (d := d) (l := ls d) (x := x) (l' := 0) hx1
          refine ⟨vp_in_nI (by omega) (by omega), nm_r (jn_w8 (q := 0) (by omega) (by omega)) (nm_r (nI_1 rd) (ih (d + 1) (rd + 1) (jn_u th d x) (jn_u ls (d + 1) 0) ht2 ?_ ?_ ?_))⟩
          · rw [jn_us]; exact jn_Il g hlow ht I hx h8 (by omega) hT0
          · rw [jn_us]; omega
          · rw [jn_us]; omega
theorem jn_next18 {low : Nat} {th ls : Nat → Nat} (g : jn_G m on bk rl fs sn) (ht : ∀ j, th j < 8) (hlow : low < 4096) (K : ∀ r th' ls', (∀ j, th' j < 8) → jn_N (jn_A m on rl fs sn) low r → post r (jn_X m on bk rl fs sn th' ls')) : wX_nextFrom_18 post (nI low) (nI m) (jn_a on) (jn_a bk) (jn_a rl) (jn_a fs) (jn_a sn) (jn_a th) (jn_a ls) := by
  unfold wX_nextFrom_18
  have b := jn_dgL low 0
  have e : upd (jn_a ls) 0 (vp_nar .byte (nI (jn_dg low 0)).toInt8.toInt32) = jn_a (jn_u ls 0 (jn_dg low 0)) := by
    rw [jn_narB (by omega), jn_upd]
  refine jn_digit (v := 0) (by omega) (by omega) (nm_r e ⟨5265, jn_next36 g hlow K 5265 0 0 th _ ht ?_ (Nat.zero_le _) (by omega)⟩)
  rw [jn_us]
  exact jn_I0 hlow
theorem jn_next {th ls : Nat → Nat} (g : jn_G m on bk rl fs sn) (ht : ∀ j, th j < 8) (p : Int32) (K : ∀ r th' ls', (∀ j, th' j < 8) → jn_N (jn_A m on rl fs sn) p.toNatClampNeg r → post r (jn_X m on bk rl fs sn th' ls')) : wpX_nextFrom post (jn_X m on bk rl fs sn th ls) p := by
  unfold wpX_nextFrom
  by_cases h0 : 0 ≤ p
  · obtain ⟨j, hj, rfl⟩ := nI_of (Int32.not_lt.mpr h0)
    rw [nI_clamp hj] at K
    refine pk_lt j 4096 (fun h => br_t h0 (jn_next18 g ht h K)) (fun h => K _ _ _ ht (Or.inr ⟨rfl, fun i hi hs => absurd hi (by omega)⟩))
  · have h1 : p < 0 := Int32.not_le.mp h0
    have h2 : p < 4096 := Int32.lt_trans h1 (by decide)
    have e : p.toNatClampNeg = 0 := by
      have h3 : p.toInt < 0 := Int32.lt_iff_toInt_lt.mp h1
      show p.toInt.toNat = 0
      omega
    rw [e] at K
    exact br_t h2 (br_f h0 (jn_next18 (low := 0) g ht (by omega) K))
end
end
section
/-! folds over the answers -/
noncomputable def jn_fd {σ : Type} (A : Nat → Prop) (f : Nat → σ → σ) (s : σ) : Nat → σ
  | 0 => s
  | k + 1 => @ite σ (A k) (Classical.propDecidable (A k)) (f k (jn_fd A f s k)) (jn_fd A f s k)
section
variable {σ : Type} {A : Nat → Prop} {f : Nat → σ → σ} {s : σ}
theorem jn_fdT {k : Nat} (h : A k) : jn_fd A f s (k + 1) = f k (jn_fd A f s k) := by
  rw [jn_fd]; exact if_pos h
theorem jn_fdF {k : Nat} (h : ¬ A k) : jn_fd A f s (k + 1) = jn_fd A f s k := by
  rw [jn_fd]; exact if_neg h
theorem jn_fdS {a : Nat} : ∀ k, a ≤ k → (∀ i, a ≤ i → i < k → ¬ A i) → jn_fd A f s k = jn_fd A f s a
  | 0, h, _ => by
    have e : a = 0 := by omega
    rw [e]
  | k + 1, h, g => by
    by_cases e : a = k + 1
    · rw [e]
    · rw [jn_fdF (g k (by omega) (by omega))]
      exact jn_fdS k (by omega) (fun i h1 h2 => g i h1 (by omega))
theorem jn_fdP {P : σ → Prop} (h0 : P s) (hs : ∀ k x, P x → P (f k x)) : ∀ k, P (jn_fd A f s k)
  | 0 => h0
  | k + 1 => by
    by_cases h : A k
    · rw [jn_fdT h]; exact hs k _ (jn_fdP h0 hs k)
    · rw [jn_fdF h]; exact jn_fdP h0 hs k
/-- the next answer and the fold -/
theorem jn_fdN {a j : Nat} (h : a ≤ j) (hA : A j) (hn : ∀ i, a ≤ i → i < j → ¬ A i) : jn_fd A f s (j + 1) = f j (jn_fd A f s a) := by
  rw [jn_fdT hA, jn_fdS j h hn]
theorem jn_fdE {a : Nat} (h : a ≤ 4096) (hn : ∀ i, i < 4096 → a ≤ i → ¬ A i) : jn_fd A f s 4096 = jn_fd A f s a := jn_fdS 4096 h (fun i h1 h2 => hn i h2 h1)
end
noncomputable def jn_cn (A : Nat → Prop) (k : Nat) : Nat := jn_fd A (fun _ c => c + 1) 0 k
section
variable {A B : Nat → Prop}
theorem jn_cnT {k : Nat} (h : A k) : jn_cn A (k + 1) = jn_cn A k + 1 := jn_fdT h
theorem jn_cnF {k : Nat} (h : ¬ A k) : jn_cn A (k + 1) = jn_cn A k := jn_fdF h
theorem jn_cn0 : jn_cn A 0 = 0 := rfl
theorem jn_cnM1 (k : Nat) : jn_cn A k ≤ jn_cn A (k + 1) := by
  by_cases h : A k
  · rw [jn_cnT h]; omega
  · rw [jn_cnF h]; omega
theorem jn_cnM {a : Nat} : ∀ k, a ≤ k → jn_cn A a ≤ jn_cn A k
  | 0, h => by
    have e : a = 0 := by omega
    rw [e]; exact Nat.le_refl _
  | k + 1, h => by
    by_cases e : a = k + 1
    · rw [e]; exact Nat.le_refl _
    · exact Nat.le_trans (jn_cnM k (by omega)) (jn_cnM1 k)
theorem jn_cnL : ∀ k, jn_cn A k ≤ k
  | 0 => Nat.le_refl _
  | k + 1 => by
    have := jn_cnL k
    by_cases h : A k
    · rw [jn_cnT h]; omega
    · rw [jn_cnF h]; omega
theorem jn_cnC : ∀ k, (∀ i, i < k → (A i ↔ B i)) → jn_cn A k = jn_cn B k
  | 0, _ => rfl
  | k + 1, h => by
    have e := jn_cnC k (fun i hi => h i (by omega))
    by_cases c : A k
    · rw [jn_cnT c, jn_cnT ((h k (by omega)).mp c), e]
    · rw [jn_cnF c, jn_cnF (fun z => c ((h k (by omega)).mpr z)), e]
theorem jn_cnI {c : Nat} (hA : ¬ A c) (hB : B c) (h : ∀ i, i ≠ c → (A i ↔ B i)) : ∀ k, c < k → jn_cn B k = jn_cn A k + 1
  | 0, hk => absurd hk (Nat.not_lt_zero _)
  | k + 1, hk => by
    by_cases e : c = k
    · subst e
      rw [jn_cnT hB, jn_cnF hA, jn_cnC c (fun i hi => h i (by omega))]
    · have ih := jn_cnI hA hB h k (by omega)
      by_cases d : A k
      · rw [jn_cnT d, jn_cnT ((h k (by omega)).mp d), ih]
      · rw [jn_cnF d, jn_cnF (fun z => d ((h k (by omega)).mpr z)), ih]
theorem jn_cnA {a : Nat} : ∀ k, (∀ i, i < k → (A (a + i) ↔ B i)) → jn_cn A (a + k) = jn_cn A a + jn_cn B k
  | 0, _ => by rw [jn_cn0]; rfl
  | k + 1, h => by
    have ih := jn_cnA k (fun i hi => h i (by omega))
    by_cases d : A (a + k)
    · rw [show a + (k + 1) = a + k + 1 from rfl, jn_cnT d, jn_cnT ((h k (by omega)).mp d), ih]; omega
    · rw [show a + (k + 1) = a + k + 1 from rfl, jn_cnF d, jn_cnF (fun z => d ((h k (by omega)).mpr z)), ih]
end
end
section
/-! ranges of arguments -/
theorem jn_rng (v : Int32) (n : Nat) (h0 : 0 < n) (hn : n < 2 ^ 31) : v < 0 ∨ (¬ v < 0 ∧ nI n ≤ v ∧ nI (n - 1) < v) ∨ ∃ j, j < n ∧ v = nI j ∧ ¬ v < 0 ∧ ¬ nI n ≤ v ∧ ¬ nI (n - 1) < v := by
  by_cases h : v < 0
  · exact Or.inl h
  · obtain ⟨j, hj, rfl⟩ := nI_of h
    by_cases h2 : j < n
    · exact Or.inr (Or.inr ⟨j, h2, rfl, h, nI_ge h2 hn, nI_nlt (by omega) (by omega)⟩)
    · exact Or.inr (Or.inl ⟨h, nI_le (by omega) hj, nI_lt (by omega) hj⟩)
theorem jn_rel (v : Int32) : ((∀ post : Int32 → Prop, post 0 → wpX_isRelation post v) ∧ (∀ (post : Int32 → Prop) (w : SY), post 0 → wpY_relation post w v)) ∨ ∃ r, r < 3 ∧ v = nI r ∧ (∀ post : Int32 → Prop, post 1 → wpX_isRelation post v) ∧ (∀ (post : Int32 → Prop) (w : SY), post 1 → wpY_relation post w v) := by
  rcases jn_rng v 3 (by omega) (by omega) with h | ⟨h1, h2, h3⟩ | ⟨j, hj, e, h1, h2, h3⟩
  · exact Or.inl ⟨fun post k => br_t h k, fun post w k => by obtain ⟨_, _, _, _, _, _⟩ := w; exact br_t h k⟩
  · exact Or.inl ⟨fun post k => br_f h1 (br_t h2 k), fun post w k => by obtain ⟨_, _, _, _, _, _⟩ := w; exact br_f h1 (br_t h3 k)⟩
  · exact Or.inr ⟨j, hj, e, fun post k => br_f h1 (br_f h2 k), fun post w k => by obtain ⟨_, _, _, _, _, _⟩ := w; exact br_f h1 (br_f h3 k)⟩
theorem jn_thg (v : Int32) : ((∀ post : Int32 → Prop, post 0 → wpX_isThing post v) ∧ (∀ (post : Int32 → Prop) (w : SY), post 0 → wpY_thing post w v)) ∨ ∃ r, r < 8 ∧ v = nI r ∧ (∀ post : Int32 → Prop, post 1 → wpX_isThing post v) ∧ (∀ (post : Int32 → Prop) (w : SY), post 1 → wpY_thing post w v) := by
  rcases jn_rng v 8 (by omega) (by omega) with h | ⟨h1, h2, h3⟩ | ⟨j, hj, e, h1, h2, h3⟩
  · exact Or.inl ⟨fun post k => br_t h k, fun post w k => by obtain ⟨_, _, _, _, _, _⟩ := w; exact br_t h k⟩
  · exact Or.inl ⟨fun post k => br_f h1 (br_t h2 k), fun post w k => by obtain ⟨_, _, _, _, _, _⟩ := w; exact br_f h1 (br_t h3 k)⟩
  · exact Or.inr ⟨j, hj, e, fun post k => br_f h1 (br_f h2 k), fun post w k => by obtain ⟨_, _, _, _, _, _⟩ := w; exact br_f h1 (br_f h3 k)⟩
theorem jn_var (v : Int32) : ((∀ post : Int32 → Prop, post 0 → wpX_isVariable post v) ∧ (∀ (post : Int32 → Prop) (w : SY), post 0 → wpY_variable post w v)) ∨ ∃ r, r < 4 ∧ v = nI r ∧ (∀ post : Int32 → Prop, post 1 → wpX_isVariable post v) ∧ (∀ (post : Int32 → Prop) (w : SY), post 1 → wpY_variable post w v) := by
  rcases jn_rng v 4 (by omega) (by omega) with h | ⟨h1, h2, h3⟩ | ⟨j, hj, e, h1, h2, h3⟩
  · exact Or.inl ⟨fun post k => br_t h k, fun post w k => by obtain ⟨_, _, _, _, _, _⟩ := w; exact br_t h k⟩
  · exact Or.inl ⟨fun post k => br_f h1 (br_t h2 k), fun post w k => by obtain ⟨_, _, _, _, _, _⟩ := w; exact br_f h1 (br_t h3 k)⟩
  · exact Or.inr ⟨j, hj, e, fun post k => br_f h1 (br_f h2 k), fun post w k => by obtain ⟨_, _, _, _, _, _⟩ := w; exact br_f h1 (br_f h3 k)⟩
/-! the reference: of, in, isAnswer -/
section
variable {m : Nat} {on bk rl fs sn : Nat → Nat} {se : Nat → Int32} {post : Int32 → Prop}
theorem jn_of {n v : Nat} (hn : n < 2 ^ 31) (hv : v < 4) (K : post (nI (jn_dg n v))) : wpY_of post (jn_Y m on rl fs sn se) (nI n) (nI v) := by
  unfold wpY_of
  dsimp only
  rw [jn_dgI hn hv]
  exact K
theorem jn_yin {r x y : Nat} (ho : ∀ j, on j < 256) (hr : r < 3) (hx : x < 8) (hy : y < 8) (K1 : (on (8 * r + x)).testBit y = true → post 1) (K0 : ¬ (on (8 * r + x)).testBit y = true → post 0) : wpY_in post (jn_Y m on rl fs sn se) (nI r) (nI x) (nI y) := by
  unfold wpY_in
  dsimp only
  rw [jn_ixY, jn_rd (by omega), jn_bitI _ (ho _) y hy]
  refine ⟨vp_in_nI (by omega) (by omega), ?_⟩
  by_cases h : (on (8 * r + x)).testBit y = true
  · rw [if_pos h]; exact br_t rfl (K1 h)
  · rw [if_neg h]; exact br_f (by decide) (K0 h)
theorem jn_y87 {n us : Nat} {B : Prop} (hn : n < 2 ^ 31) (hu : us < 256) (K1 : (B ∧ ∀ v, v < 4 → us.testBit v = true ∨ jn_dg n v = 0) → post 1) (K0 : ¬ (B ∧ ∀ v, v < 4 → us.testBit v = true ∨ jn_dg n v = 0) → post 0) :
    ∀ k i ok, i ≤ 4 → 4 - i < k → ok ≤ 1 → (ok = 1 → B ∧ ∀ v, v < i → us.testBit v = true ∨ jn_dg n v = 0) → (ok = 0 → ¬ (B ∧ ∀ v, v < 4 → us.testBit v = true ∨ jn_dg n v = 0)) →
    wY_isAnswer_87 post (nI n) (nI us) (nI m) (jn_a on) (jn_a rl) (jn_a fs) (jn_a sn) se k (nI ok) (nI i) := by
  intro k
  induction k with
  | zero => intro i ok _ h; exact absurd h (Nat.not_lt_zero _)
  | succ k ih =>
    intro i ok hi hk ho h1 h0
    have c : ok = 0 ∨ ok = 1 := by omega
    rw [wY_isAnswer_87]
    refine pk_le 4 i (fun h => ?_) (fun h => ?_)
    · have e : i = 4 := by omega
      subst e
      rcases c with c | c <;> subst c
      · exact ⟨rfl, K0 (h0 rfl)⟩
      · exact ⟨rfl, K1 (h1 rfl)⟩
    · rcases c with c | c <;> subst c
      · exact br_t rfl (nm_r (nI_1 i) (ih (i + 1) 0 (by omega) (by omega) (by omega) (fun z => absurd z (by decide)) h0))
      · refine br_f (by decide) ?_
        obtain ⟨hB, hv⟩ := h1 rfl
        have hs : (us.testBit i = true ∨ jn_dg n i = 0) → ∀ v, v < i + 1 → us.testBit v = true ∨ jn_dg n v = 0 := by
          intro z v hv2
          by_cases e : v = i
          · subst e; exact z
          · exact hv v (by omega)
        rw [jn_bitI us hu i (by omega)]
        by_cases b : us.testBit i = true
        · rw [if_pos b]
          exact br_t rfl (nm_r (nI_1 i) (ih (i + 1) 1 (by omega) (by omega) (by omega) (fun _ => ⟨hB, hs (Or.inl b)⟩) (fun z => absurd z (by decide))))
        · rw [if_neg b]
          have q := jn_dgL n i
          refine br_f (by decide) (jn_of hn h (pk_eq (jn_dg n i) 0 (fun e => ?_) (fun e => ?_)))
          · exact nm_r (nI_1 i) (ih (i + 1) 1 (by omega) (by omega) (by omega) (fun _ => ⟨hB, hs (Or.inr e)⟩) (fun z => absurd z (by decide)))
          · exact nm_r (nI_1 i) (ih (i + 1) 0 (by omega) (by omega) (by omega) (fun z => absurd z (by decide)) (fun _ z => (z.2 i h).elim b e))
def jn_B (on rl fs sn : Nat → Nat) (n a : Nat) : Prop := (on (8 * rl a + jn_dg n (fs a))).testBit (jn_dg n (sn a)) = true
theorem jn_y7 {n : Nat} (g : jn_G m on bk rl fs sn) (hn : n < 2 ^ 31) (K1 : jn_A m on rl fs sn n → post 1) (K0 : ¬ jn_A m on rl fs sn n → post 0) :
    ∀ k i us ok, i ≤ m → m - i < k → us < 256 → ok ≤ 1 → (∀ v, v < 4 → (us.testBit v = true ↔ ∃ a, a < i ∧ jn_has fs sn a v)) → (ok = 1 → ∀ a, a < i → jn_B on rl fs sn n a) → (ok = 0 → ¬ ∀ a, a < m → jn_B on rl fs sn n a) →
    wY_isAnswer_7 post (nI n) (nI m) (jn_a on) (jn_a rl) (jn_a fs) (jn_a sn) se k (nI us) (nI ok) (nI i) := by
  have gm := g.1
  intro k
  induction k with
  | zero => intro i us ok _ h; exact absurd h (Nat.not_lt_zero _)
  | succ k ih =>
    intro i us ok hi hk hu ho hus h1 h0
    have gf := g.2.2.2.2.1 i
    have gs := g.2.2.2.2.2.1 i
    have gr := g.2.2.2.1 i
    rw [wY_isAnswer_7]
    refine pk_le m i (fun h => ?_) (fun h => pk_eq ok 0 (fun h2 => ?_) (fun h2 => ?_))
    · have e : i = m := by omega
      subst e
      have iff1 : (∀ v, v < 4 → us.testBit v = true ∨ jn_dg n v = 0) ↔ (∀ v, v < 4 → (∃ a, a < i ∧ jn_has fs sn a v) ∨ jn_dg n v = 0) :=
        ⟨fun z v hv => (z v hv).imp (hus v hv).mp id, fun z v hv => (z v hv).imp (hus v hv).mpr id⟩
      exact ⟨5, jn_y87 (B := ∀ a, a < i → jn_B on rl fs sn n a) hn hu (fun z => K1 ⟨z.1, iff1.mp z.2⟩) (fun z => K0 (fun q => z ⟨q.1, iff1.mpr q.2⟩)) 5 0 ok (by omega) (by omega) ho (fun z => ⟨h1 z, fun v hv => absurd hv (Nat.not_lt_zero _)⟩) (fun z q => h0 z q.1)⟩
    · exact ⟨5, jn_y87 (B := ∀ a, a < m → jn_B on rl fs sn n a) hn hu (fun z => absurd z.1 (h0 h2)) (fun z => K0 (fun q => h0 h2 q.1)) 5 0 ok (by omega) (by omega) ho (fun z => absurd z (by omega)) (fun z q => h0 z q.1)⟩
    · have hi5 : vp_in (nI i) 5 := vp_in_nI (by omega) (by omega)
      have u1 := jn_stL us hu (fs i) (by omega) true
      have u2 := jn_stL _ u1 (sn i) (by omega) true
      rw [jn_rd (f := fs) (k := i) (by omega), jn_rd (f := sn) (k := i) (by omega), jn_rd (f := rl) (k := i) (by omega), jn_orI us hu (fs i) (by omega), jn_orI _ u1 (sn i) (by omega)]
      refine ⟨hi5, hi5, nm_e ⟨hi5, hi5, jn_of hn gf ⟨hi5, jn_of hn gs ?_⟩⟩⟩
      have hus2 : ∀ v, v < 4 → ((jn_st (jn_st us (fs i) true) (sn i) true).testBit v = true ↔ ∃ a, a < i + 1 ∧ jn_has fs sn a v) := by
        intro v hv
        rw [jn_stB _ u1 _ (by omega) v (by omega), jn_stB _ hu _ (by omega) v (by omega)]
        by_cases e1 : v = sn i
        · rw [if_pos e1]
          exact ⟨fun _ => ⟨i, by omega, Or.inr e1.symm⟩, fun _ => rfl⟩
        · rw [if_neg e1]
          by_cases e2 : v = fs i
          · rw [if_pos e2]
            exact ⟨fun _ => ⟨i, by omega, Or.inl e2.symm⟩, fun _ => rfl⟩
          · rw [if_neg e2, hus v hv]
            refine ⟨fun ⟨a, ha, hh⟩ => ⟨a, by omega, hh⟩, fun ⟨a, ha, hh⟩ => ?_⟩
            by_cases e3 : a = i
            · subst e3
              rcases hh with q | q
              · exact absurd q.symm e2
              · exact absurd q.symm e1
            · exact ⟨a, by omega, hh⟩
      have hok := h1 (by omega)
      refine jn_yin g.2.1 gr (jn_dgL _ _) (jn_dgL _ _) (fun b => ?_) (fun b => ?_)
      · refine nm_r (nI_1 i) (ih (i + 1) _ 1 (by omega) (by omega) u2 (by omega) hus2 (fun _ a ha => ?_) (fun z => absurd z (by decide)))
        by_cases e3 : a = i
        · subst e3; exact b
        · exact hok a (by omega)
      · exact nm_r (nI_1 i) (ih (i + 1) _ 0 (by omega) (by omega) u2 (by omega) hus2 (fun z => absurd z (by decide)) (fun _ z => b (z i h)))
theorem jn_isAnswer {n : Nat} (g : jn_G m on bk rl fs sn) (hn : n < 2 ^ 31) (K1 : jn_A m on rl fs sn n → post 1) (K0 : ¬ jn_A m on rl fs sn n → post 0) : wpY_isAnswer post (jn_Y m on rl fs sn se) (nI n) := by
  have gm := g.1
  refine Exists.intro 6 (jn_y7 g hn K1 K0 6 0 0 1 (by omega) (by omega) (by omega) (by omega) (fun v hv => ?_) (fun _ a ha => absurd ha (Nat.not_lt_zero _)) (fun z => absurd z (by decide)))
  rw [Nat.zero_testBit]
  exact ⟨fun z => (nomatch z), fun ⟨a, ha, _⟩ => absurd ha (Nat.not_lt_zero _)⟩
end
end
section
/-! count, values, countWith: folds -/
def jn_f1 (_ : Nat) (c : Int32) : Int32 := c + 1
def jn_fv (v n : Nat) (s : Int32) : Int32 := s ||| ((1 : Int32) <<< (nI (jn_dg n v) &&& 31))
def jn_fc (v : Nat) (x : Int32) (n : Nat) (s : Int32) : Int32 := if nI (jn_dg n v) = x then s + 1 else s
theorem jn_cl0 : (0 : Int32).toNatClampNeg = 0 := by decide
section
variable {m : Nat} {on bk rl fs sn : Nat → Nat} {post : Int32 → SX → Prop}
theorem jn_xcount10 (g : jn_G m on bk rl fs sn) (K : ∀ th ls, (∀ j, th j < 8) → post (jn_fd (jn_A m on rl fs sn) jn_f1 0 4096) (jn_X m on bk rl fs sn th ls)) :
    ∀ n s r rd th ls, (∀ j, th j < 8) → s ≤ 4096 → rd ≤ s → 4096 - s < n → jn_N (jn_A m on rl fs sn) s r →
    wX_count_10 post n (jn_fd (jn_A m on rl fs sn) jn_f1 0 s) r (nI rd) (nI m) (jn_a on) (jn_a bk) (jn_a rl) (jn_a fs) (jn_a sn) (jn_a th) (jn_a ls) := by
  intro n
  induction n with
  | zero => intro s r rd th ls _ _ _ h; exact absurd h (Nat.not_lt_zero _)
  | succ n ih =>
    intro s r rd th ls ht hs hrd hn hN
    rw [wX_count_10]
    refine pk_le 4096 rd (fun h => ?_) (fun h => ?_)
    · have e : s = 4096 := by omega
      subst e
      exact K th ls ht
    · rcases hN with ⟨j, hj, rfl, hA, hsj, hnx⟩ | ⟨rfl, hnx⟩
      · refine br_f (nI_pos (by omega)) (nm_r (jn_fdN (f := jn_f1) hsj hA hnx).symm ?_)
        rw [nI_1 j]
        refine jn_next g ht (nI (j + 1)) (fun r' th' ls' ht' hN' => ?_)
        rw [nI_clamp (by omega)] at hN'
        exact nm_r (nI_1 rd) (ih (j + 1) r' (rd + 1) th' ls' ht' (by omega) (by omega) (by omega) hN')
      · have k := K th ls ht
        rw [jn_fdE hs hnx] at k
        exact br_t (by decide) k
theorem jn_xcount {th ls : Nat → Nat} (g : jn_G m on bk rl fs sn) (ht : ∀ j, th j < 8) (K : ∀ th ls, (∀ j, th j < 8) → post (jn_fd (jn_A m on rl fs sn) jn_f1 0 4096) (jn_X m on bk rl fs sn th ls)) : wpX_count post (jn_X m on bk rl fs sn th ls) := by
  unfold wpX_count
  dsimp only
  refine jn_next g ht 0 (fun r th' ls' ht' hN => ?_)
  rw [jn_cl0] at hN
  exact Exists.intro 4097 (jn_xcount10 g K 4097 0 r 0 th' ls' ht' (by omega) (by omega) (by omega) hN)
theorem jn_xvalues22 {v : Nat} (hv : v < 4) (g : jn_G m on bk rl fs sn) (K : ∀ th ls, (∀ j, th j < 8) → post (jn_fd (jn_A m on rl fs sn) (jn_fv v) 0 4096) (jn_X m on bk rl fs sn th ls)) :
    ∀ n s r rd th ls, (∀ j, th j < 8) → s ≤ 4096 → rd ≤ s → 4096 - s < n → jn_N (jn_A m on rl fs sn) s r →
    wX_values_22 post (nI v) n (jn_fd (jn_A m on rl fs sn) (jn_fv v) 0 s) r (nI rd) (nI m) (jn_a on) (jn_a bk) (jn_a rl) (jn_a fs) (jn_a sn) (jn_a th) (jn_a ls) := by
  intro n
  induction n with
  | zero => intro s r rd th ls _ _ _ h; exact absurd h (Nat.not_lt_zero _)
  | succ n ih =>
    intro s r rd th ls ht hs hrd hn hN
    rw [wX_values_22]
    refine pk_le 4096 rd (fun h => ?_) (fun h => ?_)
    · have e : s = 4096 := by omega
      subst e
      exact K th ls ht
    · rcases hN with ⟨j, hj, rfl, hA, hsj, hnx⟩ | ⟨rfl, hnx⟩
      · refine br_f (nI_pos (by omega)) (jn_digit (by omega) hv (nm_r (jn_fdN (f := jn_fv v) hsj hA hnx).symm ?_))
        rw [nI_1 j]
        refine jn_next g ht (nI (j + 1)) (fun r' th' ls' ht' hN' => ?_)
        rw [nI_clamp (by omega)] at hN'
        exact nm_r (nI_1 rd) (ih (j + 1) r' (rd + 1) th' ls' ht' (by omega) (by omega) (by omega) hN')
      · have k := K th ls ht
        rw [jn_fdE hs hnx] at k
        exact br_t (by decide) k
theorem jn_fcT {v : Nat} {x : Int32} {n : Nat} {s : Int32} (h : nI (jn_dg n v) = x) : s + 1 = jn_fc v x n s := (if_pos h).symm
theorem jn_fcF {v : Nat} {x : Int32} {n : Nat} {s : Int32} (h : ¬ nI (jn_dg n v) = x) : s + 0 = jn_fc v x n s := (Int32.add_zero s).trans (if_neg h).symm
theorem jn_xcountWith23 {v : Nat} {x : Int32} (hv : v < 4) (g : jn_G m on bk rl fs sn) (K : ∀ th ls, (∀ j, th j < 8) → post (jn_fd (jn_A m on rl fs sn) (jn_fc v x) 0 4096) (jn_X m on bk rl fs sn th ls)) :
    ∀ n s r rd th ls, (∀ j, th j < 8) → s ≤ 4096 → rd ≤ s → 4096 - s < n → jn_N (jn_A m on rl fs sn) s r →
    wX_countWith_23 post (nI v) x n (jn_fd (jn_A m on rl fs sn) (jn_fc v x) 0 s) r (nI rd) (nI m) (jn_a on) (jn_a bk) (jn_a rl) (jn_a fs) (jn_a sn) (jn_a th) (jn_a ls) := by
  intro n
  induction n with
  | zero => intro s r rd th ls _ _ _ h; exact absurd h (Nat.not_lt_zero _)
  | succ n ih =>
    intro s r rd th ls ht hs hrd hn hN
    rw [wX_countWith_23]
    refine pk_le 4096 rd (fun h => ?_) (fun h => ?_)
    · have e : s = 4096 := by omega
      subst e
      exact K th ls ht
    · rcases hN with ⟨j, hj, rfl, hA, hsj, hnx⟩ | ⟨rfl, hnx⟩
      · have e := jn_fdN (f := jn_fc v x) (s := (0 : Int32)) hsj hA hnx
        refine br_f (nI_pos (by omega)) (jn_digit (by omega) hv (br_c (fun c => ?_) (fun c => ?_)))
        · unfold wX_countWith_52
          refine nm_r ((jn_fcT c).trans e.symm) ?_
          rw [nI_1 j]
          refine jn_next g ht (nI (j + 1)) (fun r' th' ls' ht' hN' => ?_)
          rw [nI_clamp (by omega)] at hN'
          exact nm_r (nI_1 rd) (ih (j + 1) r' (rd + 1) th' ls' ht' (by omega) (by omega) (by omega) hN')
        · unfold wX_countWith_52
          refine nm_r ((jn_fcF c).trans e.symm) ?_
          rw [nI_1 j]
          refine jn_next g ht (nI (j + 1)) (fun r' th' ls' ht' hN' => ?_)
          rw [nI_clamp (by omega)] at hN'
          exact nm_r (nI_1 rd) (ih (j + 1) r' (rd + 1) th' ls' ht' (by omega) (by omega) (by omega) hN')
      · have k := K th ls ht
        rw [jn_fdE hs hnx] at k
        exact br_t (by decide) k
end
/-! the k-th answer -/
def jn_K (A : Nat → Prop) (k : Nat) (r : Int32) : Prop := (∃ j, j < 4096 ∧ r = nI j ∧ A j ∧ jn_cn A j = k) ∨ (r = -1 ∧ ∀ j, j < 4096 → A j → jn_cn A j ≠ k)
theorem jn_cnlt {A : Nat → Prop} {j s : Nat} (h : j < s) (hA : A j) : jn_cn A j < jn_cn A s := by
  have a := jn_cnT hA
  have b := jn_cnM (A := A) (a := j + 1) s (by omega)
  omega
theorem jn_cnS {A : Nat → Prop} {a k : Nat} (h : a ≤ k) (hn : ∀ i, a ≤ i → i < k → ¬ A i) : jn_cn A k = jn_cn A a := jn_fdS k h hn
section
variable {m : Nat} {on bk rl fs sn : Nat → Nat} {post : Int32 → SX → Prop}
theorem jn_xanswer16 {k : Nat} (hk : k < 2 ^ 31) (g : jn_G m on bk rl fs sn) (K : ∀ r th ls, (∀ j, th j < 8) → jn_K (jn_A m on rl fs sn) k r → post r (jn_X m on bk rl fs sn th ls)) :
    ∀ n s r i th ls, (∀ j, th j < 8) → s ≤ 4096 → i = jn_cn (jn_A m on rl fs sn) s → i ≤ k → 4096 - s < n → jn_N (jn_A m on rl fs sn) s r →
    wX_answer_16 post (nI k) n r (nI i) (nI m) (jn_a on) (jn_a bk) (jn_a rl) (jn_a fs) (jn_a sn) (jn_a th) (jn_a ls) := by
  intro n
  induction n with
  | zero => intro s r i th ls _ _ _ _ h; exact absurd h (Nat.not_lt_zero _)
  | succ n ih =>
    intro s r i th ls ht hs hi hik hn hN
    have hcl := jn_cnL (A := jn_A m on rl fs sn) s
    rw [wX_answer_16]
    refine pk_le k i (fun h => K r th ls ht ?_) (fun h => ?_)
    · have e : i = k := by omega
      rcases hN with ⟨j, hj, rfl, hA, hsj, hnx⟩ | ⟨rfl, hnx⟩
      · refine Or.inl ⟨j, hj, rfl, hA, ?_⟩
        rw [jn_cnS hsj hnx]; omega
      · refine Or.inr ⟨rfl, fun j hj hA => ?_⟩
        have c : j < s := by
          by_cases c : j < s
          · exact c
          · exact absurd hA (hnx j hj (by omega))
        have := jn_cnlt c hA
        omega
    · rcases hN with ⟨j, hj, rfl, hA, hsj, hnx⟩ | ⟨rfl, hnx⟩
      · refine br_f (nI_pos (by omega)) ?_
        rw [nI_1 j]
        refine jn_next g ht (nI (j + 1)) (fun r' th' ls' ht' hN' => ?_)
        rw [nI_clamp (by omega)] at hN'
        exact nm_r (nI_1 i) (ih (j + 1) r' (i + 1) th' ls' ht' (by omega) (by rw [jn_cnT hA, jn_cnS hsj hnx, hi]) (by omega) (by omega) hN')
      · refine br_t (by decide) (K _ th ls ht (Or.inr ⟨rfl, fun j hj hA => ?_⟩))
        have c : j < s := by
          by_cases c : j < s
          · exact c
          · exact absurd hA (hnx j hj (by omega))
        have := jn_cnlt c hA
        omega
theorem jn_xanswer {k : Nat} {th ls : Nat → Nat} (hk : k < 2 ^ 31) (g : jn_G m on bk rl fs sn) (ht : ∀ j, th j < 8) (K : ∀ r th ls, (∀ j, th j < 8) → jn_K (jn_A m on rl fs sn) k r → post r (jn_X m on bk rl fs sn th ls)) : wpX_answer post (jn_X m on bk rl fs sn th ls) (nI k) := by
  unfold wpX_answer
  dsimp only
  refine br_t (nI_pos' hk) (jn_next g ht 0 (fun r th' ls' ht' hN => ?_))
  rw [jn_cl0] at hN
  exact Exists.intro 4097 (jn_xanswer16 hk g K 4097 0 r 0 th' ls' ht' (by omega) jn_cn0.symm (by omega) (by omega) hN)
theorem jn_xanswerN {v : Int32} {th ls : Nat → Nat} (hv : v < 0) (K : post (-1) (jn_X m on bk rl fs sn th ls)) : wpX_answer post (jn_X m on bk rl fs sn th ls) v := by
  unfold wpX_answer
  dsimp only
  have h : ¬ 0 ≤ v := Int32.not_le.mpr hv
  have h2 : v ≤ 0 := Int32.le_of_lt hv
  exact br_f h (Exists.intro 1 (br_t h2 K))
end
/-! the reference's loops -/
section
variable {m : Nat} {on bk rl fs sn : Nat → Nat} {se : Nat → Int32} {post : Int32 → Prop}
theorem jn_ycount4 (g : jn_G m on bk rl fs sn) (K : post (jn_fd (jn_A m on rl fs sn) jn_f1 0 4096)) : ∀ n i, i ≤ 4096 → 4096 - i < n → wY_count_4 post (nI m) (jn_a on) (jn_a rl) (jn_a fs) (jn_a sn) se n (jn_fd (jn_A m on rl fs sn) jn_f1 0 i) (nI i) := by
  intro n
  induction n with
  | zero => intro i _ h; exact absurd h (Nat.not_lt_zero _)
  | succ n ih =>
    intro i hi hn
    rw [wY_count_4]
    refine pk_le 4096 i (fun h => ?_) (fun h => ?_)
    · have e : i = 4096 := by omega
      subst e
      exact K
    · refine jn_isAnswer g (by omega) (fun a => br_f (by decide) (nm_r (jn_fdT (f := jn_f1) a).symm (nm_r (nI_1 i) (ih (i + 1) (by omega) (by omega))))) (fun a => br_t rfl (nm_r (nI_1 i) ?_))
      have k := ih (i + 1) (by omega) (by omega)
      rw [jn_fdF a] at k
      exact k
theorem jn_ycount (g : jn_G m on bk rl fs sn) (K : post (jn_fd (jn_A m on rl fs sn) jn_f1 0 4096)) : wpY_count post (jn_Y m on rl fs sn se) :=
  Exists.intro 4097 (jn_ycount4 g K 4097 0 (by omega) (by omega))
theorem jn_yvalues4 {v : Nat} (hv : v < 4) (hY : ∀ (post : Int32 → Prop) (w : SY), post 1 → wpY_variable post w (nI v)) (g : jn_G m on bk rl fs sn) (K : post (jn_fd (jn_A m on rl fs sn) (jn_fv v) 0 4096)) : ∀ n i, i ≤ 4096 → 4096 - i < n → wY_values_4 post (nI v) (nI m) (jn_a on) (jn_a rl) (jn_a fs) (jn_a sn) se n (jn_fd (jn_A m on rl fs sn) (jn_fv v) 0 i) (nI i) := by
  intro n
  induction n with
  | zero => intro i _ h; exact absurd h (Nat.not_lt_zero _)
  | succ n ih =>
    intro i hi hn
    rw [wY_values_4]
    refine pk_le 4096 i (fun h => ?_) (fun h => hY _ _ (br_f (by decide) ?_))
    · have e : i = 4096 := by omega
      subst e
      exact K
    · refine jn_isAnswer g (by omega) (fun a => br_f (by decide) (jn_of (by omega) hv (nm_r (jn_fdT (f := jn_fv v) a).symm (nm_r (nI_1 i) (ih (i + 1) (by omega) (by omega)))))) (fun a => br_t rfl (nm_r (nI_1 i) ?_))
      have k := ih (i + 1) (by omega) (by omega)
      rw [jn_fdF a] at k
      exact k
theorem jn_fcF' {v : Nat} {x : Int32} {n : Nat} {s : Int32} (h : ¬ nI (jn_dg n v) = x) : jn_fc v x n s = s := if_neg h
theorem jn_ycountWith5 {v : Nat} {x : Int32} (hv : v < 4) (hY : ∀ (post : Int32 → Prop) (w : SY), post 1 → wpY_variable post w (nI v)) (g : jn_G m on bk rl fs sn) (K : post (jn_fd (jn_A m on rl fs sn) (jn_fc v x) 0 4096)) : ∀ n i, i ≤ 4096 → 4096 - i < n → wY_countWith_5 post (nI v) x (nI m) (jn_a on) (jn_a rl) (jn_a fs) (jn_a sn) se n (jn_fd (jn_A m on rl fs sn) (jn_fc v x) 0 i) (nI i) := by
  intro n
  induction n with
  | zero => intro i _ h; exact absurd h (Nat.not_lt_zero _)
  | succ n ih =>
    intro i hi hn
    rw [wY_countWith_5]
    refine pk_le 4096 i (fun h => ?_) (fun h => hY _ _ (br_f (by decide) ?_))
    · have e : i = 4096 := by omega
      subst e
      exact K
    · refine jn_of (by omega) hv (br_c (fun c => ?_) (fun c => nm_r (nI_1 i) ?_))
      · refine jn_isAnswer g (by omega) (fun a => br_f (by decide) (nm_r ((jn_fcT c).trans (jn_fdT (f := jn_fc v x) a).symm) (nm_r (nI_1 i) (ih (i + 1) (by omega) (by omega))))) (fun a => br_t rfl (nm_r (nI_1 i) ?_))
        have k := ih (i + 1) (by omega) (by omega)
        rw [jn_fdF a] at k
        exact k
      · have k := ih (i + 1) (by omega) (by omega)
        by_cases a : jn_A m on rl fs sn i
        · rw [jn_fdT a, jn_fcF' c] at k
          exact k
        · rw [jn_fdF a] at k
          exact k
theorem jn_yanswer4 {k : Nat} {r : Int32} (hk : k < 2 ^ 31) (g : jn_G m on bk rl fs sn) (hK : jn_K (jn_A m on rl fs sn) k r) (K : post r) : ∀ n i, i ≤ 4096 → 4096 - i < n → (∀ j, j < i → jn_A m on rl fs sn j → jn_cn (jn_A m on rl fs sn) j ≠ k) → wY_answer_4 post (nI k) (nI m) (jn_a on) (jn_a rl) (jn_a fs) (jn_a sn) se n (nI (jn_cn (jn_A m on rl fs sn) i)) (nI i) := by
  intro n
  induction n with
  | zero => intro i _ h; exact absurd h (Nat.not_lt_zero _)
  | succ n ih =>
    intro i hi hn hz
    have hc := jn_cnL (A := jn_A m on rl fs sn) i
    rw [wY_answer_4]
    refine pk_le 4096 i (fun h => ?_) (fun h => ?_)
    · rcases hK with ⟨j, hj, _, hA, hjk⟩ | ⟨rfl, _⟩
      · exact absurd hjk (hz j (by omega) hA)
      · exact K
    · refine jn_isAnswer g (by omega) (fun a => br_f (by decide) (pk_eq (jn_cn (jn_A m on rl fs sn) i) k (fun e => ?_) (fun e => ?_))) (fun a => br_t rfl (nm_r (nI_1 i) ?_))
      · rcases hK with ⟨j, hj, rfl, hA, hjk⟩ | ⟨_, hno⟩
        · have e2 : j = i := by
            rcases Nat.lt_trichotomy j i with c | c | c
            · exact absurd hjk (hz j c hA)
            · exact c
            · have := jn_cnlt c a
              omega
          subst e2
          exact K
        · exact absurd e (hno i h a)
      · refine nm_r (e' := nI (jn_cn (jn_A m on rl fs sn) (i + 1))) ?_ (nm_r (nI_1 i) (ih (i + 1) (by omega) (by omega) (fun j hj hA => ?_)))
        · rw [nI_1, jn_cnT a]
        · by_cases e2 : j = i
          · subst e2; exact e
          · exact hz j (by omega) hA
      · have q := ih (i + 1) (by omega) (by omega) (fun j hj hA => by
          by_cases e2 : j = i
          · subst e2; exact absurd hA a
          · exact hz j (by omega) hA)
        rw [jn_cnF a] at q
        exact q
theorem jn_yanswerN {v : Int32} (hv : v < 0) (g : jn_G m on bk rl fs sn) (K : post (-1)) : ∀ n i c, i ≤ 4096 → 4096 - i < n → c ≤ i → wY_answer_4 post v (nI m) (jn_a on) (jn_a rl) (jn_a fs) (jn_a sn) se n (nI c) (nI i) := by
  intro n
  induction n with
  | zero => intro i c _ h; exact absurd h (Nat.not_lt_zero _)
  | succ n ih =>
    intro i c hi hn hc
    rw [wY_answer_4]
    refine pk_le 4096 i (fun h => K) (fun h => ?_)
    have hne : ¬ nI c = v := fun e => absurd hv (by rw [← e]; exact nI_pos (by omega))
    exact jn_isAnswer g (by omega) (fun a => br_f (by decide) (br_f hne (nm_r (nI_1 c) (nm_r (nI_1 i) (ih (i + 1) (c + 1) (by omega) (by omega) (by omega)))))) (fun a => br_t rfl (nm_r (nI_1 i) (ih (i + 1) c (by omega) (by omega) (by omega))))
theorem jn_ltc {i : Nat} {p : Int32} (hi : i < 2 ^ 31) : nI i < p ↔ i < p.toNatClampNeg := by
  rw [Int32.lt_iff_toInt_lt, nI_toInt hi]
  show (i : Int) < p.toInt ↔ i < p.toInt.toNat
  omega
theorem jn_yseek2 {p r : Int32} (g : jn_G m on bk rl fs sn) (hN : jn_N (jn_A m on rl fs sn) p.toNatClampNeg r) (K : post r) : ∀ n i, i ≤ 4096 → 4096 - i < n → (∀ j, p.toNatClampNeg ≤ j → j < i → ¬ jn_A m on rl fs sn j) → wY_seek_2 post p (nI m) (jn_a on) (jn_a rl) (jn_a fs) (jn_a sn) se n (nI i) := by
  intro n
  induction n with
  | zero => intro i _ h; exact absurd h (Nat.not_lt_zero _)
  | succ n ih =>
    intro i hi hn hz
    rw [wY_seek_2]
    refine pk_le 4096 i (fun h => ?_) (fun h => br_c (fun c => ?_) (fun c => ?_))
    · rcases hN with ⟨j, hj, _, hA, hs, _⟩ | ⟨rfl, _⟩
      · exact absurd hA (hz j hs (by omega))
      · exact K
    · rw [jn_ltc (by omega)] at c
      exact nm_r (nI_1 i) (ih (i + 1) (by omega) (by omega) (fun j h1 h2 => absurd h1 (by omega)))
    · rw [jn_ltc (by omega)] at c
      refine jn_isAnswer g (by omega) (fun a => br_f (by decide) ?_) (fun a => br_t rfl (nm_r (nI_1 i) (ih (i + 1) (by omega) (by omega) (fun j h1 h2 => ?_))))
      · rcases hN with ⟨j, hj, rfl, hA, hs, hnx⟩ | ⟨_, hno⟩
        · have e2 : j = i := by
            rcases Nat.lt_trichotomy j i with d | d | d
            · exact absurd hA (hz j hs d)
            · exact d
            · exact absurd a (hnx i (by omega) d)
          subst e2
          exact K
        · exact absurd a (hno i h (by omega))
      · by_cases e2 : j = i
        · subst e2; exact a
        · exact hz j h1 (by omega)
end
end
section
/-! pairs -/
def jn_pl (v w n : Nat) : Nat := 8 * jn_dg n v + jn_dg n w
def jn_fp (v w n s : Nat) : Nat := s ||| 2 ^ jn_pl v w n
theorem jn_plL (v w n : Nat) : jn_pl v w n < 64 := by
  have a := jn_dgL n v
  have b := jn_dgL n w
  unfold jn_pl
  omega
theorem jn_fpL {v w n s : Nat} (h : s < 2 ^ 64) : jn_fp v w n s < 2 ^ 64 := Nat.or_lt_two_pow h (wb_lt2 (jn_plL v w n))
theorem jn_fpB (v w n s c : Nat) : (jn_fp v w n s).testBit c = (s.testBit c || decide (jn_pl v w n = c)) := by
  unfold jn_fp
  rw [Nat.testBit_or, Nat.testBit_two_pow]
theorem jn_orL {s c : Nat} (hs : s < 2 ^ 64) (hc : c < 64) : lN s ||| ((1 : Int64) <<< ((nI c).toInt64 &&& 63)) = lN (s ||| 2 ^ c) := by
  rw [show (1 : Int64) = lN 1 from rfl, wb_shl 1 hc, Nat.one_mul, wb_or hs (wb_lt2 hc)]
def jn_tb (w c : Nat) : Prop := w.testBit c = true
theorem jn_cnB {w i : Nat} : jn_cn (jn_tb w) (i + 1) = jn_cn (jn_tb w) i + w / 2 ^ i % 2 := by
  have e := Nat.testBit_eq_decide_div_mod_eq (x := w) (i := i)
  by_cases h : jn_tb w i
  · have h2 : w / 2 ^ i % 2 = 1 := of_decide_eq_true (e.symm.trans h)
    rw [jn_cnT h, h2]
  · have h2 : ¬ w / 2 ^ i % 2 = 1 := fun z => h (e.trans (decide_eq_true z))
    rw [jn_cnF h]
    omega
theorem jn_cnZ (k : Nat) : jn_cn (jn_tb 0) k = 0 :=
  (jn_cnS (Nat.zero_le k) (fun i _ _ z => by unfold jn_tb at z; rw [Nat.zero_testBit] at z; exact nomatch z)).trans jn_cn0
section
variable {m : Nat} {on bk rl fs sn : Nat → Nat} {post : Int32 → SX → Prop}
theorem jn_xpairs90 {w : Nat} {th ls : Nat → Nat} (hw : w < 2 ^ 64) (K : post (nI (jn_cn (jn_tb w) 64)) (jn_X m on bk rl fs sn th ls)) : ∀ n i, i ≤ 64 → 64 - i < n → wX_pairs_90 post (lN w) (nI m) (jn_a on) (jn_a bk) (jn_a rl) (jn_a fs) (jn_a sn) (jn_a th) (jn_a ls) n (nI (jn_cn (jn_tb w) i)) (nI i) := by
  intro n
  induction n with
  | zero => intro i _ h; exact absurd h (Nat.not_lt_zero _)
  | succ n ih =>
    intro i hi hn
    rw [wX_pairs_90]
    refine pk_le 64 i (fun h => ?_) (fun h => ?_)
    · have e : i = 64 := by omega
      subst e
      exact K
    · refine nm_r (e' := nI (jn_cn (jn_tb w) (i + 1))) ?_ (nm_r (nI_1 i) (ih (i + 1) (by omega) (by omega)))
      rw [wb_bit hw h, lN_i, nI_add, jn_cnB]
theorem jn_xpairs30 {v w : Nat} (hv : v < 4) (hw : w < 4) (g : jn_G m on bk rl fs sn) (K : ∀ th ls, (∀ j, th j < 8) → post (nI (jn_cn (jn_tb (jn_fd (jn_A m on rl fs sn) (jn_fp v w) 0 4096)) 64)) (jn_X m on bk rl fs sn th ls)) :
    ∀ n s r rd th ls, (∀ j, th j < 8) → s ≤ 4096 → rd ≤ s → 4096 - s < n → jn_N (jn_A m on rl fs sn) s r →
    wX_pairs_30 post (nI v) (nI w) n (lN (jn_fd (jn_A m on rl fs sn) (jn_fp v w) 0 s)) r (nI rd) (nI m) (jn_a on) (jn_a bk) (jn_a rl) (jn_a fs) (jn_a sn) (jn_a th) (jn_a ls) := by
  intro n
  induction n with
  | zero => intro s r rd th ls _ _ _ h; exact absurd h (Nat.not_lt_zero _)
  | succ n ih =>
    intro s r rd th ls ht hs hrd hn hN
    have hb : ∀ k, jn_fd (jn_A m on rl fs sn) (jn_fp v w) 0 k < 2 ^ 64 := jn_fdP (P := fun x => x < 2 ^ 64) (by decide) (fun k x hx => jn_fpL hx)
    rw [wX_pairs_30]
    refine pk_le 4096 rd (fun h => ?_) (fun h => ?_)
    · have e : s = 4096 := by omega
      subst e
      exact ⟨65, jn_xpairs90 (hb _) (K th ls ht) 65 0 (by omega) (by omega)⟩
    · rcases hN with ⟨j, hj, rfl, hA, hsj, hnx⟩ | ⟨rfl, hnx⟩
      · have e := jn_fdN (f := jn_fp v w) (s := (0 : Nat)) hsj hA hnx
        refine br_f (nI_pos (by omega)) (jn_digit (by omega) hv (jn_digit (by omega) hw (nm_r (e' := nI (jn_pl v w j)) (jn_ixY _ _) (nm_r (e' := lN (jn_fd (jn_A m on rl fs sn) (jn_fp v w) 0 (j + 1))) ?_ ?_))))
        · rw [jn_orL (hb s) (jn_plL v w j), e]
          rfl
        rw [nI_1 j]
        refine jn_next g ht (nI (j + 1)) (fun r' th' ls' ht' hN' => ?_)
        rw [nI_clamp (by omega)] at hN'
        exact nm_r (nI_1 rd) (ih (j + 1) r' (rd + 1) th' ls' ht' (by omega) (by omega) (by omega) hN')
      · have k := K th ls ht
        rw [jn_fdE hs hnx] at k
        exact br_t (by decide) ⟨65, jn_xpairs90 (hb _) k 65 0 (by omega) (by omega)⟩
theorem jn_xpairsN {x1 x2 : Int32} {th ls : Nat → Nat} (K : post 0 (jn_X m on bk rl fs sn th ls)) : ∃ n30 : Nat, wX_pairs_30 post x1 x2 n30 0 (-1) 0 (nI m) (jn_a on) (jn_a bk) (jn_a rl) (jn_a fs) (jn_a sn) (jn_a th) (jn_a ls) := by
  refine ⟨1, ?_⟩
  rw [wX_pairs_30]
  refine br_f (by decide) (br_t (by decide) ⟨65, jn_xpairs90 (w := 0) (by decide) ?_ 65 0 (by omega) (by omega)⟩)
  rw [jn_cnZ]
  exact K
end
section
variable {m : Nat} {on bk rl fs sn : Nat → Nat} {post : Int32 → SY → Prop}
theorem jn_nb1 : vp_nar .boolean 1 = 1 := by decide
theorem jn_nb0 : vp_nar .boolean 0 = 0 := by decide
def jn_se (w : Nat) (se : Nat → Int32) : Prop := ∀ c, c < 64 → (jn_tb w c → se c = 1) ∧ (¬ jn_tb w c → se c = 0)
theorem jn_ypairs26 {v w : Nat} (hv : v < 4) (hw : w < 4) (hYv : ∀ (post : Int32 → Prop) (w : SY), post 1 → wpY_variable post w (nI v)) (hYw : ∀ (post : Int32 → Prop) (u : SY), post 1 → wpY_variable post u (nI w)) (g : jn_G m on bk rl fs sn) (K : ∀ se, post (nI (jn_cn (jn_tb (jn_fd (jn_A m on rl fs sn) (jn_fp v w) 0 4096)) 64)) (jn_Y m on rl fs sn se)) :
    ∀ n i se, i ≤ 4096 → 4096 - i < n → jn_se (jn_fd (jn_A m on rl fs sn) (jn_fp v w) 0 i) se →
    wY_pairs_26 post (nI v) (nI w) (nI m) n (nI (jn_cn (jn_tb (jn_fd (jn_A m on rl fs sn) (jn_fp v w) 0 i)) 64)) (nI i) (jn_a on) (jn_a rl) (jn_a fs) (jn_a sn) se := by
  intro n
  induction n with
  | zero => intro i se _ h; exact absurd h (Nat.not_lt_zero _)
  | succ n ih =>
    intro i se hi hn hs
    rw [wY_pairs_26]
    refine pk_le 4096 i (fun h => ?_) (fun h => hYv _ _ (br_f (by decide) (hYw _ _ (br_f (by decide) ?_))))
    · have e : i = 4096 := by omega
      subst e
      exact K se
    · have hp := jn_plL v w i
      refine jn_of (by omega) hv (jn_of (by omega) hw (nm_r (e' := nI (jn_pl v w i)) (jn_ixY _ _) ?_))
      refine jn_isAnswer g (by omega) (fun a => br_f (by decide) ⟨vp_in_nI hp (by omega), ?_⟩) (fun a => br_t rfl (nm_r (nI_1 i) ?_))
      · have e := jn_fdT (f := jn_fp v w) (s := (0 : Nat)) a
        rw [nI_clamp (by omega)]
        have hb := jn_fpB v w i (jn_fd (jn_A m on rl fs sn) (jn_fp v w) 0 i)
        rw [← e] at hb
        have hold : ∀ c, c ≠ jn_pl v w i → (jn_tb (jn_fd (jn_A m on rl fs sn) (jn_fp v w) 0 i) c ↔ jn_tb (jn_fd (jn_A m on rl fs sn) (jn_fp v w) 0 (i + 1)) c) := by
          intro c hc
          unfold jn_tb
          rw [hb c, decide_eq_false (fun z => hc z.symm), Bool.or_false]
        have hnew : jn_tb (jn_fd (jn_A m on rl fs sn) (jn_fp v w) 0 (i + 1)) (jn_pl v w i) := by
          unfold jn_tb
          rw [hb, decide_eq_true rfl, Bool.or_true]
        by_cases b : jn_tb (jn_fd (jn_A m on rl fs sn) (jn_fp v w) 0 i) (jn_pl v w i)
        · have s1 := (hs _ hp).1 b
          have ec : jn_cn (jn_tb (jn_fd (jn_A m on rl fs sn) (jn_fp v w) 0 i)) 64 = jn_cn (jn_tb (jn_fd (jn_A m on rl fs sn) (jn_fp v w) 0 (i + 1))) 64 := by
            refine jn_cnC 64 (fun c _ => ?_)
            by_cases e3 : c = jn_pl v w i
            · subst e3; exact ⟨fun _ => hnew, fun _ => b⟩
            · exact hold c e3
          have k := ih (i + 1) se (by omega) (by omega) (fun c hc => by
            by_cases e3 : c = jn_pl v w i
            · subst e3; exact ⟨fun _ => s1, fun z => absurd hnew z⟩
            · exact ⟨fun z => (hs c hc).1 ((hold c e3).mpr z), fun z => (hs c hc).2 (fun y => z ((hold c e3).mp y))⟩)
          rw [← ec] at k
          exact br_f (by rw [s1]; decide) (nm_r (nI_1 i) k)
        · have s0 := (hs _ hp).2 b
          have ec := jn_cnI b hnew hold 64 hp
          have k := ih (i + 1) (upd se (jn_pl v w i) 1) (by omega) (by omega) (fun c hc => by
            by_cases e3 : c = jn_pl v w i
            · subst e3; rw [pk_us]; exact ⟨fun _ => rfl, fun z => absurd hnew z⟩
            · rw [pk_un e3]; exact ⟨fun z => (hs c hc).1 ((hold c e3).mpr z), fun z => (hs c hc).2 (fun y => z ((hold c e3).mp y))⟩)
          rw [ec] at k
          exact br_t s0 ⟨vp_in_nI hp (by omega), nm_r (by rw [jn_nb1]) (nm_r (nI_1 _) (nm_r (nI_1 i) k))⟩
      · have k := ih (i + 1) se (by omega) (by omega) (by rw [jn_fdF a]; exact hs)
        rw [jn_fdF a] at k
        exact k
theorem jn_ypairs2 {x1 x2 : Int32} (K : ∀ se : Nat → Int32, (∀ c, c < 64 → se c = 0) → ∃ n26 : Nat, wY_pairs_26 post x1 x2 (nI m) n26 0 0 (jn_a on) (jn_a rl) (jn_a fs) (jn_a sn) se) :
    ∀ n i se, i ≤ 64 → 64 - i < n → (∀ c, c < i → se c = 0) → wY_pairs_2 post x1 x2 (nI m) n (nI i) (jn_a on) (jn_a rl) (jn_a fs) (jn_a sn) se := by
  intro n
  induction n with
  | zero => intro i se _ h; exact absurd h (Nat.not_lt_zero _)
  | succ n ih =>
    intro i se hi hn hs
    rw [wY_pairs_2]
    refine pk_le 64 i (fun h => K se (fun c hc => hs c (by omega))) (fun h => ⟨vp_in_nI h (by omega), ?_⟩)
    rw [nI_clamp (by omega), jn_nb0]
    refine nm_e (nm_r (nI_1 i) (ih (i + 1) _ (by omega) (by omega) (fun c hc => ?_)))
    by_cases e : c = i
    · subst e; exact pk_us
    · rw [pk_un e]; exact hs c (by omega)
end
end
section
/-! put, pair, atom, size, partners -/
theorem jn_w16 {f : Nat → Nat} {k q : Nat} {x : Int32} (hk : k < 2 ^ 31) (hq : q < 256) (hx : x = nI q) : upd (jn_a f) (nI k).toNatClampNeg (vp_nar .short x.toInt16.toInt32) = jn_a (jn_u f k q) := by
  rw [hx, nI_clamp hk, jn_narS hq, jn_upd]
theorem jn_gput {m r x y : Nat} {on bk rl fs sn : Nat → Nat} (g : jn_G m on bk rl fs sn) (hr : r < 3) (hx : x < 8) (hy : y < 8) (o : Bool) : jn_G m (jn_u on (8 * r + x) (jn_st (on (8 * r + x)) y o)) (jn_u bk (8 * r + y) (jn_st (bk (8 * r + y)) x o)) rl fs sn := by
  obtain ⟨g1, g2, g3, g4, g5, g6, g7⟩ := g
  refine ⟨g1, jn_ub (P := fun j => j < 256) g2 (jn_stL _ (g2 _) y hy o), jn_ub (P := fun j => j < 256) g3 (jn_stL _ (g3 _) x hx o), g4, g5, g6, fun r2 x2 y2 h1 h2 h3 => ?_⟩
  have k := g7 r2 x2 y2 h1 h2 h3
  by_cases a : 8 * r2 + y2 = 8 * r + y
  · have er : r2 = r := by omega
    have ey : y2 = y := by omega
    subst er ey
    rw [jn_us, jn_stB _ (g3 _) x hx x2 h2]
    by_cases b : x2 = x
    · subst b
      rw [jn_us, jn_stB _ (g2 _) y2 hy y2 h3, if_pos rfl, if_pos rfl]
    · rw [jn_un (by omega), if_neg b]; exact k
  · rw [jn_un a]
    by_cases b : 8 * r2 + x2 = 8 * r + x
    · have er : r2 = r := by omega
      have ex : x2 = x := by omega
      subst er ex
      rw [jn_us, jn_stB _ (g2 _) y hy y2 h3, if_neg (by omega)]; exact k
    · rw [jn_un b]; exact k
section
variable {m : Nat} {on bk rl fs sn th ls : Nat → Nat}
theorem jn_put {post : SX → Prop} {r x y : Nat} {p : Int32} (o : Bool) (ho : o = false ↔ p = 0) (g : jn_G m on bk rl fs sn) (hr : r < 3) (hx : x < 8) (hy : y < 8) (K : post (jn_X m (jn_u on (8 * r + x) (jn_st (on (8 * r + x)) y o)) (jn_u bk (8 * r + y) (jn_st (bk (8 * r + y)) x o)) rl fs sn th ls)) : wpX_put post (jn_X m on bk rl fs sn th ls) (nI r) (nI x) (nI y) p := by
  have g2 := g.2.1
  have g3 := g.2.2.1
  have i1 : vp_in (nI (8 * r + x)) 24 := vp_in_nI (by omega) (by omega)
  have i2 : vp_in (nI (8 * r + y)) 24 := vp_in_nI (by omega) (by omega)
  unfold wpX_put
  dsimp only
  refine nm_r (jn_ixX r x) (nm_r (jn_ixX r y) ?_)
  by_cases hp : p = 0
  · have e : o = false := ho.mpr hp
    subst e
    refine br_t hp ⟨i1, ?_⟩
    unfold wX_put_54
    rw [jn_rd (by omega), jn_rd (by omega)]
    refine ⟨i1, nm_r (jn_w16 (by omega) (jn_stL _ (g2 _) y hy false) (jn_clI _ (g2 _) y hy)) (br_t hp ⟨i2, i2, nm_r (jn_w16 (by omega) (jn_stL _ (g3 _) x hx false) (jn_clI _ (g3 _) x hx)) K⟩)⟩
  · have e : o = true := by
      cases o
      · exact absurd (ho.mp rfl) hp
      · rfl
    subst e
    refine br_f hp ⟨i1, ?_⟩
    unfold wX_put_54
    rw [jn_rd (by omega), jn_rd (by omega)]
    refine ⟨i1, nm_r (jn_w16 (by omega) (jn_stL _ (g2 _) y hy true) (jn_orI _ (g2 _) y hy)) (br_f hp ⟨i2, i2, nm_r (jn_w16 (by omega) (jn_stL _ (g3 _) x hx true) (jn_orI _ (g3 _) x hx)) K⟩)⟩
theorem jn_wI {f : Nat → Nat} {k q : Nat} {x : Int32} (hk : k < 2 ^ 31) (hx : x = nI q) : upd (jn_a f) (nI k).toNatClampNeg x = jn_a (jn_u f k q) := by
  rw [hx, nI_clamp hk, jn_upd]
theorem jn_ypair {post : Int32 → SY → Prop} {se : Nat → Int32} {r x y : Nat} {p : Int32} (o : Bool) (ho : o = false ↔ p = 0) (g2 : ∀ j, on j < 256) (hr : r < 3) (hx : x < 8) (hy : y < 8) (hR : ∀ (post : Int32 → Prop) (w : SY), post 1 → wpY_relation post w (nI r)) (hX : ∀ (post : Int32 → Prop) (w : SY), post 1 → wpY_thing post w (nI x)) (hY : ∀ (post : Int32 → Prop) (w : SY), post 1 → wpY_thing post w (nI y)) (K : post 1 (jn_Y m (jn_u on (8 * r + x) (jn_st (on (8 * r + x)) y o)) rl fs sn se)) : wpY_pair post (jn_Y m on rl fs sn se) (nI r) (nI x) (nI y) p := by
  have i1 : vp_in (nI (8 * r + x)) 24 := vp_in_nI (by omega) (by omega)
  unfold wpY_pair
  dsimp only
  refine hR _ _ (br_f (by decide) (hX _ _ (br_f (by decide) (hY _ _ (br_f (by decide) ?_)))))
  rw [jn_ixY, jn_rd (by omega)]
  by_cases hp : p = 0
  · have e : o = false := ho.mpr hp
    subst e
    exact br_t hp ⟨i1, i1, nm_r (jn_wI (by omega) (jn_clI _ (g2 _) y hy)) K⟩
  · have e : o = true := by
      cases o
      · exact absurd (ho.mp rfl) hp
      · rfl
    subst e
    exact br_f hp ⟨i1, i1, nm_r (jn_wI (by omega) (jn_orI _ (g2 _) y hy)) K⟩
end
/-! size -/
def jn_Q (on : Nat → Nat) (r c : Nat) : Prop := (on (8 * r + c / 8)).testBit (c % 8) = true
section
variable {m : Nat} {on bk rl fs sn th ls : Nat → Nat} {se : Nat → Int32} {post : Int32 → Prop}
theorem jn_ones4 {q : Nat} (hq : q < 256) (K : post (nI (jn_cn (jn_tb q) 8))) : ∀ n i, i ≤ 8 → 8 - i < n → wX_ones_4 post (nI q) n (nI (jn_cn (jn_tb q) i)) (nI i) := by
  intro n
  induction n with
  | zero => intro i _ h; exact absurd h (Nat.not_lt_zero _)
  | succ n ih =>
    intro i hi hn
    rw [wX_ones_4]
    refine pk_le 8 i (fun h => ?_) (fun h => ?_)
    · have e : i = 8 := by omega
      subst e
      exact K
    · refine nm_r (e' := nI (jn_cn (jn_tb q) (i + 1))) ?_ (nm_r (nI_1 i) (ih (i + 1) (by omega) (by omega)))
      rw [jn_bitI q hq i h]
      by_cases b : q.testBit i = true
      · rw [if_pos b, nI_1, jn_cnT (A := jn_tb q) b]
      · rw [if_neg b, Int32.add_zero, jn_cnF (A := jn_tb q) b]
theorem jn_xsize13 {r : Nat} (hr : r < 3) (g2 : ∀ j, on j < 256) (K : post (nI (jn_cn (jn_Q on r) 64))) : ∀ n i, i ≤ 8 → 8 - i < n → wX_size_13 post (nI r) (nI m) (jn_a on) (jn_a bk) (jn_a rl) (jn_a fs) (jn_a sn) (jn_a th) (jn_a ls) n (nI (jn_cn (jn_Q on r) (8 * i))) (nI i) := by
  intro n
  induction n with
  | zero => intro i _ h; exact absurd h (Nat.not_lt_zero _)
  | succ n ih =>
    intro i hi hn
    rw [wX_size_13]
    refine pk_le 8 i (fun h => ?_) (fun h => ?_)
    · have e : i = 8 := by omega
      subst e
      exact K
    · rw [jn_ixX, jn_rd (by omega)]
      refine ⟨vp_in_nI (by omega) (by omega), Exists.intro 9 (jn_ones4 (g2 _) ?_ 9 0 (by omega) (by omega))⟩
      refine nm_r (e' := nI (jn_cn (jn_Q on r) (8 * (i + 1)))) ?_ (nm_r (nI_1 i) (ih (i + 1) (by omega) (by omega)))
      rw [nI_add, ← jn_cnA (A := jn_Q on r) (a := 8 * i) 8 (fun c hc => ?_)]
      · rfl
      · unfold jn_Q jn_tb
        rw [show (8 * i + c) / 8 = i by omega, show (8 * i + c) % 8 = c by omega]
theorem jn_ysize4 {r : Nat} (hr : r < 3) (hR : ∀ (post : Int32 → Prop) (w : SY), post 1 → wpY_relation post w (nI r)) (g2 : ∀ j, on j < 256) (K : post (nI (jn_cn (jn_Q on r) 64))) : ∀ n i, i ≤ 64 → 64 - i < n → wY_size_4 post (nI r) (nI m) (jn_a on) (jn_a rl) (jn_a fs) (jn_a sn) se n (nI (jn_cn (jn_Q on r) i)) (nI i) := by
  intro n
  induction n with
  | zero => intro i _ h; exact absurd h (Nat.not_lt_zero _)
  | succ n ih =>
    intro i hi hn
    rw [wY_size_4]
    refine pk_le 64 i (fun h => ?_) (fun h => ?_)
    · have e : i = 64 := by omega
      subst e
      exact hR _ _ (br_f (by decide) K)
    · refine hR _ _ (br_f (by decide) ⟨by decide, by decide, ?_⟩)
      have e1 : nI i / 8 = nI (i / 8) := pk_div (d := 8) (by omega) (by omega) (by omega)
      have e2 : nI i - nI (i / 8) * 8 = nI (i % 8) := by
        have := pk_rem (a := i) (d := 8) (by omega) (by omega) (by omega)
        rw [pk_div (by omega) (by omega) (by omega)] at this
        exact this
      rw [e1, e2]
      refine jn_yin g2 hr (by omega) (by omega) (fun b => br_f (by decide) (nm_r (e' := nI (jn_cn (jn_Q on r) (i + 1))) ?_ (nm_r (nI_1 i) (ih (i + 1) (by omega) (by omega))))) (fun b => br_t rfl (nm_r (nI_1 i) ?_))
      · rw [nI_1, jn_cnT (A := jn_Q on r) b]
      · have k := ih (i + 1) (by omega) (by omega)
        rw [jn_cnF (A := jn_Q on r) b] at k
        exact k
/-! partners -/
theorem jn_yp6 {r x q : Nat} {w : Int32} (hr : r < 3) (hx : x < 8) (hq : q < 256) (hR : ∀ (post : Int32 → Prop) (w : SY), post 1 → wpY_relation post w (nI r)) (hX : ∀ (post : Int32 → Prop) (w : SY), post 1 → wpY_thing post w (nI x)) (g2 : ∀ j, on j < 256) (hw : (w = 0 ∧ ∀ y, y < 8 → q.testBit y = (on (8 * r + x)).testBit y) ∨ (w = 1 ∧ ∀ y, y < 8 → q.testBit y = (on (8 * r + y)).testBit x) ∨ (¬ w = 0 ∧ ¬ w = 1 ∧ q = 0)) (K : post (nI q)) :
    ∀ n i, i ≤ 8 → 8 - i < n → wY_partners_6 post (nI r) (nI x) w (nI m) (jn_a on) (jn_a rl) (jn_a fs) (jn_a sn) se n (nI (q % 2 ^ i)) (nI i) := by
  intro n
  induction n with
  | zero => intro i _ h; exact absurd h (Nat.not_lt_zero _)
  | succ n ih =>
    intro i hi hn
    rw [wY_partners_6]
    refine pk_le 8 i (fun h => ?_) (fun h => hR _ _ (br_f (by decide) (hX _ _ (br_f (by decide) ?_))))
    · have e : i = 8 := by omega
      subst e
      rw [Nat.mod_eq_of_lt hq]
      exact K
    · have k := ih (i + 1) (by omega) (by omega)
      have k1 : q.testBit i = true → wY_partners_60 post (wY_partners_6 post (nI r) (nI x) w (nI m) (jn_a on) (jn_a rl) (jn_a fs) (jn_a sn) se n) (nI r) (nI x) w (nI (q % 2 ^ i)) (nI i) (nI m) (jn_a on) (jn_a rl) (jn_a fs) (jn_a sn) se := by
        intro b
        unfold wY_partners_60 wY_partners_65
        exact br_f (by decide) (nm_r (jn_mo1 q hq i h b) (nm_r (nI_1 i) k))
      have k0 : ¬ q.testBit i = true → wY_partners_64 post (wY_partners_6 post (nI r) (nI x) w (nI m) (jn_a on) (jn_a rl) (jn_a fs) (jn_a sn) se n) (nI r) (nI x) w (nI (q % 2 ^ i)) (nI i) (nI m) (jn_a on) (jn_a rl) (jn_a fs) (jn_a sn) se := by
        intro b
        have b2 : q.testBit i = false := by
          cases c : q.testBit i
          · rfl
          · exact absurd c b
        rw [← jn_mo0 q hq i h b2] at k
        unfold wY_partners_64 wY_partners_65
        exact br_t rfl (nm_r (nI_1 i) k)
      rcases hw with ⟨rfl, hb⟩ | ⟨rfl, hb⟩ | ⟨h0, h1, rfl⟩
      · refine br_t rfl (jn_yin g2 hr hx h (fun b => br_f (by decide) (k1 ((hb i h).trans b))) (fun b => br_t rfl ?_))
        unfold wY_partners_44
        exact br_f (by decide) (k0 (fun z => b ((hb i h).symm.trans z)))
      · refine br_f (by decide) ?_
        unfold wY_partners_44
        exact br_t rfl (jn_yin g2 hr h hx (fun b => br_f (by decide) (k1 ((hb i h).trans b))) (fun b => br_t rfl (k0 (fun z => b ((hb i h).symm.trans z)))))
      · refine br_f h0 ?_
        unfold wY_partners_44
        exact br_f h1 (k0 (by rw [Nat.zero_testBit]; decide))
end
end
section
/-! the owed statements -/
/-- both states hold the same relations and atoms, as naturals; the component's backward is the transpose of its onward; scratch is free -/
def i_Rel (_ : Nat) (u : SX) (v : SY) : Prop := ∃ (m : Nat) (on bk rl fs sn th ls : Nat → Nat) (se : Nat → Int32), jn_G m on bk rl fs sn ∧ (∀ j, th j < 8) ∧ u = jn_X m on bk rl fs sn th ls ∧ v = jn_Y m on rl fs sn se
theorem jn_R {k m : Nat} {on bk rl fs sn th ls : Nat → Nat} {se : Nat → Int32} (g : jn_G m on bk rl fs sn) (ht : ∀ j, th j < 8) : i_Rel k (jn_X m on bk rl fs sn th ls) (jn_Y m on rl fs sn se) := ⟨m, on, bk, rl, fs, sn, th, ls, se, g, ht, rfl, rfl⟩
theorem i_up {k : Nat} {u : SX} {v : SY} (h : i_Rel k u v) : i_Rel (k + 5) u v := h
theorem jn_G0 : jn_G 0 (fun _ => 0) (fun _ => 0) (fun _ => 0) (fun _ => 0) (fun _ => 0) := by
  refine ⟨by decide, fun _ => (by decide : 0 < 256), fun _ => (by decide : 0 < 256), fun _ => (by decide : 0 < 3), fun _ => (by decide : 0 < 4), fun _ => (by decide : 0 < 4), fun r x y _ _ _ => ?_⟩
  show (0 : Nat).testBit x = (0 : Nat).testBit y
  rw [Nat.zero_testBit, Nat.zero_testBit]
theorem i_vc0 : wpX_init (fun u => wpY_init (fun v => i_Rel 0 u v)) :=
  jn_R (k := 0) (m := 0) (on := fun _ => 0) (bk := fun _ => 0) (rl := fun _ => 0) (fs := fun _ => 0) (sn := fun _ => 0) (th := fun _ => 0) (ls := fun _ => 0) (se := fun _ => 0) jn_G0 (fun _ => by omega)
theorem jn_hoB (p : Int32) : (decide (¬ p = 0)) = false ↔ p = 0 := by
  by_cases h : p = 0
  · rw [decide_eq_false (fun z => z h)]; exact ⟨fun _ => h, fun _ => rfl⟩
  · rw [decide_eq_true h]; exact ⟨fun z => (nomatch z), fun z => absurd z h⟩
theorem jn_ho0 : false = false ↔ (0 : Int32) = 0 := ⟨fun _ => rfl, fun _ => rfl⟩
theorem jn_ho1 : true = false ↔ (1 : Int32) = 0 := ⟨fun z => (nomatch z), fun z => absurd z (by decide)⟩
theorem i_vc_pair {k : Nat} {u : SX} {v : SY} (I : i_Rel k u v) (hk : k + 5 ≤ 2560) (v1 : Int32) (v2 : Int32) (v3 : Int32) (v4 : Int32) : wpX_pair (fun r u' => wpY_pair (fun r' v' => r' = r ∧ i_Rel (k + 5) u' v') v v1 v2 v3 (lw_bz v4)) u v1 v2 v3 (lw_bz v4) := by
  obtain ⟨m, on, bk, rl, fs, sn, th, ls, se, g, ht, rfl, rfl⟩ := I
  generalize lw_bz v4 = p
  unfold wpX_pair
  dsimp only
  rcases jn_rel v1 with ⟨a1, b1⟩ | ⟨r, hr, rfl, a1, b1⟩
  · refine a1 _ (br_t rfl ?_)
    unfold wpY_pair
    dsimp only
    exact b1 _ _ (br_t rfl ⟨rfl, jn_R g ht⟩)
  refine a1 _ (br_f (by decide) ?_)
  rcases jn_thg v2 with ⟨a2, b2⟩ | ⟨x, hx, rfl, a2, b2⟩
  · refine a2 _ (br_t rfl ?_)
    unfold wpY_pair
    dsimp only
    exact b1 _ _ (br_f (by decide) (b2 _ _ (br_t rfl ⟨rfl, jn_R g ht⟩)))
  refine a2 _ (br_f (by decide) ?_)
  rcases jn_thg v3 with ⟨a3, b3⟩ | ⟨y, hy, rfl, a3, b3⟩
  · refine a3 _ (br_t rfl ?_)
    unfold wpY_pair
    dsimp only
    exact b1 _ _ (br_f (by decide) (b2 _ _ (br_f (by decide) (b3 _ _ (br_t rfl ⟨rfl, jn_R g ht⟩)))))
  refine a3 _ (br_f (by decide) ?_)
  exact jn_put _ (jn_hoB p) g hr hx hy (jn_ypair _ (jn_hoB p) g.2.1 hr hx hy b1 b2 b3 ⟨rfl, jn_R (jn_gput g hr hx hy _) ht⟩)
theorem i_vc_size {k : Nat} {u : SX} {v : SY} (I : i_Rel k u v) (hk : k + 5 ≤ 2560) (v1 : Int32) : wpX_size (fun r => wpY_size (fun r' => r' = r ∧ i_Rel (k + 5) u v) v v1) u v1 := by
  have I2 := i_up I
  generalize k + 5 = k2 at I2 ⊢
  obtain ⟨m, on, bk, rl, fs, sn, th, ls, se, g, ht, rfl, rfl⟩ := I
  unfold wpX_size
  dsimp only
  rcases jn_rel v1 with ⟨a1, b1⟩ | ⟨r, hr, rfl, a1, b1⟩
  · refine a1 _ (br_t rfl (Exists.intro 1 ?_))
    rw [wY_size_4]
    exact br_f (by decide) (b1 _ _ (br_t rfl (b1 _ _ (br_t rfl ⟨rfl, I2⟩))))
  · refine a1 _ (br_f (by decide) (Exists.intro 9 (jn_xsize13 hr g.2.1 ?_ 9 0 (by omega) (by omega))))
    exact Exists.intro 65 (jn_ysize4 hr b1 g.2.1 ⟨rfl, I2⟩ 65 0 (by omega) (by omega))
theorem i_vc_atom {k : Nat} {u : SX} {v : SY} (I : i_Rel k u v) (hk : k + 5 ≤ 2560) (v1 : Int32) (v2 : Int32) (v3 : Int32) : wpX_atom (fun r u' => wpY_atom (fun r' v' => r' = r ∧ i_Rel (k + 5) u' v') v v1 v2 v3) u v1 v2 v3 := by
  obtain ⟨m, on, bk, rl, fs, sn, th, ls, se, g, ht, rfl, rfl⟩ := I
  have gm := g.1
  unfold wpX_atom
  dsimp only
  rcases jn_rel v1 with ⟨a1, b1⟩ | ⟨r, hr, rfl, a1, b1⟩
  · refine a1 _ (br_t rfl ?_)
    unfold wpY_atom
    dsimp only
    exact b1 _ _ (br_t rfl ⟨rfl, jn_R g ht⟩)
  refine a1 _ (br_f (by decide) ?_)
  rcases jn_var v2 with ⟨a2, b2⟩ | ⟨x, hx, rfl, a2, b2⟩
  · refine a2 _ (br_t rfl ?_)
    unfold wpY_atom
    dsimp only
    exact b1 _ _ (br_f (by decide) (b2 _ _ (br_t rfl ⟨rfl, jn_R g ht⟩)))
  refine a2 _ (br_f (by decide) ?_)
  rcases jn_var v3 with ⟨a3, b3⟩ | ⟨y, hy, rfl, a3, b3⟩
  · refine a3 _ (br_t rfl ?_)
    unfold wpY_atom
    dsimp only
    exact b1 _ _ (br_f (by decide) (b2 _ _ (br_f (by decide) (b3 _ _ (br_t rfl ⟨rfl, jn_R g ht⟩)))))
  refine a3 _ (br_f (by decide) (pk_lt m 5 (fun h => ?_) (fun h => ?_)))
  · have hi : vp_in (nI m) 5 := vp_in_nI h (by omega)
    have h5 : nI m < 5 := nI_lt (b := 5) h (by omega)
    have g' : jn_G (m + 1) on bk (jn_u rl m r) (jn_u fs m x) (jn_u sn m y) := ⟨by omega, g.2.1, g.2.2.1, jn_ub (P := fun j => j < 3) g.2.2.2.1 hr, jn_ub (P := fun j => j < 4) g.2.2.2.2.1 hx, jn_ub (P := fun j => j < 4) g.2.2.2.2.2.1 hy, g.2.2.2.2.2.2⟩
    refine ⟨hi, nm_r (jn_w8 (by omega) (by omega)) ⟨hi, nm_r (jn_w8 (by omega) (by omega)) ⟨hi, nm_r (jn_w8 (by omega) (by omega)) (nm_r (nI_1 m) ?_)⟩⟩⟩
    unfold wpY_atom
    dsimp only
    exact b1 _ _ (br_f (by decide) (b2 _ _ (br_f (by decide) (b3 _ _ (br_f (by decide) (br_t h5 ⟨hi, nm_r (jn_wI (by omega) rfl) ⟨hi, nm_r (jn_wI (by omega) rfl) ⟨hi, nm_r (jn_wI (by omega) rfl) (nm_r (nI_1 m) ⟨rfl, jn_R g' ht⟩)⟩⟩⟩))))))
  · have h5 : ¬ nI m < 5 := nI_nlt (b := 5) h (by omega)
    unfold wpY_atom
    dsimp only
    exact b1 _ _ (br_f (by decide) (b2 _ _ (br_f (by decide) (b3 _ _ (br_f (by decide) (br_f h5 ⟨rfl, jn_R g ht⟩))))))
theorem i_vc_drop {k : Nat} {u : SX} {v : SY} (I : i_Rel k u v) (hk : k + 5 ≤ 2560) : wpX_drop (fun r u' => wpY_drop (fun r' v' => r' = r ∧ i_Rel (k + 5) u' v') v) u := by
  obtain ⟨m, on, bk, rl, fs, sn, th, ls, se, g, ht, rfl, rfl⟩ := I
  have gm := g.1
  cases m with
  | zero => exact br_t rfl (br_t rfl ⟨rfl, jn_R g ht⟩)
  | succ m =>
    have h : ¬ nI (m + 1) = 0 := nI_ne0 (by omega) (by omega)
    have g' : jn_G m on bk rl fs sn := ⟨by omega, g.2⟩
    exact br_f h (nm_r (nI_pred m) (br_f h (nm_r (nI_pred m) ⟨rfl, jn_R g' ht⟩)))
theorem i_vc_count {k : Nat} {u : SX} {v : SY} (I : i_Rel k u v) (hk : k + 5 ≤ 2560) : wpX_count (fun r u' => wpY_count (fun r' => r' = r ∧ i_Rel (k + 5) u' v) v) u := by
  obtain ⟨m, on, bk, rl, fs, sn, th, ls, se, g, ht, rfl, rfl⟩ := I
  exact jn_xcount g ht (fun th' ls' ht' => jn_ycount g ⟨rfl, jn_R g ht'⟩)
theorem i_vc_answer {k : Nat} {u : SX} {v : SY} (I : i_Rel k u v) (hk : k + 5 ≤ 2560) (v1 : Int32) : wpX_answer (fun r u' => wpY_answer (fun r' => r' = r ∧ i_Rel (k + 5) u' v) v v1) u v1 := by
  obtain ⟨m, on, bk, rl, fs, sn, th, ls, se, g, ht, rfl, rfl⟩ := I
  by_cases h : v1 < 0
  · exact jn_xanswerN h (Exists.intro 4097 (jn_yanswerN h g ⟨rfl, jn_R g ht⟩ 4097 0 0 (by omega) (by omega) (by omega)))
  · obtain ⟨j, hj, rfl⟩ := nI_of h
    exact jn_xanswer hj g ht (fun r th' ls' ht' hK => Exists.intro 4097 (jn_yanswer4 hj g hK ⟨rfl, jn_R g ht'⟩ 4097 0 (by omega) (by omega) (fun j h2 => absurd h2 (Nat.not_lt_zero _))))
theorem i_vc_seek {k : Nat} {u : SX} {v : SY} (I : i_Rel k u v) (hk : k + 5 ≤ 2560) (v1 : Int32) : wpX_seek (fun r u' => wpY_seek (fun r' => r' = r ∧ i_Rel (k + 5) u' v) v v1) u v1 := by
  obtain ⟨m, on, bk, rl, fs, sn, th, ls, se, g, ht, rfl, rfl⟩ := I
  unfold wpX_seek
  dsimp only
  exact jn_next g ht v1 (fun r th' ls' ht' hN => Exists.intro 4097 (jn_yseek2 g hN ⟨rfl, jn_R g ht'⟩ 4097 0 (by omega) (by omega) (fun j _ h2 => absurd h2 (Nat.not_lt_zero _))))
theorem i_vc_values {k : Nat} {u : SX} {v : SY} (I : i_Rel k u v) (hk : k + 5 ≤ 2560) (v1 : Int32) : wpX_values (fun r u' => wpY_values (fun r' => r' = r ∧ i_Rel (k + 5) u' v) v v1) u v1 := by
  obtain ⟨m, on, bk, rl, fs, sn, th, ls, se, g, ht, rfl, rfl⟩ := I
  unfold wpX_values
  dsimp only
  rcases jn_var v1 with ⟨a1, b1⟩ | ⟨x, hx, rfl, a1, b1⟩
  · refine a1 _ (br_t rfl (Exists.intro 1 (br_f (by decide) (br_t (by decide) (Exists.intro 1 ?_)))))
    rw [wY_values_4]
    exact br_f (by decide) (b1 _ _ (br_t rfl ⟨rfl, jn_R g ht⟩))
  · refine a1 _ (br_f (by decide) (jn_next g ht 0 (fun r th' ls' ht' hN => ?_)))
    rw [jn_cl0] at hN
    exact Exists.intro 4097 (jn_xvalues22 hx g (fun th2 ls2 ht2 => Exists.intro 4097 (jn_yvalues4 hx b1 g ⟨rfl, jn_R g ht2⟩ 4097 0 (by omega) (by omega))) 4097 0 r 0 th' ls' ht' (by omega) (by omega) (by omega) hN)
theorem i_vc_countWith {k : Nat} {u : SX} {v : SY} (I : i_Rel k u v) (hk : k + 5 ≤ 2560) (v1 : Int32) (v2 : Int32) : wpX_countWith (fun r u' => wpY_countWith (fun r' => r' = r ∧ i_Rel (k + 5) u' v) v v1 v2) u v1 v2 := by
  obtain ⟨m, on, bk, rl, fs, sn, th, ls, se, g, ht, rfl, rfl⟩ := I
  unfold wpX_countWith
  dsimp only
  rcases jn_var v1 with ⟨a1, b1⟩ | ⟨x, hx, rfl, a1, b1⟩
  · refine a1 _ (br_t rfl (Exists.intro 1 (br_f (by decide) (br_t (by decide) (Exists.intro 1 ?_)))))
    rw [wY_countWith_5]
    exact br_f (by decide) (b1 _ _ (br_t rfl ⟨rfl, jn_R g ht⟩))
  · refine a1 _ (br_f (by decide) (jn_next g ht 0 (fun r th' ls' ht' hN => ?_)))
    rw [jn_cl0] at hN
    exact Exists.intro 4097 (jn_xcountWith23 hx g (fun th2 ls2 ht2 => Exists.intro 4097 (jn_ycountWith5 hx b1 g ⟨rfl, jn_R g ht2⟩ 4097 0 (by omega) (by omega))) 4097 0 r 0 th' ls' ht' (by omega) (by omega) (by omega) hN)
theorem i_vc_holds {k : Nat} {u : SX} {v : SY} (I : i_Rel k u v) (hk : k + 5 ≤ 2560) (v1 : Int32) : wpX_holds (fun r u' => wpY_holds (fun r' => r' = r ∧ i_Rel (k + 5) u' v) v v1) u v1 := by
  obtain ⟨m, on, bk, rl, fs, sn, th, ls, se, g, ht, rfl, rfl⟩ := I
  unfold wpX_holds
  dsimp only
  by_cases h : v1 < 0
  · exact br_t h (br_t h ⟨rfl, jn_R g ht⟩)
  · obtain ⟨j, hj, rfl⟩ := nI_of h
    refine br_f h (jn_next g ht (nI j) (fun r th' ls' ht' hN => ?_))
    rw [nI_clamp hj] at hN
    dsimp only
    by_cases c : j < 4096 ∧ jn_A m on rl fs sn j
    · have e : r = nI j := by
        rcases hN with ⟨i, hi, rfl, hA, hs, hnx⟩ | ⟨_, hno⟩
        · by_cases e : i = j
          · rw [e]
          · exact absurd c.2 (hnx j (Nat.le_refl _) (by omega))
        · exact absurd c.2 (hno j c.1 (Nat.le_refl _))
      refine br_t e (br_f h (pk_le 4096 j (fun z => absurd z (by omega)) (fun z => ?_)))
      exact jn_isAnswer g hj (fun a => br_f (by decide) ⟨rfl, jn_R g ht'⟩) (fun a => absurd c.2 a)
    · have e : ¬ r = nI j := by
        rcases hN with ⟨i, hi, rfl, hA, hs, hnx⟩ | ⟨rfl, hno⟩
        · intro z
          rw [nI_eq (by omega) hj] at z
          subst z
          exact c ⟨hi, hA⟩
        · intro z
          have z2 : (-1 : Int32) < 0 := by decide
          rw [z] at z2
          exact h z2
      refine br_f e (br_f h (pk_le 4096 j (fun z => ⟨rfl, jn_R g ht'⟩) (fun z => ?_)))
      exact jn_isAnswer g hj (fun a => absurd ⟨z, a⟩ c) (fun a => br_t rfl ⟨rfl, jn_R g ht'⟩)
theorem i_vc_pairs {k : Nat} {u : SX} {v : SY} (I : i_Rel k u v) (hk : k + 5 ≤ 2560) (v1 : Int32) (v2 : Int32) : wpX_pairs (fun r u' => wpY_pairs (fun r' v' => r' = r ∧ i_Rel (k + 5) u' v') v v1 v2) u v1 v2 := by
  obtain ⟨m, on, bk, rl, fs, sn, th, ls, se, g, ht, rfl, rfl⟩ := I
  unfold wpX_pairs
  dsimp only
  rcases jn_var v1 with ⟨a1, b1⟩ | ⟨x, hx, rfl, a1, b1⟩
  · refine a1 _ (br_t rfl (jn_xpairsN (Exists.intro 65 (jn_ypairs2 (fun se' hs => Exists.intro 1 ?_) 65 0 se (by omega) (by omega) (fun c hc => absurd hc (Nat.not_lt_zero _))))))
    rw [wY_pairs_26]
    exact br_f (by decide) (b1 _ _ (br_t rfl ⟨rfl, jn_R g ht⟩))
  refine a1 _ (br_f (by decide) ?_)
  rcases jn_var v2 with ⟨a2, b2⟩ | ⟨y, hy, rfl, a2, b2⟩
  · refine a2 _ (br_t rfl (jn_xpairsN (Exists.intro 65 (jn_ypairs2 (fun se' hs => Exists.intro 1 ?_) 65 0 se (by omega) (by omega) (fun c hc => absurd hc (Nat.not_lt_zero _))))))
    rw [wY_pairs_26]
    exact br_f (by decide) (b1 _ _ (br_f (by decide) (b2 _ _ (br_t rfl ⟨rfl, jn_R g ht⟩))))
  refine a2 _ (br_f (by decide) (jn_next g ht 0 (fun r th' ls' ht' hN => ?_)))
  rw [jn_cl0] at hN
  refine Exists.intro 4097 (jn_xpairs30 hx hy g (fun th2 ls2 ht2 => Exists.intro 65 (jn_ypairs2 (fun se' hs => Exists.intro 4097 ?_) 65 0 se (by omega) (by omega) (fun c hc => absurd hc (Nat.not_lt_zero _)))) 4097 0 r 0 th' ls' ht' (by omega) (by omega) (by omega) hN)
  have hz : jn_se (jn_fd (jn_A m on rl fs sn) (jn_fp x y) 0 0) se' := by
    intro c hc
    refine ⟨fun z => ?_, fun _ => hs c hc⟩
    have z2 : (0 : Nat).testBit c = true := z
    rw [Nat.zero_testBit] at z2
    exact absurd z2 (by decide)
  have q := jn_ypairs26 (post := fun r' v' => r' = nI (jn_cn (jn_tb (jn_fd (jn_A m on rl fs sn) (jn_fp x y) 0 4096)) 64) ∧ i_Rel (k + 5) (jn_X m on bk rl fs sn th2 ls2) v') hx hy b1 b2 g (fun se2 => ⟨rfl, jn_R g ht2⟩) 4097 0 se' (by omega) (by omega) hz
  have e : jn_cn (jn_tb (jn_fd (jn_A m on rl fs sn) (jn_fp x y) 0 0)) 64 = 0 := jn_cnZ 64
  rw [e] at q
  exact q
theorem i_vc_loss {k : Nat} {u : SX} {v : SY} (I : i_Rel k u v) (hk : k + 5 ≤ 2560) (v1 : Int32) (v2 : Int32) (v3 : Int32) : wpX_loss (fun r u' => wpY_loss (fun r' v' => r' = r ∧ i_Rel (k + 5) u' v') v v1 v2 v3) u v1 v2 v3 := by
  obtain ⟨m, on, bk, rl, fs, sn, th, ls, se, g, ht, rfl, rfl⟩ := I
  unfold wpX_loss
  dsimp only
  rcases jn_rel v1 with ⟨a1, b1⟩ | ⟨r, hr, rfl, a1, b1⟩
  · refine a1 _ (br_t rfl ?_)
    unfold wpY_loss
    dsimp only
    exact b1 _ _ (br_t rfl ⟨rfl, jn_R g ht⟩)
  refine a1 _ (br_f (by decide) ?_)
  rcases jn_thg v2 with ⟨a2, b2⟩ | ⟨x, hx, rfl, a2, b2⟩
  · refine a2 _ (br_t rfl ?_)
    unfold wpY_loss
    dsimp only
    exact b1 _ _ (br_f (by decide) (b2 _ _ (br_t rfl ⟨rfl, jn_R g ht⟩)))
  refine a2 _ (br_f (by decide) ?_)
  rcases jn_thg v3 with ⟨a3, b3⟩ | ⟨y, hy, rfl, a3, b3⟩
  · refine a3 _ (br_t rfl ?_)
    unfold wpY_loss
    dsimp only
    exact b1 _ _ (br_f (by decide) (b2 _ _ (br_f (by decide) (b3 _ _ (br_t rfl ⟨rfl, jn_R g ht⟩)))))
  refine a3 _ (br_f (by decide) ?_)
  rw [jn_ixX, jn_rd (by omega)]
  refine ⟨vp_in_nI (by omega) (by omega), jn_xin (g.2.1 _) hy (fun b => br_f (by decide) ?_) (fun b => br_t rfl ?_)⟩
  · have g1 := jn_gput g hr hx hy false
    refine jn_xcount g ht (fun th1 ls1 ht1 => jn_put false jn_ho0 g hr hx hy (jn_xcount g1 ht1 (fun th2 ls2 ht2 => jn_put true jn_ho1 g1 hr hx hy ?_)))
    dsimp only
    unfold wpY_loss
    dsimp only
    refine b1 _ _ (br_f (by decide) (b2 _ _ (br_f (by decide) (b3 _ _ (br_f (by decide) ?_)))))
    refine jn_yin g.2.1 hr hx hy (fun _ => br_f (by decide) ?_) (fun z => absurd b z)
    refine jn_ycount g (jn_ypair false jn_ho0 g.2.1 hr hx hy b1 b2 b3 (jn_ycount g1 (jn_ypair true jn_ho1 g1.2.1 hr hx hy b1 b2 b3 ?_)))
    exact ⟨rfl, jn_R (jn_gput g1 hr hx hy true) ht2⟩
  · unfold wpY_loss
    dsimp only
    refine b1 _ _ (br_f (by decide) (b2 _ _ (br_f (by decide) (b3 _ _ (br_f (by decide) ?_)))))
    exact jn_yin g.2.1 hr hx hy (fun z => absurd z b) (fun z => br_t rfl ⟨rfl, jn_R g ht⟩)
theorem i_vc_partners {k : Nat} {u : SX} {v : SY} (I : i_Rel k u v) (hk : k + 5 ≤ 2560) (v1 : Int32) (v2 : Int32) (v3 : Int32) : wpX_partners (fun r => wpY_partners (fun r' => r' = r ∧ i_Rel (k + 5) u v) v v1 v2 v3) u v1 v2 v3 := by
  have I2 := i_up I
  generalize k + 5 = k2 at I2 ⊢
  obtain ⟨m, on, bk, rl, fs, sn, th, ls, se, g, ht, rfl, rfl⟩ := I
  unfold wpX_partners
  dsimp only
  rcases jn_rel v1 with ⟨a1, b1⟩ | ⟨r, hr, rfl, a1, b1⟩
  · refine a1 _ (br_t rfl (Exists.intro 1 ?_))
    rw [wY_partners_6]
    exact br_f (by decide) (b1 _ _ (br_t rfl ⟨rfl, I2⟩))
  refine a1 _ (br_f (by decide) ?_)
  rcases jn_thg v2 with ⟨a2, b2⟩ | ⟨x, hx, rfl, a2, b2⟩
  · refine a2 _ (br_t rfl (Exists.intro 1 ?_))
    rw [wY_partners_6]
    exact br_f (by decide) (b1 _ _ (br_f (by decide) (b2 _ _ (br_t rfl ⟨rfl, I2⟩))))
  refine a2 _ (br_f (by decide) ?_)
  rw [jn_ixX, jn_rd (by omega), jn_rd (by omega)]
  have hi : vp_in (nI (8 * r + x)) 24 := vp_in_nI (by omega) (by omega)
  by_cases h0 : v3 < 0
  · have n0 : ¬ v3 = 0 := fun z => absurd h0 (by rw [z]; decide)
    have n1 : ¬ v3 = 1 := fun z => absurd h0 (by rw [z]; decide)
    exact br_t h0 (Exists.intro 9 (jn_yp6 (q := 0) hr hx (by omega) b1 b2 g.2.1 (Or.inr (Or.inr ⟨n0, n1, rfl⟩)) ⟨rfl, I2⟩ 9 0 (by omega) (by omega)))
  · refine br_f h0 ?_
    by_cases h1 : v3 ≤ 1
    · refine br_t h1 (br_c (fun e => ⟨hi, ?_⟩) (fun e => ⟨hi, ?_⟩))
      · have k := jn_yp6 (m := m) (rl := rl) (fs := fs) (sn := sn) (se := se) (post := fun r' => r' = nI (on (8 * r + x)) ∧ i_Rel k2 (jn_X m on bk rl fs sn th ls) (jn_Y m on rl fs sn se)) hr hx (g.2.1 _) b1 b2 g.2.1 (Or.inl ⟨e, fun _ _ => rfl⟩) ⟨rfl, I2⟩ 9 0 (by omega) (by omega)
        rw [Nat.pow_zero, Nat.mod_one] at k
        exact Exists.intro 9 k
      · have e1 : v3 = 1 := by
          obtain ⟨j, hj, rfl⟩ := nI_of h0
          have a : j ≤ 1 := (nI_leI hj (by omega)).mp h1
          have b : j ≠ 0 := fun z => e (by rw [z]; rfl)
          have c : j = 1 := by omega
          rw [c]; rfl
        have k := jn_yp6 (m := m) (rl := rl) (fs := fs) (sn := sn) (se := se) (post := fun r' => r' = nI (bk (8 * r + x)) ∧ i_Rel k2 (jn_X m on bk rl fs sn th ls) (jn_Y m on rl fs sn se)) hr hx (g.2.2.1 _) b1 b2 g.2.1 (Or.inr (Or.inl ⟨e1, fun y hy => g.2.2.2.2.2.2 r y x hr hy hx⟩)) ⟨rfl, I2⟩ 9 0 (by omega) (by omega)
        rw [Nat.pow_zero, Nat.mod_one] at k
        exact Exists.intro 9 k
    · have n0 : ¬ v3 = 0 := fun z => h1 (by rw [z]; decide)
      have n1 : ¬ v3 = 1 := fun z => h1 (by rw [z]; decide)
      exact br_f h1 (Exists.intro 9 (jn_yp6 (q := 0) hr hx (by omega) b1 b2 g.2.1 (Or.inr (Or.inr ⟨n0, n1, rfl⟩)) ⟨rfl, I2⟩ 9 0 (by omega) (by omega)))
end
