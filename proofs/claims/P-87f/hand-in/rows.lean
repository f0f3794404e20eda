section
/-! rows taken from the kit's rows to paste (starting texts), by wip/P-87f/take.py -/
theorem pk_us {f : Nat → Int32} {k : Nat} {x : Int32} : upd f k x k = x := if_pos rfl
theorem pk_un {f : Nat → Int32} {k j : Nat} {x : Int32} (h : j ≠ k) : upd f k x j = f j := if_neg h
theorem pk_uLs {f : Nat → Int64} {k : Nat} {x : Int64} : vp_updL f k x k = x := if_pos rfl
theorem pk_uLn {f : Nat → Int64} {k j : Nat} {x : Int64} (h : j ≠ k) : vp_updL f k x j = f j := if_neg h
theorem pk_sub {a b : Nat} (h : b ≤ a) : nI a - nI b = nI (a - b) := by
  obtain ⟨c, rfl⟩ : ∃ c, a = c + b := ⟨a - b, by omega⟩
  rw [← nI_add, Int32.add_sub_cancel, Nat.add_sub_cancel]
theorem pk_m1 (n : Nat) : nI (n + 1) + (-1) = nI n := by
  rw [← nI_1, Int32.add_assoc, show (1 : Int32) + (-1) = 0 from rfl, Int32.add_zero]
theorem pk_mul (a b : Nat) : nI a * nI b = nI (a * b) := (Int32.ofNat_mul a b).symm
theorem pk_div {a d : Nat} (ha : a < 2 ^ 31) (h0 : 0 < d) (hd : d < 2 ^ 31) : nI a / nI d = nI (a / d) := by
  apply Int32.toInt_inj.mp
  rw [lg_idiv_nonneg (by rw [nI_toInt ha]; omega) (by rw [nI_toInt hd]; omega), nI_toInt ha, nI_toInt hd, nI_toInt (Nat.lt_of_le_of_lt (Nat.div_le_self a d) ha)]
  first | rfl | exact (Int.natCast_ediv _ _).symm
theorem pk_le {x y : Int32} {A B : Prop} (a b : Nat) (f : a ≤ b → A) (g : b < a → B) (hx : x = nI a := by rfl) (hy : y = nI b := by rfl) (ha : a < 2 ^ 31 := by omega) (hb : b < 2 ^ 31 := by omega) : (x ≤ y → A) ∧ (¬ x ≤ y → B) := by
  subst hx hy
  rw [nI_leI ha hb]
  exact ⟨f, fun z => g (by omega)⟩
theorem pk_lt {x y : Int32} {A B : Prop} (a b : Nat) (f : a < b → A) (g : b ≤ a → B) (hx : x = nI a := by rfl) (hy : y = nI b := by rfl) (ha : a < 2 ^ 31 := by omega) (hb : b < 2 ^ 31 := by omega) : (x < y → A) ∧ (¬ x < y → B) := by
  subst hx hy
  rw [nI_ltI ha hb]
  exact ⟨f, fun z => g (by omega)⟩
theorem pk_eq {x y : Int32} {A B : Prop} (a b : Nat) (f : a = b → A) (g : a ≠ b → B) (hx : x = nI a := by rfl) (hy : y = nI b := by rfl) (ha : a < 2 ^ 31 := by omega) (hb : b < 2 ^ 31 := by omega) : (x = y → A) ∧ (¬ x = y → B) := by
  subst hx hy
  rw [nI_eq ha hb]
  exact ⟨f, g⟩
theorem pk_in {x : Int32} (n N : Nat) (h : n < N) (hx : x = nI n := by rfl) (hN : N < 2 ^ 31 := by omega) : vp_in x N := by
  subst hx
  exact vp_in_nI h hN
theorem pk_cl {x : Int32} (n : Nat) (hx : x = nI n := by rfl) (h : n < 2 ^ 31 := by omega) : x.toNatClampNeg = n := by
  subst hx
  exact nI_clamp h
theorem pk_tn {n : Nat} (h : n < 2 ^ 32) : (nI n).toBitVec.toNat = n := Nat.mod_eq_of_lt h
theorem pk_shl (a s : Int32) (k : Nat) (hs : (s.toBitVec.smod 32).toNat = k) : (a <<< s).toBitVec.toNat = a.toBitVec.toNat * 2 ^ k % 2 ^ 32 := by
  show (a.toBitVec <<< (s.toBitVec.smod 32).toNat).toNat = _
  rw [hs, BitVec.toNat_shiftLeft, Nat.shiftLeft_eq]
theorem pk_shlN {n : Nat} (s : Int32) (k : Nat) (hs : (s.toBitVec.smod 32).toNat = k) (h : n * 2 ^ k < 2 ^ 32) : nI n <<< s = nI (n * 2 ^ k) := by
  apply Int32.toBitVec_inj.mp
  apply BitVec.eq_of_toNat_eq
  have hn : n < 2 ^ 32 := Nat.lt_of_le_of_lt (Nat.le_mul_of_pos_right n (Nat.two_pow_pos k)) h
  rw [pk_shl _ _ k hs, pk_tn hn, pk_tn h, Nat.mod_eq_of_lt h]
theorem pk_ushr (x s : Int32) (k : Nat) (hs : ((s.toUInt32 &&& Int32.toUInt32 31).toBitVec % 32).toNat = k) : (x.toUInt32 >>> (s.toUInt32 &&& Int32.toUInt32 31)).toInt32.toBitVec.toNat = x.toBitVec.toNat / 2 ^ k := by
  have e : (x.toUInt32 >>> (s.toUInt32 &&& Int32.toUInt32 31)).toInt32.toBitVec = x.toBitVec >>> k := by
    rw [← hs]
    exact UInt32.toBitVec_shiftRight _ _
  rw [e, BitVec.toNat_ushiftRight, Nat.shiftRight_eq_div_pow]
theorem pk_ushrN {n : Nat} (hn : n < 2 ^ 32) (s : Int32) (k : Nat) (hs : ((s.toUInt32 &&& Int32.toUInt32 31).toBitVec % 32).toNat = k) : ((nI n).toUInt32 >>> (s.toUInt32 &&& Int32.toUInt32 31)).toInt32 = nI (n / 2 ^ k) := by
  apply Int32.toBitVec_inj.mp
  apply BitVec.eq_of_toNat_eq
  rw [pk_ushr _ s k hs, pk_tn hn, pk_tn (Nat.lt_of_le_of_lt (Nat.div_le_self _ _) hn)]
theorem pk_vb (z : Int32) : vp_nar .byte z.toInt8.toInt32 = z.toInt8.toInt32 := by rw [vp_nar_byte]; simp
theorem pk_vs (z : Int32) : vp_nar .short z.toInt16.toInt32 = z.toInt16.toInt32 := by rw [vp_nar_short]; simp
theorem pk_lT {n : Nat} (h : n < 2 ^ 63) : (lN n).toInt = (n : Int) := lg_ofNat_toInt h
theorem pk_lLT {a b : Nat} (ha : a < 2 ^ 63) (hb : b < 2 ^ 63) : lN a < lN b ↔ a < b := by
  rw [Int64.lt_iff_toInt_lt, pk_lT ha, pk_lT hb]; omega
theorem pk_lLE {a b : Nat} (ha : a < 2 ^ 63) (hb : b < 2 ^ 63) : lN a ≤ lN b ↔ a ≤ b := by
  rw [Int64.le_iff_toInt_le, pk_lT ha, pk_lT hb]; omega
theorem pk_lEQ {a b : Nat} (ha : a < 2 ^ 63) (hb : b < 2 ^ 63) : lN a = lN b ↔ a = b := by
  rw [← Int64.toInt_inj, pk_lT ha, pk_lT hb]; omega
theorem sb_cl0 : (0 : Int32).toNatClampNeg = 0 := by decide
def sb_b (c : Nat) : Int32 := (nI c).toInt8.toInt32
theorem sb_byte : ∀ c, c < 256 → sb_b c &&& 255 = nI c ∧ ((nI c).toUInt32 % 65536).toInt32 = nI c ∧ nI c ≤ 255 := by decide +kernel
theorem wb_tb (n : Nat) : (lN n).toBitVec = BitVec.ofNat 64 n := rfl
theorem wb_inj {a b : Int64} (h : a.toBitVec = b.toBitVec) : a = b := Int64.toBitVec_inj.mp h
theorem wb_tn {n : Nat} (h : n < 2 ^ 64) : (lN n).toBitVec.toNat = n := by rw [wb_tb, BitVec.toNat_ofNat, Nat.mod_eq_of_lt h]
theorem wb_of (x : Int64) : ∃ n, n < 2 ^ 64 ∧ x = lN n := ⟨x.toBitVec.toNat, x.toBitVec.isLt, wb_inj (by rw [wb_tb]; simp)⟩
theorem wb_c : ∀ k, k < 64 → ((nI k).toInt64 &&& 63) = lN k := by decide +kernel
theorem wb_cu : ∀ k, k < 64 → ((nI k).toInt64.toUInt64 &&& Int64.toUInt64 63) = UInt64.ofNat k := by decide +kernel
theorem wb_sm : ∀ k, k < 64 → (BitVec.ofNat 64 k).smod 64 = BitVec.ofNat 64 k := by decide +kernel
theorem wb_shr {n k : Nat} (hn : n < 2 ^ 64) (hk : k < 64) : ((lN n).toUInt64 >>> ((nI k).toInt64.toUInt64 &&& Int64.toUInt64 63)).toInt64 = lN (n / 2 ^ k) := by
  rw [wb_cu k hk]
  apply wb_inj
  apply BitVec.eq_of_toNat_eq
  show ((lN n).toUInt64 >>> UInt64.ofNat k).toNat = (BitVec.ofNat 64 _).toNat
  have h1 : (UInt64.ofNat k).toNat = k := by
    show (BitVec.ofNat 64 k).toNat = k
    rw [BitVec.toNat_ofNat, Nat.mod_eq_of_lt (by omega)]
  have h2 : (lN n).toUInt64.toNat = n := wb_tn hn
  rw [UInt64.toNat_shiftRight, h1, h2, Nat.mod_eq_of_lt hk, Nat.shiftRight_eq_div_pow, BitVec.toNat_ofNat, Nat.mod_eq_of_lt (Nat.lt_of_le_of_lt (Nat.div_le_self _ _) hn)]
theorem wb_shl (n : Nat) {k : Nat} (hk : k < 64) : lN n <<< ((nI k).toInt64 &&& 63) = lN (n * 2 ^ k) := by
  rw [wb_c k hk]
  apply wb_inj
  rw [Int64.toBitVec_shiftLeft, wb_tb, wb_tb, wb_tb, wb_sm k hk]
  apply BitVec.eq_of_toNat_eq
  rw [BitVec.shiftLeft_eq', BitVec.toNat_shiftLeft, BitVec.toNat_ofNat, BitVec.toNat_ofNat, BitVec.toNat_ofNat, Nat.mod_eq_of_lt (show k < 2 ^ 64 by omega), Nat.shiftLeft_eq, Nat.mul_mod, Nat.mod_mod, ← Nat.mul_mod]
theorem u_tn {n : Nat} (h : n < 2 ^ 64) : (UInt64.ofNat n).toNat = n := Nat.mod_eq_of_lt h
theorem g_or {k p a b : Nat} (hp : 2 ^ k = p) (ha : a < p) (h : b * p + a < 2 ^ 64) : lN (b * p) ||| lN a = lN (b * p + a) := by
  subst hp
  have h1 : b * 2 ^ k ||| a = b * 2 ^ k + a := by rw [← Nat.shiftLeft_eq, Nat.shiftLeft_add_eq_or_of_lt ha]
  have h3 : UInt64.ofNat (b * 2 ^ k) ||| UInt64.ofNat a = UInt64.ofNat (b * 2 ^ k + a) := UInt64.toNat_inj.mp (by rw [UInt64.toNat_or, u_tn (by omega), u_tn (by omega), u_tn h, h1])
  have h2 := congrArg UInt64.toInt64 h3
  exact h2
theorem lN_bv (n : Nat) : (lN n).toBitVec = BitVec.ofNat 64 n := rfl
theorem lN_nat {n : Nat} (h : n < 2 ^ 64) : (lN n).toBitVec.toNat = n := by rw [lN_bv, BitVec.toNat_ofNat]; exact Nat.mod_eq_of_lt h
theorem lN_ti {m : Nat} (h : m < 2 ^ 64) : (lN m).toInt = if m < 2 ^ 63 then (m : Int) else (m : Int) - 2 ^ 64 := by
  have c := BitVec.toInt_eq_toNat_cond (lN m).toBitVec
  rw [lN_nat h] at c
  show (lN m).toBitVec.toInt = _
  rw [c]
  split <;> split <;> omega
end
section
/-! ===== the octets as naturals below 256: X keeps them as bytes, Y as shorts; digits of a long ===== -/
def aw_u (o : Nat → Nat) (p b : Nat) : Nat → Nat := fun j => if j = p then b else o j
def aw_X (o : Nat → Nat) : Nat → Int32 := fun j => sb_b (o j)
def aw_Y (o : Nat → Nat) : Nat → Int32 := fun j => nI (o j)
theorem aw_uX (o : Nat → Nat) (p b : Nat) : upd (aw_X o) p (sb_b b) = aw_X (aw_u o p b) := by
  funext j
  show (if j = p then sb_b b else sb_b (o j)) = sb_b (if j = p then b else o j)
  by_cases h : j = p
  · rw [if_pos h, if_pos h]
  · rw [if_neg h, if_neg h]
theorem aw_uY (o : Nat → Nat) (p b : Nat) : upd (aw_Y o) p (nI b) = aw_Y (aw_u o p b) := by
  funext j
  show (if j = p then nI b else nI (o j)) = nI (if j = p then b else o j)
  by_cases h : j = p
  · rw [if_pos h, if_pos h]
  · rw [if_neg h, if_neg h]
/-- digit i (base 256) of z, from below -/
def aw_d (z : Int) (i : Nat) : Nat := (z / 256 ^ i % 256).toNat
theorem aw_d_lt (z : Int) (i : Nat) : aw_d z i < 256 := by
  unfold aw_d
  generalize z / 256 ^ i = y
  omega
/-- w digits of z written at p, the highest first -/
def aw_em (o : Nat → Nat) (p : Nat) (z : Int) (w : Nat) : Nat → Nat := fun j => if p ≤ j ∧ j < p + w then aw_d z (p + w - 1 - j) else o j
theorem aw_em_lt {o : Nat → Nat} (h : ∀ j, o j < 256) (p : Nat) (z : Int) (w : Nat) : ∀ j, aw_em o p z w j < 256 := by
  intro j
  unfold aw_em
  by_cases c : p ≤ j ∧ j < p + w
  · rw [if_pos c]; exact aw_d_lt _ _
  · rw [if_neg c]; exact h j
/-- as X writes them: from the front -/
def aw_xw (z : Int) : Nat → Nat → (Nat → Nat) → (Nat → Nat)
  | 0, _, o => o
  | k + 1, p, o => aw_xw z k (p + 1) (aw_u o p (aw_d z k))
/-- as Y writes them: from the back -/
def aw_yw (p : Nat) : Nat → Int → (Nat → Nat) → (Nat → Nat)
  | 0, _, o => o
  | k + 1, z, o => aw_yw p k (z / 256) (aw_u o (p + k) (z % 256).toNat)
theorem aw_xw_em (z : Int) : ∀ (w p : Nat) (o : Nat → Nat), aw_xw z w p o = aw_em o p z w := by
  intro w
  induction w with
  | zero =>
    intro p o
    funext j
    show o j = if p ≤ j ∧ j < p + 0 then aw_d z (p + 0 - 1 - j) else o j
    rw [if_neg (by omega)]
  | succ w ih =>
    intro p o
    show aw_xw z w (p + 1) (aw_u o p (aw_d z w)) = _
    rw [ih]
    funext j
    show (if p + 1 ≤ j ∧ j < p + 1 + w then aw_d z (p + 1 + w - 1 - j) else (if j = p then aw_d z w else o j)) = (if p ≤ j ∧ j < p + (w + 1) then aw_d z (p + (w + 1) - 1 - j) else o j)
    by_cases h1 : p + 1 ≤ j ∧ j < p + 1 + w
    · rw [if_pos h1, if_pos (show p ≤ j ∧ j < p + (w + 1) by omega), show p + 1 + w - 1 - j = p + (w + 1) - 1 - j by omega]
    · rw [if_neg h1]
      by_cases h2 : j = p
      · subst h2
        rw [if_pos rfl, if_pos (show j ≤ j ∧ j < j + (w + 1) by omega), show j + (w + 1) - 1 - j = w by omega]
      · rw [if_neg h2, if_neg (show ¬ (p ≤ j ∧ j < p + (w + 1)) by omega)]
theorem aw_d_s (z : Int) (i : Nat) : aw_d (z / 256) i = aw_d z (i + 1) := by
  unfold aw_d
  rw [Int.ediv_ediv_of_nonneg (by decide), Int.pow_succ, Int.mul_comm]
theorem aw_d_0 (z : Int) : aw_d z 0 = (z % 256).toNat := by
  unfold aw_d
  rw [Int.pow_zero, Int.ediv_one]
theorem aw_yw_em (p : Nat) : ∀ (w : Nat) (z : Int) (o : Nat → Nat), aw_yw p w z o = aw_em o p z w := by
  intro w
  induction w with
  | zero =>
    intro z o
    funext j
    show o j = if p ≤ j ∧ j < p + 0 then aw_d z (p + 0 - 1 - j) else o j
    rw [if_neg (by omega)]
  | succ w ih =>
    intro z o
    show aw_yw p w (z / 256) (aw_u o (p + w) (z % 256).toNat) = _
    rw [ih, ← aw_d_0]
    funext j
    show (if p ≤ j ∧ j < p + w then aw_d (z / 256) (p + w - 1 - j) else (if j = p + w then aw_d z 0 else o j)) = (if p ≤ j ∧ j < p + (w + 1) then aw_d z (p + (w + 1) - 1 - j) else o j)
    by_cases h1 : p ≤ j ∧ j < p + w
    · rw [if_pos h1, if_pos (show p ≤ j ∧ j < p + (w + 1) by omega), aw_d_s, show p + w - 1 - j + 1 = p + (w + 1) - 1 - j by omega]
    · rw [if_neg h1]
      by_cases h2 : j = p + w
      · subst h2
        rw [if_pos rfl, if_pos (show p ≤ p + w ∧ p + w < p + (w + 1) by omega), show p + (w + 1) - 1 - (p + w) = 0 by omega]
      · rw [if_neg h2, if_neg (show ¬ (p ≤ j ∧ j < p + (w + 1)) by omega)]
/-- a long's digits are those of its unsigned number -/
theorem aw_dN {n : Nat} (hn : n < 2 ^ 64) {k : Nat} (hk : k < 8) : aw_d (lN n).toInt k = n / 2 ^ (8 * k) % 256 := by
  unfold aw_d
  rw [lN_ti hn]
  have e : k = 0 ∨ k = 1 ∨ k = 2 ∨ k = 3 ∨ k = 4 ∨ k = 5 ∨ k = 6 ∨ k = 7 := by omega
  rcases e with rfl | rfl | rfl | rfl | rfl | rfl | rfl | rfl <;> (split <;> omega)
theorem aw_sbm (n : Nat) : sb_b n = sb_b (n % 256) := by
  unfold sb_b
  apply congrArg Int8.toInt32
  apply Int8.toBitVec_inj.mp
  apply BitVec.eq_of_toNat_eq
  show ((BitVec.ofNat 32 n).signExtend 8).toNat = ((BitVec.ofNat 32 (n % 256)).signExtend 8).toNat
  rw [BitVec.signExtend_eq_setWidth_of_le _ (by decide), BitVec.signExtend_eq_setWidth_of_le _ (by decide), BitVec.toNat_setWidth, BitVec.toNat_setWidth, BitVec.toNat_ofNat, BitVec.toNat_ofNat]
  omega
/-- X's octet k of a long -/
theorem aw_xb (v : Int64) {k : Nat} (hk : k < 8) : vp_nar .byte ((((v.toUInt64 >>> ((8 * nI k).toInt64.toUInt64 &&& Int64.toUInt64 63)).toInt64).toInt32).toInt8.toInt32) = sb_b (aw_d v.toInt k) := by
  obtain ⟨n, hn, rfl⟩ := wb_of v
  have e8 : 8 * nI k = nI (8 * k) := pk_mul 8 k
  rw [e8, wb_shr hn (by omega), lN_i, pk_vb, aw_dN hn hk]
  exact aw_sbm _
/-! ===== Y's digit: remainder, floor ===== -/
theorem aw_256 : (256 : Int64).toInt = 256 := by decide
theorem aw_l0 : (0 : Int64).toInt = 0 := by decide
theorem aw_rem (x : Int64) : (x - x / 256 * 256).toInt = x.toInt.tmod 256 := by
  have h := Jvm.Kit.i64_rem x 256
  rw [aw_256] at h
  exact h
theorem aw_r0 {x : Int64} (h : 0 ≤ x - x / 256 * 256) : (x - x / 256 * 256).toInt = x.toInt % 256 := by
  rw [Int64.le_iff_toInt_le, aw_rem, aw_l0] at h
  rw [aw_rem]
  rw [Int.tmod_eq_emod] at h ⊢
  by_cases c : 0 ≤ x.toInt ∨ (256 : Int) ∣ x.toInt
  · rw [if_pos c]; omega
  · rw [if_neg c] at h
    have e : ((256 : Int).natAbs : Int) = 256 := by decide
    rw [e] at h
    omega
theorem aw_r1 {x : Int64} (h : ¬ 0 ≤ x - x / 256 * 256) : (x - x / 256 * 256 + 256).toInt = x.toInt % 256 := by
  rw [Int64.le_iff_toInt_le, aw_rem, aw_l0, Int.tmod_eq_emod] at h
  have e : ((256 : Int).natAbs : Int) = 256 := by decide
  have t : (x - x / 256 * 256).toInt = x.toInt % 256 - 256 := by
    rw [aw_rem, Int.tmod_eq_emod]
    by_cases c : 0 ≤ x.toInt ∨ (256 : Int) ∣ x.toInt
    · rw [if_pos c] at h; omega
    · rw [if_neg c, e]
  rw [Jvm.Kit.i64_add (by rw [t, aw_256]; omega) (by rw [t, aw_256]; omega), t, aw_256]
  omega
theorem aw_s16' : ∀ c, c < 256 → (nI c).toInt16.toInt32 = nI c := by decide +kernel
theorem aw_ofI {x : Int64} {c : Nat} (hc : c < 2 ^ 63) (h : x.toInt = (c : Int)) : x = lN c := by
  apply Int64.toInt_inj.mp
  rw [h, pk_lT hc]
theorem aw_s16 {x : Int64} {z : Int} (h : x.toInt = z % 256) : x.toInt32.toInt16.toInt32 = nI (z % 256).toNat := by
  have e : x = lN (z % 256).toNat := aw_ofI (by omega) (by rw [h]; omega)
  rw [e, lN_i]
  exact aw_s16' _ (by omega)
theorem aw_q (x : Int64) : ((x - (nI (x.toInt % 256).toNat).toInt64) / 256).toInt = x.toInt / 256 := by
  have b1 := x.le_toInt
  have b2 := x.toInt_lt
  have e : (nI (x.toInt % 256).toNat).toInt64.toInt = x.toInt % 256 := by
    rw [nI_l (by omega), lN_toInt (by omega)]; omega
  have s : (x - (nI (x.toInt % 256).toNat).toInt64).toInt = x.toInt - x.toInt % 256 := by
    rw [Jvm.Kit.i64_sub (by rw [e]; omega) (by rw [e]; omega), e]
  rw [Int64.toInt_div_of_ne_right _ _ (by decide), s, aw_256, Int.tdiv_eq_ediv_of_dvd (by omega)]
  omega
end
section
/-! ===== widths of types: X by comparisons, Y by its two tables ===== -/
def aw_wd (ty : Int32) : Nat := if ty = 90 then 1 else if ty = 66 then 1 else if ty = 67 then 2 else if ty = 83 then 2 else if ty = 73 then 4 else if ty = 70 then 4 else if ty = 74 then 8 else if ty = 68 then 8 else 0
theorem aw_wdc (ty : Int32) : (ty = 90 ∧ aw_wd ty = 1) ∨ (ty = 66 ∧ aw_wd ty = 1) ∨ (ty = 67 ∧ aw_wd ty = 2) ∨ (ty = 83 ∧ aw_wd ty = 2) ∨ (ty = 73 ∧ aw_wd ty = 4) ∨ (ty = 70 ∧ aw_wd ty = 4) ∨ (ty = 74 ∧ aw_wd ty = 8) ∨ (ty = 68 ∧ aw_wd ty = 8) ∨ aw_wd ty = 0 := by
  by_cases h1 : ty = 90
  · subst h1; exact Or.inl ⟨rfl, by decide⟩
  by_cases h2 : ty = 66
  · subst h2; exact Or.inr (Or.inl ⟨rfl, by decide⟩)
  by_cases h3 : ty = 67
  · subst h3; exact Or.inr (Or.inr (Or.inl ⟨rfl, by decide⟩))
  by_cases h4 : ty = 83
  · subst h4; exact Or.inr (Or.inr (Or.inr (Or.inl ⟨rfl, by decide⟩)))
  by_cases h5 : ty = 73
  · subst h5; exact Or.inr (Or.inr (Or.inr (Or.inr (Or.inl ⟨rfl, by decide⟩))))
  by_cases h6 : ty = 70
  · subst h6; exact Or.inr (Or.inr (Or.inr (Or.inr (Or.inr (Or.inl ⟨rfl, by decide⟩)))))
  by_cases h7 : ty = 74
  · subst h7; exact Or.inr (Or.inr (Or.inr (Or.inr (Or.inr (Or.inr (Or.inl ⟨rfl, by decide⟩))))))
  by_cases h8 : ty = 68
  · subst h8; exact Or.inr (Or.inr (Or.inr (Or.inr (Or.inr (Or.inr (Or.inr (Or.inl ⟨rfl, by decide⟩)))))))
  refine Or.inr (Or.inr (Or.inr (Or.inr (Or.inr (Or.inr (Or.inr (Or.inr ?_)))))))
  unfold aw_wd
  rw [if_neg h1, if_neg h2, if_neg h3, if_neg h4, if_neg h5, if_neg h6, if_neg h7, if_neg h8]
theorem aw_wd8 (ty : Int32) : aw_wd ty ≤ 8 := by
  rcases aw_wdc ty with h | h | h | h | h | h | h | h | h <;> omega
theorem aw_wd90 {ty : Int32} (h : ty = 90) : aw_wd ty = 1 := by subst h; decide
theorem aw_Xw {post : Int32 → Prop} {f_cap f_limit f_cur f_count f_hasAdmission f_admitted : Int32} {a_octets : Nat → Int32} {a_cellArr : Nat → Int64} {ty : Int32} (h : post (nI (aw_wd ty))) : wpX_widthOf post (f_cap, f_limit, f_cur, f_count, f_hasAdmission, f_admitted, a_octets, a_cellArr) ty := by
  unfold wpX_widthOf
  dsimp only
  unfold aw_wd at h
  by_cases h1 : ty = 90
  · rw [if_pos h1] at h; exact br_t h1 h
  rw [if_neg h1] at h
  refine br_f h1 ?_
  by_cases h2 : ty = 66
  · rw [if_pos h2] at h; exact br_t h2 h
  rw [if_neg h2] at h
  refine br_f h2 ?_
  by_cases h3 : ty = 67
  · rw [if_pos h3] at h; exact br_t h3 h
  rw [if_neg h3] at h
  refine br_f h3 ?_
  by_cases h4 : ty = 83
  · rw [if_pos h4] at h; exact br_t h4 h
  rw [if_neg h4] at h
  refine br_f h4 ?_
  by_cases h5 : ty = 73
  · rw [if_pos h5] at h; exact br_t h5 h
  rw [if_neg h5] at h
  refine br_f h5 ?_
  by_cases h6 : ty = 70
  · rw [if_pos h6] at h; exact br_t h6 h
  rw [if_neg h6] at h
  refine br_f h6 ?_
  by_cases h7 : ty = 74
  · rw [if_pos h7] at h; exact br_t h7 h
  rw [if_neg h7] at h
  refine br_f h7 ?_
  by_cases h8 : ty = 68
  · rw [if_pos h8] at h; exact br_t h8 h
  rw [if_neg h8] at h
  exact br_f h8 h
/-- Y's tables -/
def aw_tab (cd wd : Nat → Int32) : Prop := (cd 0 = 90 ∧ cd 1 = 66 ∧ cd 2 = 67 ∧ cd 3 = 83 ∧ cd 4 = 73 ∧ cd 5 = 74 ∧ cd 6 = 70 ∧ cd 7 = 68) ∧ (wd 0 = 1 ∧ wd 1 = 1 ∧ wd 2 = 2 ∧ wd 3 = 2 ∧ wd 4 = 4 ∧ wd 5 = 8 ∧ wd 6 = 4 ∧ wd 7 = 8)
theorem aw_Yw1 {post : Int32 → Prop} {ty : Int32} {f_cap f_cur f_lim f_count f_granted : Int32} {a_oct : Nat → Int32} {a_cell : Nat → Int64} {cd wd : Nat → Int32} {m k : Nat} (hk : k < 8) {C D : Int32} (hC : cd k = C) (hD : wd k = D) (h1 : ty = C → post D) (h2 : ¬ ty = C → wY_width_2 post ty f_cap f_cur f_lim f_count f_granted a_oct a_cell cd wd m (nI (k + 1))) : wY_width_2 post ty f_cap f_cur f_lim f_count f_granted a_oct a_cell cd wd (m + 1) (nI k) := by
  have hi : vp_in (nI k) 8 := vp_in_nI hk (by decide)
  refine br_f (nI_ge (b := 8) hk (by decide)) ⟨hi, ?_⟩
  rw [nI_clamp (by omega), hC, hD]
  exact br_c (fun e => ⟨hi, h1 e.symm⟩) (fun e => nm_r (nI_1 k) (h2 (fun z => e z.symm)))
theorem aw_Yw {post : Int32 → Prop} {f_cap f_cur f_lim f_count f_granted : Int32} {a_oct : Nat → Int32} {a_cell : Nat → Int64} {cd wd : Nat → Int32} {ty : Int32} (T : aw_tab cd wd) (h : post (nI (aw_wd ty))) : wpY_width post (f_cap, f_cur, f_lim, f_count, f_granted, a_oct, a_cell, cd, wd) ty := by
  obtain ⟨⟨c0, c1, c2, c3, c4, c5, c6, c7⟩, ⟨d0, d1, d2, d3, d4, d5, d6, d7⟩⟩ := T
  unfold wpY_width
  dsimp only
  refine ⟨9, ?_⟩
  show wY_width_2 post ty f_cap f_cur f_lim f_count f_granted a_oct a_cell cd wd (8 + 1) (nI 0)
  refine aw_Yw1 (by decide) c0 d0 (fun e => by subst e; exact h) fun e0 => ?_
  refine aw_Yw1 (by decide) c1 d1 (fun e => by subst e; exact h) fun e1 => ?_
  refine aw_Yw1 (by decide) c2 d2 (fun e => by subst e; exact h) fun e2 => ?_
  refine aw_Yw1 (by decide) c3 d3 (fun e => by subst e; exact h) fun e3 => ?_
  refine aw_Yw1 (by decide) c4 d4 (fun e => by subst e; exact h) fun e4 => ?_
  refine aw_Yw1 (by decide) c5 d5 (fun e => by subst e; exact h) fun e5 => ?_
  refine aw_Yw1 (by decide) c6 d6 (fun e => by subst e; exact h) fun e6 => ?_
  refine aw_Yw1 (by decide) c7 d7 (fun e => by subst e; exact h) fun e7 => ?_
  have e : aw_wd ty = 0 := by
    unfold aw_wd
    rw [if_neg e0, if_neg e1, if_neg e2, if_neg e3, if_neg e4, if_neg e6, if_neg e5, if_neg e7]
  rw [e] at h
  exact br_t (nI_le (a := 8) (b := 8) (by decide) (by decide)) h
end
section
/-! ===== putArray: X's and Y's loops against the same octets ===== -/
theorem aw_m1 (k : Nat) : nI k + (-1) = nI k - 1 := (Int32.sub_eq_add_neg (nI k) 1).symm
theorem aw_neg : nI 0 - 1 < 0 := by decide
section
variable {post : SY → Prop} {f_cap f_cur f_count f_granted : Int32} {ce : Nat → Int64} {cd wd : Nat → Int32}
theorem aw_Yem5 {x3 : Int32} {lim : Nat} : ∀ (k m : Nat) (o : Nat → Nat) (x : Int64), k < m → lim + k ≤ 64 → post (f_cap, f_cur, nI lim + x3, f_count, f_granted, aw_Y (aw_yw lim k x.toInt o), ce, cd, wd) → wY_emit_5 post x3 f_cap f_cur (nI lim) f_count f_granted m x (nI k - 1) (aw_Y o) ce cd wd := by
  intro k
  induction k with
  | zero =>
    intro m o x hm hl h
    obtain ⟨m, rfl⟩ : ∃ q, m = q + 1 := ⟨m - 1, by omega⟩
    exact br_t aw_neg (nm_e h)
  | succ k ih =>
    intro m o x hm hl h
    obtain ⟨m, rfl⟩ : ∃ q, m = q + 1 := ⟨m - 1, by omega⟩
    rw [nI_pred]
    have S : ∀ x5 : Int64, x5.toInt = x.toInt % 256 → wY_emit_32 post (wY_emit_5 post x3 f_cap f_cur (nI lim) f_count f_granted m) x x3 (nI k) x5 f_cap f_cur (nI lim) f_count f_granted (aw_Y o) ce cd wd := by
      intro x5 e5
      unfold wY_emit_32
      rw [pk_vs, aw_s16 e5, nI_add, nI_clamp (by omega), aw_uY]
      refine ⟨vp_in_nI (by omega) (by decide), nm_e ⟨by decide, nm_e (nm_r (aw_m1 k) (ih m _ _ (by omega) (by omega) ?_))⟩⟩
      rw [aw_q]
      exact h
    exact br_f (nI_pos (by omega)) ⟨by decide, nm_e (br_c (fun c => S _ (aw_r0 c)) (fun c => nm_e (S _ (aw_r1 c))))⟩
theorem aw_Yem {lim w : Nat} {o : Nat → Nat} {x : Int64} (hw : lim + w ≤ 64) (h : post (f_cap, f_cur, nI (lim + w), f_count, f_granted, aw_Y (aw_em o lim x.toInt w), ce, cd, wd)) : wpY_emit post (f_cap, f_cur, nI lim, f_count, f_granted, aw_Y o, ce, cd, wd) x (nI w) := by
  unfold wpY_emit
  dsimp only
  refine nm_e ⟨w + 1, aw_Yem5 w (w + 1) o x (by omega) hw ?_⟩
  rw [aw_yw_em, nI_add]
  exact h
end
section
variable {post : Int32 → SX → Prop} {f_cap f_limit f_cur f_count f_hasAdmission f_admitted : Int32} {ce : Nat → Int64}
theorem aw_X179 {J : Int32 → Int32 → (Nat → Int32) → (Nat → Int64) → Prop} {x1 x2 x3 x7 : Int32} {x4 x8 : Int64} : ∀ (k m p : Nat) (o : Nat → Nat), k < m → k ≤ 8 → p + k ≤ 64 → J (nI (p + k)) (x7 + 1) (aw_X (aw_xw x8.toInt k p o)) ce → wX_putArray_179 post J x1 x2 x3 x4 x7 x8 f_cap f_limit f_cur f_count f_hasAdmission f_admitted m (nI p) (nI k - 1) (aw_X o) ce := by
  intro k
  induction k with
  | zero =>
    intro m p o hm hk hp h
    obtain ⟨m, rfl⟩ : ∃ q, m = q + 1 := ⟨m - 1, by omega⟩
    exact br_t aw_neg (nm_e h)
  | succ k ih =>
    intro m p o hm hk hp h
    obtain ⟨m, rfl⟩ : ∃ q, m = q + 1 := ⟨m - 1, by omega⟩
    rw [nI_pred]
    refine br_f (nI_pos (by omega)) ⟨vp_in_nI (by omega) (by decide), nm_r (e' := aw_X (aw_u o p (aw_d x8.toInt k))) ?_ (nm_r (nI_1 p) (nm_r (aw_m1 k) (ih m (p + 1) _ (by omega) (by omega) (by omega) ?_)))⟩
    · rw [aw_xb x8 (by omega), nI_clamp (by omega), aw_uX]
    · rw [show p + 1 + k = p + (k + 1) by omega]
      exact h
/-- what is written of an element -/
def aw_v (ty : Int32) (x : Int64) : Int64 := if ty = 90 then (if x = 0 then 0 else 1) else x
/-- the octets behind d elements from element i, at p -/
def aw_pw (ty : Int32) (ce : Nat → Int64) (w : Nat) : Nat → Nat → Nat → (Nat → Nat) → (Nat → Nat)
  | 0, _, _, o => o
  | d + 1, i, p, o => aw_pw ty ce w d (i + 1) (p + w) (aw_em o p (aw_v ty (ce i)).toInt w)
theorem aw_pw_lt (ty : Int32) (ce : Nat → Int64) (w : Nat) : ∀ (d i p : Nat) (o : Nat → Nat), (∀ j, o j < 256) → ∀ j, aw_pw ty ce w d i p o j < 256 := by
  intro d
  induction d with
  | zero => intro i p o h; exact h
  | succ d ih => intro i p o h; exact ih _ _ _ (aw_em_lt h _ _ _)
theorem aw_X163 {J : Int32 → Int32 → (Nat → Int32) → (Nat → Int64) → Prop} {x1 x2 x3 : Int32} {x4 : Int64} {p i : Nat} {z0 : Int32} {z : Int64} {o : Nat → Nat} (hp : p < 64) (hz : vp_nar .byte z0.toInt8.toInt32 = sb_b (aw_d z.toInt 0)) (h : J (nI (p + 1)) (nI (i + 1)) (aw_X (aw_em o p z.toInt 1)) ce) : wX_putArray_163 post J x1 x2 x3 x4 (nI p) (nI i) z0 (nI p) f_cap f_limit f_cur f_count f_hasAdmission f_admitted (aw_X o) ce := by
  unfold wX_putArray_163
  rw [hz, nI_clamp (by omega), aw_uX]
  rw [← aw_xw_em] at h
  exact ⟨vp_in_nI hp (by decide), nm_e (nm_r (nI_1 p) (nm_r (nI_1 i) h))⟩
theorem aw_b0 : vp_nar .byte (0 : Int32).toInt8.toInt32 = sb_b (aw_d (0 : Int64).toInt 0) := by rw [pk_vb]; decide +kernel
theorem aw_b1 : vp_nar .byte (1 : Int32).toInt8.toInt32 = sb_b (aw_d (1 : Int64).toInt 0) := by rw [pk_vb]; decide +kernel
theorem aw_X124 {ty : Int32} {len w : Nat} {x4 : Int64} (hL : len ≤ 64) (hw : w ≤ 8) (hz : ty = 90 → w = 1) : ∀ (d m i p : Nat) (o : Nat → Nat), d < m → i + d = len → p + d * w ≤ 64 → post x4.toInt32 (f_cap, nI (p + d * w), f_cur, f_count, f_hasAdmission, f_admitted, aw_X (aw_pw ty ce w d i p o), ce) → wX_putArray_124 post ty (nI len) (nI w) x4 f_cap f_limit f_cur f_count f_hasAdmission f_admitted m (nI p) (nI i) (aw_X o) ce := by
  intro d
  induction d with
  | zero =>
    intro m i p o hm hi hp h
    obtain ⟨m, rfl⟩ : ∃ q, m = q + 1 := ⟨m - 1, by omega⟩
    rw [Nat.zero_mul] at h
    exact br_t (nI_le (by omega) (by omega)) h
  | succ d ih =>
    intro m i p o hm hi hp h
    obtain ⟨m, rfl⟩ : ∃ q, m = q + 1 := ⟨m - 1, by omega⟩
    have hs : (d + 1) * w = w + d * w := by rw [Nat.add_mul, Nat.one_mul, Nat.add_comm]
    rw [hs] at hp h
    have K := ih m (i + 1) (p + w) (aw_em o p (aw_v ty (ce i)).toInt w) (by omega) (by omega) (by omega) (by rw [Nat.add_assoc]; exact h)
    refine br_f (nI_ge (by omega) (by omega)) ⟨vp_in_nI (by omega) (by decide), nm_r (e' := ce i) (by rw [nI_clamp (by omega)]) (br_c (fun e => ?_) (fun e => nm_e ⟨w + 1, aw_X179 w (w + 1) p o (by omega) hw (by omega) ?_⟩))⟩
    · have w1 := hz e
      subst w1
      refine br_c (fun e0 => aw_X163 (z := 0) (by omega) aw_b0 ?_) (fun e0 => aw_X163 (z := 1) (by omega) aw_b1 ?_)
      · have ev : aw_v ty (ce i) = 0 := by unfold aw_v; rw [if_pos e, if_pos e0]
        rw [ev] at K
        exact K
      · have ev : aw_v ty (ce i) = 1 := by unfold aw_v; rw [if_pos e, if_neg e0]
        rw [ev] at K
        exact K
    · have ev : aw_v ty (ce i) = ce i := by unfold aw_v; rw [if_neg e]
      rw [ev] at K
      rw [aw_xw_em, nI_1]
      exact K
end
section
variable {post : Int32 → SY → Prop} {f_cap f_cur f_count f_granted : Int32} {ce : Nat → Int64} {cd wd : Nat → Int32}
theorem aw_Y62 {ty x4 : Int32} {len w : Nat} (hL : len ≤ 64) (hz : ty = 90 → w = 1) : ∀ (d m i p : Nat) (o : Nat → Nat), d < m → i + d = len → p + d * w ≤ 64 → post x4 (f_cap, f_cur, nI (p + d * w), f_count, f_granted, aw_Y (aw_pw ty ce w d i p o), ce, cd, wd) → wY_putArray_62 post ty (nI len) (nI w) x4 m (nI i) f_cap f_cur (nI p) f_count f_granted (aw_Y o) ce cd wd := by
  intro d
  induction d with
  | zero =>
    intro m i p o hm hi hp h
    obtain ⟨m, rfl⟩ : ∃ q, m = q + 1 := ⟨m - 1, by omega⟩
    rw [Nat.zero_mul] at h
    exact br_t (nI_le (by omega) (by omega)) h
  | succ d ih =>
    intro m i p o hm hi hp h
    obtain ⟨m, rfl⟩ : ∃ q, m = q + 1 := ⟨m - 1, by omega⟩
    have hs : (d + 1) * w = w + d * w := by rw [Nat.add_mul, Nat.one_mul, Nat.add_comm]
    rw [hs] at hp h
    have K := ih m (i + 1) (p + w) (aw_em o p (aw_v ty (ce i)).toInt w) (by omega) (by omega) (by omega) (by rw [Nat.add_assoc]; exact h)
    have hin : vp_in (nI i) 64 := vp_in_nI (by omega) (by decide)
    have hc : (nI i).toNatClampNeg = i := nI_clamp (by omega)
    refine br_f (nI_ge (by omega) (by omega)) (br_c (fun e => ⟨hin, ?_⟩) (fun e => ⟨hin, ?_⟩))
    · have w1 := hz e
      subst w1
      rw [hc]
      refine br_c (fun e0 => ?_) (fun e0 => ?_)
      · have ev : aw_v ty (ce i) = 0 := by unfold aw_v; rw [if_pos e, if_pos e0]
        rw [ev] at K
        unfold wY_putArray_92
        exact aw_Yem (w := 1) (by omega) (nm_r (nI_1 i) K)
      · have ev : aw_v ty (ce i) = 1 := by unfold aw_v; rw [if_pos e, if_neg e0]
        rw [ev] at K
        unfold wY_putArray_92
        exact aw_Yem (w := 1) (by omega) (nm_r (nI_1 i) K)
    · have ev : aw_v ty (ce i) = ce i := by unfold aw_v; rw [if_neg e]
      rw [ev] at K
      rw [hc]
      exact aw_Yem (by omega) (nm_r (nI_1 i) K)
end
end
section
/-! ===== reading: w octets as one number; what a type makes of it ===== -/
def aw_rd (o : Nat → Nat) : Nat → Nat → Nat → Nat
  | 0, _, n => n
  | k + 1, p, n => aw_rd o k (p + 1) (n * 256 + o p)
theorem aw_rd_lt {o : Nat → Nat} (ho : ∀ j, o j < 256) : ∀ (k p n B : Nat), n < B → aw_rd o k p n < B * 256 ^ k := by
  intro k
  induction k with
  | zero => intro p n B h; rw [Nat.pow_zero, Nat.mul_one]; exact h
  | succ k ih =>
    intro p n B h
    have e : B * 256 ^ (k + 1) = (B * 256) * 256 ^ k := by rw [Nat.pow_succ, Nat.mul_assoc, Nat.mul_comm 256]
    rw [e]
    exact ih (p + 1) (n * 256 + o p) (B * 256) (by have := ho p; omega)
theorem aw_ob : ∀ c, c < 256 → (sb_b c).toInt64 &&& 255 = lN c := by decide +kernel
theorem aw_xstep {n c : Nat} (hn : n < 2 ^ 56) (hc : c < 256) : (lN n <<< ((8 : Int32).toInt64 &&& 63)) ||| ((sb_b c).toInt64 &&& 255) = lN (n * 256 + c) := by
  have e : lN n <<< ((8 : Int32).toInt64 &&& 63) = lN (n * 256) := wb_shl n (k := 8) (by decide)
  rw [e, aw_ob c hc]
  exact g_or (k := 8) (by decide) hc (by omega)
theorem aw_ystep {n c : Nat} (hc : c < 256) : (lN n * 256) + (nI c).toInt64 = lN (n * 256 + c) := by
  rw [nI_l (by omega)]
  have e : lN n * 256 = lN (n * 256) := lN_mul n 256
  rw [e, lN_add]
theorem aw_p56 {j : Nat} (hj : j ≤ 7) : 256 ^ j ≤ 2 ^ 56 := by
  have h : 256 ^ j ≤ 256 ^ 7 := Nat.pow_le_pow_right (by decide) hj
  exact Nat.le_trans h (by decide)
/-- the cell that a type makes of the number (as X does it) -/
def aw_cv (ty : Int32) (x : Int64) : Int64 := if ty = 90 then (if x = 0 then 0 else 1) else if ty = 66 then x.toInt32.toInt8.toInt32.toInt64 else if ty = 83 then x.toInt32.toInt16.toInt32.toInt64 else if ty = 73 then x.toInt32.toInt64 else if ty = 70 then x.toInt32.toInt64 else x
theorem aw_c8 {n : Nat} (h : n < 256) : (lN n).toInt32.toInt8.toInt32.toInt64 = if n < 128 then lN n else lN n - lN 256 := by
  apply Int64.toInt_inj.mp
  have a : (lN n).toInt = n := lN_toInt (by omega)
  have b : (lN 256).toInt = 256 := lN_toInt (by decide)
  rw [Int32.toInt_toInt64, Int8.toInt_toInt32, Int32.toInt_toInt8, Int64.toInt_toInt32, a, Jvm.Kit.bmod32 (n := (n : Int)) (by omega) (by omega), Int.bmod_def]
  by_cases c : n < 128
  · rw [if_pos c, a]; omega
  · rw [if_neg c, Jvm.Kit.i64_sub (by rw [a, b]; omega) (by rw [a, b]; omega), a, b]; omega
theorem aw_c16 {n : Nat} (h : n < 65536) : (lN n).toInt32.toInt16.toInt32.toInt64 = if n < 32768 then lN n else lN n - lN 65536 := by
  apply Int64.toInt_inj.mp
  have a : (lN n).toInt = n := lN_toInt (by omega)
  have b : (lN 65536).toInt = 65536 := lN_toInt (by decide)
  rw [Int32.toInt_toInt64, Int16.toInt_toInt32, Int32.toInt_toInt16, Int64.toInt_toInt32, a, Jvm.Kit.bmod32 (n := (n : Int)) (by omega) (by omega), Int.bmod_def]
  by_cases c : n < 32768
  · rw [if_pos c, a]; omega
  · rw [if_neg c, Jvm.Kit.i64_sub (by rw [a, b]; omega) (by rw [a, b]; omega), a, b]; omega
theorem aw_c32 {n : Nat} (h : n < 4294967296) : (lN n).toInt32.toInt64 = if n < 2147483648 then lN n else lN n - lN 4294967296 := by
  apply Int64.toInt_inj.mp
  have a : (lN n).toInt = n := pk_lT (by omega)
  have b : (lN 4294967296).toInt = 4294967296 := pk_lT (by decide)
  rw [Int32.toInt_toInt64, Int64.toInt_toInt32, a, Int.bmod_def]
  by_cases c : n < 2147483648
  · rw [if_pos c, a]; omega
  · rw [if_neg c, Jvm.Kit.i64_sub (by rw [a, b]; omega) (by rw [a, b]; omega), a, b]; omega
/-- Y's half for a width -/
def aw_half (w : Nat) : Nat := 128 * 256 ^ (w - 1)
/-- what Y does for it, by the cases of its text -/
theorem aw_cv90 {ty : Int32} {x : Int64} (h : ty = 90) : aw_cv ty x = if x = 0 then 0 else 1 := by unfold aw_cv; rw [if_pos h]
theorem aw_cv67 {ty : Int32} {x : Int64} (h : ty = 67) : aw_cv ty x = x := by subst h; rfl
theorem aw_cvW {ty : Int32} {x : Int64} (n90 : ¬ ty = 90) (h : 8 ≤ aw_wd ty) : aw_cv ty x = x := by
  rcases aw_wdc ty with ⟨e, w⟩ | ⟨e, w⟩ | ⟨e, w⟩ | ⟨e, w⟩ | ⟨e, w⟩ | ⟨e, w⟩ | ⟨e, w⟩ | ⟨e, w⟩ | w
  · omega
  · omega
  · omega
  · omega
  · omega
  · omega
  · subst e; rfl
  · subst e; rfl
  · omega
theorem aw_cvS {ty : Int32} {n : Nat} (n90 : ¬ ty = 90) (n67 : ¬ ty = 67) (hw0 : aw_wd ty ≠ 0) (hw8 : aw_wd ty < 8) (hn : n < 256 ^ aw_wd ty) : aw_cv ty (lN n) = if n < aw_half (aw_wd ty) then lN n else lN n - (lN (aw_half (aw_wd ty)) + lN (aw_half (aw_wd ty))) := by
  rw [lN_add]
  rcases aw_wdc ty with ⟨e, w⟩ | ⟨e, w⟩ | ⟨e, w⟩ | ⟨e, w⟩ | ⟨e, w⟩ | ⟨e, w⟩ | ⟨e, w⟩ | ⟨e, w⟩ | w
  · exact absurd e n90
  · rw [w] at hn ⊢; subst e; exact aw_c8 hn
  · exact absurd e n67
  · rw [w] at hn ⊢; subst e; exact aw_c16 hn
  · rw [w] at hn ⊢; subst e; exact aw_c32 hn
  · rw [w] at hn ⊢; subst e; exact aw_c32 hn
  · omega
  · omega
  · exact absurd w hw0
theorem aw_halfL {ty : Int32} {n : Nat} (hw0 : aw_wd ty ≠ 0) (hw8 : aw_wd ty < 8) (hn : n < 256 ^ aw_wd ty) : lN n < lN (aw_half (aw_wd ty)) ↔ n < aw_half (aw_wd ty) := by
  rcases aw_wdc ty with ⟨e, w⟩ | ⟨e, w⟩ | ⟨e, w⟩ | ⟨e, w⟩ | ⟨e, w⟩ | ⟨e, w⟩ | ⟨e, w⟩ | ⟨e, w⟩ | w
  · rw [w] at hn ⊢; exact pk_lLT (by omega) (by decide)
  · rw [w] at hn ⊢; exact pk_lLT (by omega) (by decide)
  · rw [w] at hn ⊢; exact pk_lLT (by omega) (by decide)
  · rw [w] at hn ⊢; exact pk_lLT (by omega) (by decide)
  · rw [w] at hn ⊢; exact pk_lLT (by omega) (by decide)
  · rw [w] at hn ⊢; exact pk_lLT (by omega) (by decide)
  · omega
  · omega
  · exact absurd w hw0
/-- the cells behind d elements from element i, read at p -/
def aw_rq (ty : Int32) (w : Nat) (o : Nat → Nat) : Nat → Nat → Nat → (Nat → Int64) → (Nat → Int64)
  | 0, _, _, c => c
  | d + 1, i, p, c => aw_rq ty w o d (i + 1) (p + w) (vp_updL c i (aw_cv ty (lN (aw_rd o w p 0))))
theorem aw_uu (c : Nat → Int64) (i : Nat) (a b : Int64) : vp_updL (vp_updL c i a) i b = vp_updL c i b := by
  funext j
  show (if j = i then b else (if j = i then a else c j)) = if j = i then b else c j
  by_cases h : j = i
  · rw [if_pos h, if_pos h]
  · rw [if_neg h, if_neg h, if_neg h]
section
variable {post : Int64 → SY → Prop} {f_cap f_lim f_count f_granted : Int32} {ce : Nat → Int64} {cd wd : Nat → Int32}
theorem aw_Ytk5 {o : Nat → Nat} (ho : ∀ j, o j < 256) {w : Nat} (hw : w ≤ 8) : ∀ (k m n j p : Nat), k < m → j + k = w → p + k ≤ 64 → post (lN (aw_rd o k p n)) (f_cap, nI (p + k), f_lim, f_count, f_granted, aw_Y o, ce, cd, wd) → wY_take_5 post (nI w) f_cap f_lim f_count f_granted (aw_Y o) ce cd wd m (lN n) (nI j) (nI p) := by
  intro k
  induction k with
  | zero =>
    intro m n j p hm hj hp h
    obtain ⟨m, rfl⟩ : ∃ q, m = q + 1 := ⟨m - 1, by omega⟩
    exact br_t (nI_le (by omega) (by omega)) h
  | succ k ih =>
    intro m n j p hm hj hp h
    obtain ⟨m, rfl⟩ : ∃ q, m = q + 1 := ⟨m - 1, by omega⟩
    refine br_f (nI_ge (by omega) (by omega)) (nm_r (nI_1 p) ⟨vp_in_nI (by omega) (by decide), nm_r (e' := lN (n * 256 + o p)) ?_ (nm_r (nI_1 j) (ih m _ (j + 1) (p + 1) (by omega) (by omega) (by omega) ?_))⟩)
    · rw [nI_clamp (by omega)]
      exact aw_ystep (ho p)
    · rw [show p + 1 + k = p + (k + 1) by omega]
      exact h
theorem aw_Ytk {o : Nat → Nat} (ho : ∀ j, o j < 256) {w p : Nat} (hw : w ≤ 8) (hp : p + w ≤ 64) (h : post (lN (aw_rd o w p 0)) (f_cap, nI (p + w), f_lim, f_count, f_granted, aw_Y o, ce, cd, wd)) : wpY_take post (f_cap, nI p, f_lim, f_count, f_granted, aw_Y o, ce, cd, wd) (nI w) := by
  unfold wpY_take
  dsimp only
  exact ⟨w + 1, aw_Ytk5 ho hw w (w + 1) 0 0 p (by omega) (by omega) hp h⟩
end
section
variable {post : Int32 → SX → Prop} {f_cap f_limit f_cur f_count f_hasAdmission f_admitted : Int32} {c : Nat → Int64}
theorem aw_X123 {J : Int32 → Int32 → (Nat → Int32) → (Nat → Int64) → Prop} {ty x2 : Int32} {o : Nat → Nat} (ho : ∀ j, o j < 256) {w i : Nat} (hw : w ≤ 8) (hi : i < 64) : ∀ (k m n j p : Nat), k < m → j + k = w → p + k ≤ 64 → n < 256 ^ j → J (nI (p + k)) (nI (i + 1)) (aw_X o) (vp_updL c i (aw_cv ty (lN (aw_rd o k p n)))) → wX_readElems_123 post J ty x2 (nI w) (nI i) f_cap f_limit f_cur f_count f_hasAdmission f_admitted (aw_X o) c m (nI p) (lN n) (nI j) := by
  have hin : vp_in (nI i) 64 := vp_in_nI hi (by decide)
  have hc : (nI i).toNatClampNeg = i := nI_clamp (by omega)
  intro k
  induction k with
  | zero =>
    intro m n j p hm hj hp hn h
    obtain ⟨m, rfl⟩ : ∃ q, m = q + 1 := ⟨m - 1, by omega⟩
    refine br_t (nI_le (by omega) (by omega)) ?_
    rw [hc]
    unfold aw_cv at h
    by_cases h1 : ty = 90
    · rw [if_pos h1] at h
      refine br_t h1 (br_c (fun e => ?_) (fun e => ?_))
      · unfold wX_readElems_180
        rw [hc]
        have e' : lN (aw_rd o 0 p n) = 0 := e
        rw [if_pos e'] at h
        exact ⟨hin, nm_e (nm_r (nI_1 i) h)⟩
      · unfold wX_readElems_180
        rw [hc]
        have e' : ¬ lN (aw_rd o 0 p n) = 0 := e
        rw [if_neg e'] at h
        exact ⟨hin, nm_e (nm_r (nI_1 i) h)⟩
    rw [if_neg h1] at h
    refine br_f h1 ?_
    by_cases h2 : ty = 66
    · rw [if_pos h2] at h
      exact br_t h2 ⟨hin, nm_e (nm_r (nI_1 i) h)⟩
    rw [if_neg h2] at h
    refine br_f h2 ?_
    by_cases h3 : ty = 83
    · rw [if_pos h3] at h
      exact br_t h3 ⟨hin, nm_e (nm_r (nI_1 i) h)⟩
    rw [if_neg h3] at h
    refine br_f h3 ?_
    by_cases h4 : ty = 73
    · rw [if_pos h4] at h
      refine br_t h4 ?_
      unfold wX_readElems_229
      rw [hc]
      exact ⟨hin, nm_e (nm_r (nI_1 i) h)⟩
    rw [if_neg h4] at h
    refine br_f h4 ?_
    by_cases h5 : ty = 70
    · rw [if_pos h5] at h
      refine br_t h5 ?_
      unfold wX_readElems_229
      rw [hc]
      exact ⟨hin, nm_e (nm_r (nI_1 i) h)⟩
    rw [if_neg h5] at h
    exact br_f h5 ⟨hin, nm_e (nm_r (nI_1 i) h)⟩
  | succ k ih =>
    intro m n j p hm hj hp hn h
    obtain ⟨m, rfl⟩ : ∃ q, m = q + 1 := ⟨m - 1, by omega⟩
    have hn' : n < 2 ^ 56 := Nat.lt_of_lt_of_le hn (aw_p56 (by omega))
    have ho' := ho p
    refine br_f (nI_ge (by omega) (by omega)) ⟨vp_in_nI (by omega) (by decide), nm_r (e' := lN (n * 256 + o p)) ?_ (nm_r (nI_1 p) (nm_r (nI_1 j) (ih m _ (j + 1) (p + 1) (by omega) (by omega) (by omega) ?_ ?_)))⟩
    · rw [nI_clamp (by omega)]
      exact aw_xstep hn' ho'
    · rw [Nat.pow_succ]; omega
    · rw [show p + 1 + k = p + (k + 1) by omega]
      exact h
end
theorem aw_X111 {post : Int32 → SX → Prop} {f_cap f_limit f_cur f_count f_hasAdmission f_admitted : Int32} {ty : Int32} {o : Nat → Nat} (ho : ∀ j, o j < 256) {len w : Nat} (hL : len ≤ 64) (hw : w ≤ 8) : ∀ (d m i p : Nat) (c : Nat → Int64), d < m → i + d = len → p + d * w ≤ 64 → post (nI (p + d * w)) (f_cap, f_limit, nI (p + d * w), nI len, f_hasAdmission, f_admitted, aw_X o, aw_rq ty w o d i p c) → wX_readElems_111 post ty (nI len) (nI w) f_cap f_limit f_cur f_count f_hasAdmission f_admitted m (nI p) (nI i) (aw_X o) c := by
  intro d
  induction d with
  | zero =>
    intro m i p c hm hi hp h
    obtain ⟨m, rfl⟩ : ∃ q, m = q + 1 := ⟨m - 1, by omega⟩
    rw [Nat.zero_mul] at h
    exact br_t (nI_le (by omega) (by omega)) h
  | succ d ih =>
    intro m i p c hm hi hp h
    obtain ⟨m, rfl⟩ : ∃ q, m = q + 1 := ⟨m - 1, by omega⟩
    have hs : (d + 1) * w = w + d * w := by rw [Nat.add_mul, Nat.one_mul, Nat.add_comm]
    rw [hs] at hp h
    have K := ih m (i + 1) (p + w) (vp_updL c i (aw_cv ty (lN (aw_rd o w p 0)))) (by omega) (by omega) (by omega) (by rw [Nat.add_assoc]; exact h)
    exact br_f (nI_ge (by omega) (by omega)) ⟨w + 1, aw_X123 ho hw (by omega) w (w + 1) 0 0 p (by omega) (by omega) (by omega) (by decide) K⟩
section
variable {post : Int32 → SY → Prop} {f_cap f_lim f_count f_granted : Int32} {cd wd : Nat → Int32}
theorem aw_Y95 {ty : Int32} {o : Nat → Nat} (ho : ∀ j, o j < 256) {len : Nat} (hL : len ≤ 64) (hw0 : aw_wd ty ≠ 0) : ∀ (d m i p : Nat) (c : Nat → Int64), d < m → i + d = len → p + d * aw_wd ty ≤ 64 → post (nI (p + d * aw_wd ty)) (f_cap, nI (p + d * aw_wd ty), f_lim, nI len, f_granted, aw_Y o, aw_rq ty (aw_wd ty) o d i p c, cd, wd) → wY_readElems_95 post ty (nI len) (nI (aw_wd ty)) (lN (aw_half (aw_wd ty))) m (nI i) f_cap (nI p) f_lim f_count f_granted (aw_Y o) c cd wd := by
  have hw8 := aw_wd8 ty
  intro d
  induction d with
  | zero =>
    intro m i p c hm hi hp h
    obtain ⟨m, rfl⟩ : ∃ q, m = q + 1 := ⟨m - 1, by omega⟩
    rw [Nat.zero_mul] at h
    exact br_t (nI_le (by omega) (by omega)) h
  | succ d ih =>
    intro m i p c hm hi hp h
    obtain ⟨m, rfl⟩ : ∃ q, m = q + 1 := ⟨m - 1, by omega⟩
    have hs : (d + 1) * aw_wd ty = aw_wd ty + d * aw_wd ty := by rw [Nat.add_mul, Nat.one_mul, Nat.add_comm]
    rw [hs] at hp h
    have K := ih m (i + 1) (p + aw_wd ty) (vp_updL c i (aw_cv ty (lN (aw_rd o (aw_wd ty) p 0)))) (by omega) (by omega) (by omega) (by rw [Nat.add_assoc]; exact h)
    have hin : vp_in (nI i) 64 := vp_in_nI (by omega) (by decide)
    have hc : (nI i).toNatClampNeg = i := nI_clamp (by omega)
    have hb : aw_rd o (aw_wd ty) p 0 < 256 ^ aw_wd ty := by
      have := aw_rd_lt ho (aw_wd ty) p 0 1 (by decide)
      rw [Nat.one_mul] at this
      exact this
    refine br_f (nI_ge (by omega) (by omega)) (aw_Ytk ho hw8 (by omega) ?_)
    revert K hb
    generalize aw_rd o (aw_wd ty) p 0 = n
    intro K hb
    dsimp only
    rw [hc]
    refine ⟨hin, nm_e (br_c (fun h1 => ?_) (fun h1 => ?_))⟩
    · rw [aw_cv90 h1] at K
      refine br_c (fun e => nm_r (nI_1 i) ?_) (fun e => ⟨hin, nm_e (nm_r (nI_1 i) ?_)⟩)
      · rw [if_pos e] at K
        rw [e]
        exact K
      · rw [if_neg e] at K
        rw [aw_uu]
        exact K
    refine br_c (fun h2 => nm_r (nI_1 i) ?_) (fun h2 => ?_)
    · rw [aw_cv67 h2] at K
      exact K
    refine pk_le 8 (aw_wd ty) (fun h3 => nm_r (nI_1 i) ?_) (fun h3 => ?_)
    · rw [aw_cvW h1 h3] at K
      exact K
    rw [aw_cvS h1 h2 hw0 h3 hb] at K
    rw [aw_halfL hw0 h3 hb]
    refine br_c (fun h4 => nm_r (nI_1 i) ?_) (fun h4 => ⟨hin, hin, nm_e (nm_r (nI_1 i) ?_)⟩)
    · rw [if_pos h4] at K
      exact K
    · rw [if_neg h4] at K
      rw [aw_uu, pk_uLs]
      exact K
theorem aw_Y71 {ty x2 : Int32} {f_cur : Int32} {a_oct : Nat → Int32} {ce : Nat → Int64} {w : Nat} (hw : w ≤ 8) {H : Nat} (h : ∃ n95 : Nat, wY_readElems_95 post ty x2 (nI w) (lN H) n95 0 f_cap f_cur f_lim f_count f_granted a_oct ce cd wd) : ∀ (d m j a : Nat), d < m → j + d = w → a * 256 ^ d = H → wY_readElems_71 post ty x2 (nI w) f_cap f_cur f_lim f_count f_granted a_oct ce cd wd m (lN a) (nI j) := by
  intro d
  induction d with
  | zero =>
    intro m j a hm hj ha
    obtain ⟨m, rfl⟩ : ∃ q, m = q + 1 := ⟨m - 1, by omega⟩
    rw [Nat.pow_zero, Nat.mul_one] at ha
    subst ha
    exact br_t (nI_le (by omega) (by omega)) h
  | succ d ih =>
    intro m j a hm hj ha
    obtain ⟨m, rfl⟩ : ∃ q, m = q + 1 := ⟨m - 1, by omega⟩
    exact br_f (nI_ge (by omega) (by omega)) (nm_r (lN_mul a 256) (nm_r (nI_1 j) (ih m (j + 1) (a * 256) (by omega) (by omega) (by rw [← ha, Nat.pow_succ, Nat.mul_assoc, Nat.mul_comm 256]))))
end
end
section
/-! ===== the length word: X by shifts and ors, Y by digits ===== -/
theorem aw_or {k p a b : Nat} (hp : 2 ^ k = p) (ha : a < p) (h : b * p + a < 2 ^ 32) : nI (b * p) ||| nI a = nI (b * p + a) := by
  subst hp
  have h1 : b * 2 ^ k ||| a = b * 2 ^ k + a := by rw [← Nat.shiftLeft_eq, Nat.shiftLeft_add_eq_or_of_lt ha]
  apply Int32.toBitVec_inj.mp
  apply BitVec.eq_of_toNat_eq
  rw [Int32.toBitVec_or, BitVec.toNat_or, pk_tn (by omega), pk_tn (by omega), pk_tn h, h1]
theorem aw_len4 {a b c d : Nat} (ha : a < 256) (hb : b < 256) (hc : c < 256) (hd : d < 256) : ((((sb_b a &&& 255) <<< ((24 : Int32) &&& 31)) ||| ((sb_b b &&& 255) <<< ((16 : Int32) &&& 31))) ||| ((sb_b c &&& 255) <<< ((8 : Int32) &&& 31))) ||| (sb_b d &&& 255) = nI (((a * 256 + b) * 256 + c) * 256 + d) := by
  rw [(sb_byte a ha).1, (sb_byte b hb).1, (sb_byte c hc).1, (sb_byte d hd).1]
  have s1 : nI a <<< ((24 : Int32) &&& 31) = nI (a * 16777216) := pk_shlN _ 24 (by decide) (by omega)
  have s2 : nI b <<< ((16 : Int32) &&& 31) = nI (b * 65536) := pk_shlN _ 16 (by decide) (by omega)
  have s3 : nI c <<< ((8 : Int32) &&& 31) = nI (c * 256) := pk_shlN _ 8 (by decide) (by omega)
  have o1 : nI (a * 16777216) ||| nI (b * 65536) = nI ((a * 256 + b) * 65536) := by
    rw [aw_or (k := 24) (by decide) (by omega) (by omega)]
    exact congrArg nI (by omega)
  have o2 : nI ((a * 256 + b) * 65536) ||| nI (c * 256) = nI (((a * 256 + b) * 256 + c) * 256) := by
    rw [aw_or (k := 16) (by decide) (by omega) (by omega)]
    exact congrArg nI (by omega)
  rw [s1, s2, s3, o1, o2]
  exact aw_or (k := 8) (by decide) hd (by omega)
theorem aw_sgn {N : Nat} (h : N < 2 ^ 32) : 0 ≤ nI N ↔ N < 2 ^ 31 := by
  have e : (nI N).toInt = (N : Int).bmod (2 ^ 32) := Int32.toInt_ofNat'
  have z : (0 : Int32).toInt = 0 := by decide
  rw [Int32.le_iff_toInt_le, e, z, Int.bmod_def]
  constructor
  · intro q; omega
  · intro q; omega
/-- the header's octets -/
theorem aw_h3 {l : Nat} (h : l < 2 ^ 31) : vp_nar .byte ((((nI l).toUInt32 >>> ((24 : Int32).toUInt32 &&& Int32.toUInt32 31)).toInt32).toInt8.toInt32) = sb_b (aw_d (l : Int) 3) := by
  rw [pk_vb, pk_ushrN (by omega) 24 24 (by decide)]
  have e : aw_d (l : Int) 3 = l / 2 ^ 24 % 256 := by unfold aw_d; omega
  rw [e]
  exact aw_sbm _
theorem aw_h2 {l : Nat} (h : l < 2 ^ 31) : vp_nar .byte ((((nI l).toUInt32 >>> ((16 : Int32).toUInt32 &&& Int32.toUInt32 31)).toInt32).toInt8.toInt32) = sb_b (aw_d (l : Int) 2) := by
  rw [pk_vb, pk_ushrN (by omega) 16 16 (by decide)]
  have e : aw_d (l : Int) 2 = l / 2 ^ 16 % 256 := by unfold aw_d; omega
  rw [e]
  exact aw_sbm _
theorem aw_h1 {l : Nat} (h : l < 2 ^ 31) : vp_nar .byte ((((nI l).toUInt32 >>> ((8 : Int32).toUInt32 &&& Int32.toUInt32 31)).toInt32).toInt8.toInt32) = sb_b (aw_d (l : Int) 1) := by
  rw [pk_vb, pk_ushrN (by omega) 8 8 (by decide)]
  have e : aw_d (l : Int) 1 = l / 2 ^ 8 % 256 := by unfold aw_d; omega
  rw [e]
  exact aw_sbm _
theorem aw_h0 {l : Nat} (h : l < 2 ^ 31) : vp_nar .byte (nI l).toInt8.toInt32 = sb_b (aw_d (l : Int) 0) := by
  rw [pk_vb]
  have e : aw_d (l : Int) 0 = l % 256 := by unfold aw_d; omega
  rw [e]
  exact aw_sbm _
end
section
/-! ===== the relation, and what is owed ===== -/
/-- X's two admission fields against Y's one -/
def aw_adm (ha ad gr : Int32) : Prop := (ha = 0 ∧ gr = -1) ∨ (ha = 1 ∧ ∃ g : Nat, g < 2 ^ 31 ∧ ad = nI g ∧ gr = nI g)
/-- the bounds of the counters -/
def aw_bd (cp li cu ct : Nat) : Prop := cp ≤ 64 ∧ li ≤ cp ∧ cu ≤ li ∧ ct ≤ cp
/-- the same counters, octets and cells; X's octets are bytes, Y's are 0 .. 255 -/
def i_Rel (_ : Nat) (u : SX) (v : SY) : Prop := ∃ (cp li cu ct : Nat) (ha ad gr : Int32) (o : Nat → Nat) (ce : Nat → Int64) (cd wd : Nat → Int32), u = (nI cp, nI li, nI cu, nI ct, ha, ad, aw_X o, ce) ∧ v = (nI cp, nI cu, nI li, nI ct, gr, aw_Y o, ce, cd, wd) ∧ aw_bd cp li cu ct ∧ (∀ j, o j < 256) ∧ aw_tab cd wd ∧ aw_adm ha ad gr
theorem i_up {k : Nat} {u : SX} {v : SY} (h : i_Rel k u v) : i_Rel (k + 4) u v := h
theorem aw_X0 : aw_X (fun _ => 0) = fun _ => 0 := funext fun _ => (by decide +kernel : sb_b 0 = 0)
theorem aw_Y0 : aw_Y (fun _ => 0) = fun _ => 0 := funext fun _ => nI_0
theorem aw_R0 {c : Nat} (h : c ≤ 64) {cd wd : Nat → Int32} (T : aw_tab cd wd) : i_Rel 1 (nI c, 0, 0, 0, 0, 0, (fun _ => 0), (fun _ => 0)) (nI c, 0, 0, 0, -1, (fun _ => 0), (fun _ => 0), cd, wd) := by
  refine ⟨c, 0, 0, 0, 0, 0, -1, (fun _ => 0), (fun _ => 0), cd, wd, ?_, ?_, ⟨h, by omega, by omega, by omega⟩, fun _ => (by decide : 0 < 256), T, Or.inl ⟨rfl, rfl⟩⟩
  · rw [aw_X0]; rfl
  · rw [aw_Y0]; rfl
theorem aw_init {c : Nat} (h : c ≤ 64) : wY_init_28 (fun v => i_Rel 1 (nI c, 0, 0, 0, 0, 0, (fun _ => 0), (fun _ => 0)) v) (nI c) 0 0 0 0 0 := by
  unfold wY_init_28
  refine nm_e (nm_e (nm_e (nm_e (nm_e (nm_e (nm_e (nm_e (nm_e (nm_e (nm_e (nm_e (nm_e (nm_e (nm_e (nm_e ?_)))))))))))))))
  refine aw_R0 h ?_
  exact ⟨⟨by decide +kernel, by decide +kernel, by decide +kernel, by decide +kernel, by decide +kernel, by decide +kernel, by decide +kernel, by decide +kernel⟩, ⟨by decide +kernel, by decide +kernel, by decide +kernel, by decide +kernel, by decide +kernel, by decide +kernel, by decide +kernel, by decide +kernel⟩⟩
theorem i_vc0 (k0 : Int32) : wpX_init (fun u => wpY_init (fun v => i_Rel 1 u v) k0) k0 := by
  unfold wpX_init wX_init_31 wX_init_40 wpY_init
  by_cases h1 : 8 ≤ k0
  · refine br_t h1 ?_
    by_cases h2 : k0 ≤ 64
    · have h0 : ¬ k0 < 0 := Int32.not_lt.mpr (Int32.le_trans (by decide) h1)
      obtain ⟨j, hj, rfl⟩ := nI_of2 (M := 64) (n := 64) (by decide) h0 h2
      exact br_t h2 (br_t h1 (br_t h2 (aw_init hj)))
    · exact br_f h2 (br_t h1 (br_f h2 (aw_init (c := 64) (by decide))))
  · exact br_f h1 (br_t (by decide) (br_f h1 (aw_init (c := 8) (by decide))))
theorem i_vc_stage {k : Nat} {u : SX} {v : SY} (I : i_Rel k u v) (hk : k + 4 ≤ 2049) (v1 : Int32) (a1 : Int64) : wpX_stage (fun r u' => wpY_stage (fun r' v' => r' = r ∧ i_Rel (k + 4) u' v') v v1 a1) u v1 a1 := by
  obtain ⟨cp, li, cu, ct, ha, ad, gr, o, ce, cd, wd, rfl, rfl, ⟨b1, b2, b3, b4⟩, ho, T, A⟩ := I
  have R : i_Rel (k + 4) (nI cp, nI li, nI cu, nI ct, ha, ad, aw_X o, ce) (nI cp, nI cu, nI li, nI ct, gr, aw_Y o, ce, cd, wd) := ⟨cp, li, cu, ct, ha, ad, gr, o, ce, cd, wd, rfl, rfl, ⟨b1, b2, b3, b4⟩, ho, T, A⟩
  unfold wpX_stage wpY_stage
  dsimp only
  by_cases h0 : v1 < 0
  · exact br_t h0 (br_t h0 ⟨rfl, R⟩)
  obtain ⟨i, hi, rfl⟩ := nI_of h0
  by_cases c1 : ct < i
  · have c1' := nI_lt c1 hi
    exact br_f h0 (br_t c1' (br_f h0 (br_t c1' ⟨rfl, R⟩)))
  have c1' : ¬ nI ct < nI i := nI_nlt (by omega) (by omega)
  by_cases c2 : i < cp
  · have c2' := nI_lt c2 (by omega)
    have hin : vp_in (nI i) 64 := vp_in_nI (by omega) (by decide)
    have hc : (nI i).toNatClampNeg = i := nI_clamp hi
    rw [hc]
    by_cases e : i = ct
    · have e' : nI i = nI ct := congrArg nI e
      refine br_f h0 (br_f c1' (br_t c2' ⟨hin, nm_e (br_t e' (nm_r (nI_1 ct) (br_f h0 (br_f c1' (br_t c2' ⟨hin, nm_e (br_t e' (nm_r (nI_1 ct) ⟨rfl, ?_⟩))⟩)))))⟩))
      exact ⟨cp, li, cu, ct + 1, ha, ad, gr, o, _, cd, wd, rfl, rfl, ⟨b1, b2, b3, by omega⟩, ho, T, A⟩
    · have e' : ¬ nI i = nI ct := fun z => e ((nI_eq hi (by omega)).mp z)
      refine br_f h0 (br_f c1' (br_t c2' ⟨hin, nm_e (br_f e' (br_f h0 (br_f c1' (br_t c2' ⟨hin, nm_e (br_f e' ⟨rfl, ?_⟩)⟩))))⟩))
      exact ⟨cp, li, cu, ct, ha, ad, gr, o, _, cd, wd, rfl, rfl, ⟨b1, b2, b3, b4⟩, ho, T, A⟩
  · have c2' : ¬ nI i < nI cp := nI_nlt (by omega) hi
    exact br_f h0 (br_f c1' (br_f c2' (br_f h0 (br_f c1' (br_f c2' ⟨rfl, R⟩)))))
theorem i_vc_putArray {k : Nat} {u : SX} {v : SY} (I : i_Rel k u v) (hk : k + 4 ≤ 2049) (v1 : Int32) (v2 : Int32) : wpX_putArray (fun r u' => wpY_putArray (fun r' v' => r' = r ∧ i_Rel (k + 4) u' v') v v1 v2) u v1 v2 := by
  obtain ⟨cp, li, cu, ct, ha, ad, gr, o, ce, cd, wd, rfl, rfl, ⟨b1, b2, b3, b4⟩, ho, T, A⟩ := I
  have R : i_Rel (k + 4) (nI cp, nI li, nI cu, nI ct, ha, ad, aw_X o, ce) (nI cp, nI cu, nI li, nI ct, gr, aw_Y o, ce, cd, wd) := ⟨cp, li, cu, ct, ha, ad, gr, o, ce, cd, wd, rfl, rfl, ⟨b1, b2, b3, b4⟩, ho, T, A⟩
  have hw8 := aw_wd8 v1
  unfold wpX_putArray
  dsimp only
  refine aw_Xw ?_
  by_cases w0 : aw_wd v1 = 0
  · have w0' : nI (aw_wd v1) = 0 := by rw [w0]; rfl
    refine br_t w0' ?_
    unfold wpY_putArray
    dsimp only
    exact aw_Yw T (br_t w0' ⟨rfl, R⟩)
  have w0' : ¬ nI (aw_wd v1) = 0 := nI_ne0 (by omega) (by omega)
  by_cases h0 : v2 < 0
  · refine br_f w0' (br_t h0 ?_)
    unfold wpY_putArray
    dsimp only
    exact aw_Yw T (br_f w0' (br_t h0 ⟨rfl, R⟩))
  obtain ⟨l, hl, rfl⟩ := nI_of h0
  by_cases c1 : l ≤ ct
  · have c1' : nI l ≤ nI ct := nI_le c1 (by omega)
    have hm : l * aw_wd v1 ≤ l * 8 := Nat.mul_le_mul_left l hw8
    have eX : (4 : Int64) + (nI l).toInt64 * (nI (aw_wd v1)).toInt64 = lN (4 + l * aw_wd v1) := by
      rw [nI_l hl, nI_l (by omega), lN_mul]
      exact lN_add 4 _
    have eY : (4 : Int32) + nI l * nI (aw_wd v1) = nI (4 + l * aw_wd v1) := by
      rw [pk_mul]
      exact nI_add 4 _
    refine br_f w0' (br_f h0 (br_t c1' (nm_r eX ?_)))
    rw [pk_sub b2, nI_l (n := cp - li) (by omega)]
    by_cases f : 4 + l * aw_wd v1 ≤ cp - li
    · refine br_t ((pk_lLE (by omega) (by omega)).mpr f) ?_
      have a1 : nI li + 1 = nI (li + 1) := nI_1 li
      have a2 : nI li + 2 = nI (li + 2) := nI_add li 2
      have a3 : nI li + 3 = nI (li + 3) := nI_add li 3
      have a4 : nI li + 4 = nI (li + 4) := nI_add li 4
      rw [a1, a2, a3, a4, nI_clamp (n := li) (by omega), nI_clamp (n := li + 1) (by omega), nI_clamp (n := li + 2) (by omega), nI_clamp (n := li + 3) (by omega), aw_h3 hl, aw_h2 hl, aw_h1 hl, aw_h0 hl]
      refine ⟨vp_in_nI (by omega) (by decide), nm_r (aw_uX _ _ _) ⟨vp_in_nI (by omega) (by decide), nm_r (aw_uX _ _ _) ⟨vp_in_nI (by omega) (by decide), nm_r (aw_uX _ _ _) ⟨vp_in_nI (by omega) (by decide), nm_r (aw_uX _ _ _) (nm_e ⟨l + 1, aw_X124 (by omega) hw8 aw_wd90 l (l + 1) 0 (li + 4) (aw_xw (l : Int) 4 li o) (by omega) (by omega) (by omega) ?_⟩)⟩⟩⟩⟩
      rw [aw_xw_em, lN_i]
      unfold wpY_putArray
      dsimp only
      refine aw_Yw T (br_f w0' (br_f h0 (br_t c1' (nm_r eY ?_))))
      rw [pk_sub b2]
      refine br_t (nI_le f (by omega)) (aw_Yem (w := 4) (by omega) ?_)
      have el : (nI l).toInt64.toInt = (l : Int) := by rw [Int32.toInt_toInt64, nI_toInt hl]
      rw [el]
      dsimp only
      refine ⟨l + 1, aw_Y62 (by omega) aw_wd90 l (l + 1) 0 (li + 4) _ (by omega) (by omega) (by omega) ⟨rfl, ?_⟩⟩
      exact ⟨cp, li + 4 + l * aw_wd v1, cu, ct, ha, ad, gr, _, ce, cd, wd, rfl, rfl, ⟨b1, by omega, by omega, b4⟩, aw_pw_lt _ _ _ _ _ _ _ (aw_em_lt ho _ _ _), T, A⟩
    · refine br_f (fun z => f ((pk_lLE (by omega) (by omega)).mp z)) ?_
      unfold wpY_putArray
      dsimp only
      refine aw_Yw T (br_f w0' (br_f h0 (br_t c1' (nm_r eY ?_))))
      rw [pk_sub b2]
      exact br_f (nI_ge (by omega) (by omega)) ⟨rfl, R⟩
  · have c1' : ¬ nI l ≤ nI ct := nI_ge (by omega) hl
    refine br_f w0' (br_f h0 (br_f c1' ?_))
    unfold wpY_putArray
    dsimp only
    exact aw_Yw T (br_f w0' (br_f h0 (br_f c1' ⟨rfl, R⟩)))
end
section
theorem i_vc_readLen {k : Nat} {u : SX} {v : SY} (I : i_Rel k u v) (hk : k + 4 ≤ 2049) : wpX_readLen (fun r u' => wpY_readLen (fun r' v' => r' = r ∧ i_Rel (k + 4) u' v') v) u := by
  obtain ⟨cp, li, cu, ct, ha, ad, gr, o, ce, cd, wd, rfl, rfl, ⟨b1, b2, b3, b4⟩, ho, T, A⟩ := I
  have R : i_Rel (k + 4) (nI cp, nI li, nI cu, nI ct, ha, ad, aw_X o, ce) (nI cp, nI cu, nI li, nI ct, gr, aw_Y o, ce, cd, wd) := ⟨cp, li, cu, ct, ha, ad, gr, o, ce, cd, wd, rfl, rfl, ⟨b1, b2, b3, b4⟩, ho, T, A⟩
  unfold wpX_readLen wpY_readLen
  dsimp only
  rw [pk_sub b3]
  by_cases f : 4 ≤ li - cu
  · have f' : (4 : Int32) ≤ nI (li - cu) := nI_le (a := 4) f (by omega)
    have R4 : i_Rel (k + 4) (nI cp, nI li, nI (cu + 4), nI ct, ha, ad, aw_X o, ce) (nI cp, nI (cu + 4), nI li, nI ct, gr, aw_Y o, ce, cd, wd) := ⟨cp, li, cu + 4, ct, ha, ad, gr, o, ce, cd, wd, rfl, rfl, ⟨b1, b2, by omega, b4⟩, ho, T, A⟩
    have a1 : nI cu + 1 = nI (cu + 1) := nI_1 cu
    have a2 : nI cu + 2 = nI (cu + 2) := nI_add cu 2
    have a3 : nI cu + 3 = nI (cu + 3) := nI_add cu 3
    have a4 : nI cu + 4 = nI (cu + 4) := nI_add cu 4
    have hb : aw_rd o 4 cu 0 < 2 ^ 32 := aw_rd_lt ho 4 cu 0 1 (by decide)
    have eN : aw_rd o 4 cu 0 = ((o cu * 256 + o (cu + 1)) * 256 + o (cu + 2)) * 256 + o (cu + 3) := by
      show (((0 * 256 + o cu) * 256 + o (cu + 1)) * 256 + o (cu + 2)) * 256 + o (cu + 3) = _
      rw [Nat.zero_mul, Nat.zero_add]
    refine br_t f' ⟨vp_in_nI (by omega) (by decide), ?_⟩
    rw [a1, a2, a3, a4]
    refine ⟨vp_in_nI (by omega) (by decide), vp_in_nI (by omega) (by decide), vp_in_nI (by omega) (by decide), nm_r (e' := nI (aw_rd o 4 cu 0)) ?_ (nm_e ?_)⟩
    · rw [nI_clamp (n := cu) (by omega), nI_clamp (n := cu + 1) (by omega), nI_clamp (n := cu + 2) (by omega), nI_clamp (n := cu + 3) (by omega), eN]
      exact aw_len4 (ho _) (ho _) (ho _) (ho _)
    · have hL : lN (aw_rd o 4 cu 0) < 2147483648 ↔ aw_rd o 4 cu 0 < 2147483648 := pk_lLT (b := 2147483648) (by omega) (by decide)
      have hS := aw_sgn hb
      by_cases g : aw_rd o 4 cu 0 < 2 ^ 31
      · refine br_t (hS.mpr g) (br_t f' (aw_Ytk (w := 4) ho (by decide) (by omega) (br_t (hL.mpr g) ⟨?_, R4⟩)))
        exact lN_i _
      · exact br_f (fun z => g (hS.mp z)) (br_t f' (aw_Ytk (w := 4) ho (by decide) (by omega) (br_f (fun z => g (hL.mp z)) ⟨rfl, R4⟩)))
  · have f' : ¬ (4 : Int32) ≤ nI (li - cu) := nI_ge (b := 4) (by omega) (by decide)
    exact br_f f' (br_f f' ⟨rfl, R⟩)
theorem i_vc_admit {k : Nat} {u : SX} {v : SY} (I : i_Rel k u v) (hk : k + 4 ≤ 2049) (v1 : Int32) (v2 : Int32) : wpX_admit (fun r u' => wpY_admit (fun r' v' => r' = r ∧ i_Rel (k + 4) u' v') v v1 v2) u v1 v2 := by
  obtain ⟨cp, li, cu, ct, ha, ad, gr, o, ce, cd, wd, rfl, rfl, B, ho, T, A⟩ := I
  have R0 : i_Rel (k + 4) (nI cp, nI li, nI cu, nI ct, 0, 0, aw_X o, ce) (nI cp, nI cu, nI li, nI ct, -1, aw_Y o, ce, cd, wd) := ⟨cp, li, cu, ct, 0, 0, -1, o, ce, cd, wd, rfl, rfl, B, ho, T, Or.inl ⟨rfl, rfl⟩⟩
  unfold wpX_admit wX_admit_27 wpY_admit
  dsimp only
  by_cases h0 : 0 ≤ v1
  · obtain ⟨g, hg, rfl⟩ := nI_of (Int32.not_lt.mpr h0)
    have R1 : i_Rel (k + 4) (nI cp, nI li, nI cu, nI ct, 1, nI g, aw_X o, ce) (nI cp, nI cu, nI li, nI ct, nI g, aw_Y o, ce, cd, wd) := ⟨cp, li, cu, ct, 1, nI g, nI g, o, ce, cd, wd, rfl, rfl, B, ho, T, Or.inr ⟨rfl, g, hg, rfl, rfl⟩⟩
    by_cases h1 : v2 = 0
    · exact br_t h0 (br_t h1 (br_t h0 (br_t h1 ⟨rfl, R1⟩)))
    by_cases h2 : v2 = 1
    · exact br_t h0 (br_f h1 (br_t h2 (br_t h0 (br_f h1 (br_t h2 ⟨rfl, R1⟩)))))
    · exact br_t h0 (br_f h1 (br_f h2 (br_t h0 (br_f h1 (br_f h2 ⟨rfl, R0⟩)))))
  · exact br_f h0 (br_f h0 ⟨rfl, R0⟩)
theorem i_vc_readElems {k : Nat} {u : SX} {v : SY} (I : i_Rel k u v) (hk : k + 4 ≤ 2049) (v1 : Int32) (v2 : Int32) : wpX_readElems (fun r u' => wpY_readElems (fun r' v' => r' = r ∧ i_Rel (k + 4) u' v') v v1 v2) u v1 v2 := by
  obtain ⟨cp, li, cu, ct, ha, ad, gr, o, ce, cd, wd, rfl, rfl, ⟨b1, b2, b3, b4⟩, ho, T, A⟩ := I
  have R0 : i_Rel (k + 4) (nI cp, nI li, nI cu, 0, 0, 0, aw_X o, ce) (nI cp, nI cu, nI li, 0, -1, aw_Y o, ce, cd, wd) := ⟨cp, li, cu, 0, 0, 0, -1, o, ce, cd, wd, rfl, rfl, ⟨b1, b2, b3, by omega⟩, ho, T, Or.inl ⟨rfl, rfl⟩⟩
  have hw8 := aw_wd8 v1
  unfold wpX_readElems
  dsimp only
  by_cases h0 : 0 ≤ v2
  case neg =>
    refine br_f h0 ?_
    unfold wpY_readElems
    dsimp only
    exact br_f h0 ⟨rfl, R0⟩
  refine br_t h0 (aw_Xw ?_)
  by_cases w0 : aw_wd v1 = 0
  · have w0' : nI (aw_wd v1) = 0 := by rw [w0]; rfl
    refine br_t w0' ?_
    unfold wpY_readElems
    dsimp only
    exact br_t h0 (aw_Yw T (br_t w0' ⟨rfl, R0⟩))
  have w0' : ¬ nI (aw_wd v1) = 0 := nI_ne0 (by omega) (by omega)
  refine br_f w0' ?_
  rcases A with ⟨rfl, rfl⟩ | ⟨rfl, g, hg, rfl, rfl⟩
  · refine br_t rfl ?_
    have e : ¬ v2 = -1 := fun z => by rw [z] at h0; exact absurd h0 (by decide)
    unfold wpY_readElems
    dsimp only
    exact br_t h0 (aw_Yw T (br_f w0' (br_f e ⟨rfl, R0⟩)))
  refine br_f (by decide) ?_
  by_cases e : nI g = v2
  case neg =>
    refine br_f e ?_
    unfold wpY_readElems
    dsimp only
    exact br_t h0 (aw_Yw T (br_f w0' (br_f (fun z => e z.symm) ⟨rfl, R0⟩)))
  subst e
  have hm : g * aw_wd v1 ≤ g * 8 := Nat.mul_le_mul_left g hw8
  have hm1 : g ≤ g * aw_wd v1 := Nat.le_mul_of_pos_right g (by omega)
  have eX : (nI g).toInt64 * (nI (aw_wd v1)).toInt64 = lN (g * aw_wd v1) := by
    rw [nI_l hg, nI_l (by omega), lN_mul]
  refine br_t rfl (nm_r eX ?_)
  rw [pk_sub b3, nI_l (n := li - cu) (by omega)]
  have eD : nI (li - cu) / nI (aw_wd v1) = nI ((li - cu) / aw_wd v1) := pk_div (by omega) (by omega) (by omega)
  have hD : g ≤ (li - cu) / aw_wd v1 ↔ g * aw_wd v1 ≤ li - cu := Nat.le_div_iff_mul_le (by omega)
  have hd : (li - cu) / aw_wd v1 ≤ li - cu := Nat.div_le_self _ _
  by_cases f : g * aw_wd v1 ≤ li - cu
  case neg =>
    refine br_f (fun z => f ((pk_lLE (by omega) (by omega)).mp z)) ?_
    unfold wpY_readElems
    dsimp only
    refine br_t h0 (aw_Yw T (br_f w0' (br_t rfl ⟨w0', ?_⟩)))
    rw [pk_sub b3, eD]
    have f' : ¬ g ≤ (li - cu) / aw_wd v1 := fun z => f (hD.mp z)
    exact br_f (nI_ge (by omega) hg) ⟨rfl, R0⟩
  refine br_t ((pk_lLE (by omega) (by omega)).mpr f) ⟨g + 1, aw_X111 ho (by omega) hw8 g (g + 1) 0 cu ce (by omega) (by omega) (by omega) ?_⟩
  unfold wpY_readElems
  dsimp only
  refine br_t h0 (aw_Yw T (br_f w0' (br_t rfl ⟨w0', ?_⟩)))
  rw [pk_sub b3, eD]
  refine br_t (nI_le (hD.mpr f) (by omega)) ⟨aw_wd v1, aw_Y71 hw8 (H := aw_half (aw_wd v1)) ⟨g + 1, aw_Y95 ho (by omega) w0 g (g + 1) 0 cu ce (by omega) (by omega) (by omega) ⟨rfl, ?_⟩⟩ (aw_wd v1 - 1) (aw_wd v1) 1 128 (by omega) (by omega) rfl⟩
  exact ⟨cp, li, cu + g * aw_wd v1, g, 0, 0, -1, o, _, cd, wd, rfl, rfl, ⟨b1, b2, by omega, by omega⟩, ho, T, Or.inl ⟨rfl, rfl⟩⟩
theorem i_vc_bitsAt {k : Nat} {u : SX} {v : SY} (I : i_Rel k u v) (hk : k + 4 ≤ 2049) (v1 : Int32) : wpX_bitsAt (fun r => wpY_bitsAt (fun r' => r' = r ∧ i_Rel (k + 4) u v) v v1) u v1 := by
  have R : i_Rel (k + 4) u v := i_up I
  obtain ⟨cp, li, cu, ct, ha, ad, gr, o, ce, cd, wd, rfl, rfl, ⟨b1, b2, b3, b4⟩, ho, T, A⟩ := I
  unfold wpX_bitsAt wpY_bitsAt
  dsimp only
  by_cases h0 : v1 < 0
  · exact br_t h0 (br_t h0 ⟨rfl, R⟩)
  obtain ⟨i, hi, rfl⟩ := nI_of h0
  by_cases c : i < ct
  · have c' := nI_lt c (by omega)
    have hin : vp_in (nI i) 64 := vp_in_nI (by omega) (by decide)
    exact br_f h0 (br_t c' ⟨hin, br_f h0 (br_t c' ⟨hin, rfl, R⟩)⟩)
  · have c' : ¬ nI i < nI ct := nI_nlt (by omega) hi
    exact br_f h0 (br_f c' (br_f h0 (br_f c' ⟨rfl, R⟩)))
theorem i_vc_cursor {k : Nat} {u : SX} {v : SY} (I : i_Rel k u v) (hk : k + 4 ≤ 2049) : wpX_cursor (fun r => wpY_cursor (fun r' => r' = r ∧ i_Rel (k + 4) u v) v) u := by
  have R : i_Rel (k + 4) u v := i_up I
  obtain ⟨cp, li, cu, ct, ha, ad, gr, o, ce, cd, wd, rfl, rfl, B, ho, T, A⟩ := I
  unfold wpX_cursor wpY_cursor
  exact ⟨rfl, R⟩
theorem i_vc_cells {k : Nat} {u : SX} {v : SY} (I : i_Rel k u v) (hk : k + 4 ≤ 2049) : wpX_cells (fun r => wpY_cells (fun r' => r' = r ∧ i_Rel (k + 4) u v) v) u := by
  have R : i_Rel (k + 4) u v := i_up I
  obtain ⟨cp, li, cu, ct, ha, ad, gr, o, ce, cd, wd, rfl, rfl, B, ho, T, A⟩ := I
  unfold wpX_cells wpY_cells
  exact ⟨rfl, R⟩
end
