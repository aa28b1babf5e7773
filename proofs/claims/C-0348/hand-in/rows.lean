section
/-! pure rows to paste: stores, nI and lN arithmetic, masks, shifts, narrowing, branches by naturals (pk_le, pk_lt, pk_eq), loops (lp1 .. lp16: the measure of the state; rp1 ..: recursion), negatives. Take what you need -/
theorem pk_us {f : Nat → Int32} {k : Nat} {x : Int32} : upd f k x k = x := if_pos rfl
theorem pk_un {f : Nat → Int32} {k j : Nat} {x : Int32} (h : j ≠ k) : upd f k x j = f j := if_neg h
theorem pk_uLs {f : Nat → Int64} {k : Nat} {x : Int64} : vp_updL f k x k = x := if_pos rfl
theorem pk_uLn {f : Nat → Int64} {k j : Nat} {x : Int64} (h : j ≠ k) : vp_updL f k x j = f j := if_neg h
theorem pk_sub {a b : Nat} (h : b ≤ a) : nI a - nI b = nI (a - b) := by
  obtain ⟨c, rfl⟩ : ∃ c, a = c + b := ⟨a - b, by omega⟩
  rw [← nI_add, Int32.add_sub_cancel, Nat.add_sub_cancel]
theorem pk_m1 (n : Nat) : nI (n + 1) + (-1) = nI n := by
  rw [← nI_1, Int32.add_assoc, show (1 : Int32) + (-1) = 0 from rfl, Int32.add_zero]
theorem pk_mul (a b : Nat) : nI a * nI b = nI (a * b) := (Int32.ofNat_mul a b).symm
theorem pk_div {a d : Nat} (ha : a < 2 ^ 31) (h0 : 0 < d) (hd : d < 2 ^ 31) : nI a / nI d = nI (a / d) := by
  apply Int32.toInt_inj.mp
  rw [lg_idiv_nonneg (by rw [nI_toInt ha]; omega) (by rw [nI_toInt hd]; omega), nI_toInt ha, nI_toInt hd, nI_toInt (Nat.lt_of_le_of_lt (Nat.div_le_self a d) ha)]
  first | rfl | exact (Int.natCast_ediv _ _).symm
theorem pk_rem {a d : Nat} (ha : a < 2 ^ 31) (h0 : 0 < d) (hd : d < 2 ^ 31) : nI a - nI a / nI d * nI d = nI (a % d) := by
  rw [pk_div ha h0 hd, pk_mul, pk_sub (Nat.div_mul_le_self a d)]
  exact congrArg nI (by have := Nat.div_add_mod' a d; omega)
theorem pk_sub_toInt {a b : Nat} (ha : a < 2 ^ 30) (hb : b < 2 ^ 30) : (nI a - nI b).toInt = (a : Int) - b := by
  rw [Int32.toInt_sub, nI_toInt (by omega), nI_toInt (by omega)]
  exact Int.bmod_eq_of_le (by omega) (by omega)
theorem pk_sneg {a b : Nat} (hb : b < 2 ^ 30) (h : a < b) : nI a - nI b < 0 := by
  rw [Int32.lt_iff_toInt_lt, pk_sub_toInt (by omega) hb, show (0 : Int32).toInt = 0 from by decide]
  omega
theorem pk_ix (x : Int32) {n : Nat} (hn : n < 2 ^ 31) : x < 0 ∨ nI n ≤ x ∨ ∃ j : Nat, j < n ∧ x = nI j := by
  by_cases h : x < 0
  · exact Or.inl h
  · obtain ⟨j, hj, rfl⟩ := nI_of h
    by_cases h2 : j < n
    · exact Or.inr (Or.inr ⟨j, h2, rfl⟩)
    · exact Or.inr (Or.inl (nI_le (by omega) hj))
theorem pk_le {x y : Int32} {A B : Prop} (a b : Nat) (f : a ≤ b → A) (g : b < a → B) (hx : x = nI a := by rfl) (hy : y = nI b := by rfl) (ha : a < 2 ^ 31 := by omega) (hb : b < 2 ^ 31 := by omega) : (x ≤ y → A) ∧ (¬ x ≤ y → B) := by
  subst hx hy
  rw [nI_leI ha hb]
  exact ⟨f, fun z => g (by omega)⟩
theorem pk_lt {x y : Int32} {A B : Prop} (a b : Nat) (f : a < b → A) (g : b ≤ a → B) (hx : x = nI a := by rfl) (hy : y = nI b := by rfl) (ha : a < 2 ^ 31 := by omega) (hb : b < 2 ^ 31 := by omega) : (x < y → A) ∧ (¬ x < y → B) := by
  subst hx hy
  rw [nI_ltI ha hb]
  exact ⟨f, fun z => g (by omega)⟩
theorem pk_eq {x y : Int32} {A B : Prop} (a b : Nat) (f : a = b → A) (g : a ≠ b → B) (hx : x = nI a := by rfl) (hy : y = nI b := by rfl) (ha : a < 2 ^ 31 := by omega) (hb : b < 2 ^ 31 := by omega) : (x = y → A) ∧ (¬ x = y → B) := by
  subst hx hy
  rw [nI_eq ha hb]
  exact ⟨f, g⟩
theorem pk_in {x : Int32} (n N : Nat) (h : n < N) (hx : x = nI n := by rfl) (hN : N < 2 ^ 31 := by omega) : vp_in x N := by
  subst hx
  exact vp_in_nI h hN
theorem pk_cl {x : Int32} (n : Nat) (hx : x = nI n := by rfl) (h : n < 2 ^ 31 := by omega) : x.toNatClampNeg = n := by
  subst hx
  exact nI_clamp h
theorem pk_tn {n : Nat} (h : n < 2 ^ 32) : (nI n).toBitVec.toNat = n := Nat.mod_eq_of_lt h
theorem pk_and (x : Int32) {m : Int32} (k : Nat) (hm : m.toBitVec.toNat = 2 ^ k - 1) : x &&& m = nI (x.toBitVec.toNat % 2 ^ k) := by
  apply Int32.toBitVec_inj.mp
  apply BitVec.eq_of_toNat_eq
  rw [Int32.toBitVec_and, BitVec.toNat_and, hm, Nat.and_two_pow_sub_one_eq_mod]
  show _ = (BitVec.ofNat 32 _).toNat
  rw [BitVec.toNat_ofNat]
  exact (Nat.mod_eq_of_lt (Nat.lt_of_le_of_lt (Nat.mod_le _ _) x.toBitVec.isLt)).symm
theorem pk_andN {n : Nat} (h : n < 2 ^ 32) {m : Int32} (k : Nat) (hm : m.toBitVec.toNat = 2 ^ k - 1) : nI n &&& m = nI (n % 2 ^ k) := by
  rw [pk_and _ k hm, pk_tn h]
theorem pk_andE (x : Int32) {m : Int32} (k : Nat) (hm : m.toBitVec.toNat = 2 ^ k - 1) : ∃ j : Nat, j < 2 ^ k ∧ x &&& m = nI j := ⟨_, Nat.mod_lt _ (Nat.two_pow_pos k), pk_and x k hm⟩
theorem pk_andIn (x : Int32) {m : Int32} (k : Nat) (hm : m.toBitVec.toNat = 2 ^ k - 1) (hk : k ≤ 30) : vp_in (x &&& m) (2 ^ k) := by
  obtain ⟨j, hj, e⟩ := pk_andE x k hm
  rw [e]
  exact vp_in_nI hj (Nat.lt_of_le_of_lt (Nat.pow_le_pow_right (by decide) hk) (by decide))
theorem pk_shl (a s : Int32) (k : Nat) (hs : (s.toBitVec.smod 32).toNat = k) : (a <<< s).toBitVec.toNat = a.toBitVec.toNat * 2 ^ k % 2 ^ 32 := by
  show (a.toBitVec <<< (s.toBitVec.smod 32).toNat).toNat = _
  rw [hs, BitVec.toNat_shiftLeft, Nat.shiftLeft_eq]
theorem pk_shlN {n : Nat} (s : Int32) (k : Nat) (hs : (s.toBitVec.smod 32).toNat = k) (h : n * 2 ^ k < 2 ^ 32) : nI n <<< s = nI (n * 2 ^ k) := by
  apply Int32.toBitVec_inj.mp
  apply BitVec.eq_of_toNat_eq
  have hn : n < 2 ^ 32 := Nat.lt_of_le_of_lt (Nat.le_mul_of_pos_right n (Nat.two_pow_pos k)) h
  rw [pk_shl _ _ k hs, pk_tn hn, pk_tn h, Nat.mod_eq_of_lt h]
theorem pk_shr (a s : Int32) (k : Nat) (hs : (s.toBitVec.smod 32).toNat = k) : (a >>> s).toInt = a.toInt >>> k := by
  show (a.toBitVec.sshiftRight (s.toBitVec.smod 32).toNat).toInt = _
  rw [hs, BitVec.toInt_sshiftRight]
  rfl
theorem pk_shrN {n : Nat} (h : n < 2 ^ 31) (s : Int32) (k : Nat) (hs : (s.toBitVec.smod 32).toNat = k) : nI n >>> s = nI (n / 2 ^ k) := by
  apply Int32.toInt_inj.mp
  have h2 : n / 2 ^ k ≤ n := Nat.div_le_self _ _
  rw [pk_shr _ _ k hs, nI_toInt h, nI_toInt (by omega), Int.shiftRight_eq_div_pow]
  rfl
theorem pk_ushr (x s : Int32) (k : Nat) (hs : ((s.toUInt32 &&& Int32.toUInt32 31).toBitVec % 32).toNat = k) : (x.toUInt32 >>> (s.toUInt32 &&& Int32.toUInt32 31)).toInt32.toBitVec.toNat = x.toBitVec.toNat / 2 ^ k := by
  have e : (x.toUInt32 >>> (s.toUInt32 &&& Int32.toUInt32 31)).toInt32.toBitVec = x.toBitVec >>> k := by
    rw [← hs]
    exact UInt32.toBitVec_shiftRight _ _
  rw [e, BitVec.toNat_ushiftRight, Nat.shiftRight_eq_div_pow]
theorem pk_ushrN {n : Nat} (hn : n < 2 ^ 32) (s : Int32) (k : Nat) (hs : ((s.toUInt32 &&& Int32.toUInt32 31).toBitVec % 32).toNat = k) : ((nI n).toUInt32 >>> (s.toUInt32 &&& Int32.toUInt32 31)).toInt32 = nI (n / 2 ^ k) := by
  apply Int32.toBitVec_inj.mp
  apply BitVec.eq_of_toNat_eq
  rw [pk_ushr _ s k hs, pk_tn hn, pk_tn (Nat.lt_of_le_of_lt (Nat.div_le_self _ _) hn)]
theorem pk_nb (z : Int32) : narrow .byte (.int z.toInt8.toInt32) = .int z.toInt8.toInt32 := congrArg Value.int (by simp)
theorem pk_ns (z : Int32) : narrow .short (.int z.toInt16.toInt32) = .int z.toInt16.toInt32 := congrArg Value.int (by simp)
theorem pk_fb (r : Int32) : fits .byte (.int r.toInt8.toInt32) = true := by
  have ⟨a, b⟩ := lg_i2b_range r
  have h1 : (-128 : Int32).toInt = -128 := by decide
  have h2 : (127 : Int32).toInt = 127 := by decide
  simp only [fits, Bool.and_eq_true, decide_eq_true_eq, Int32.le_iff_toInt_le, h1, h2]
  omega
theorem pk_fs (r : Int32) : fits .short (.int r.toInt16.toInt32) = true := by
  have ⟨a, b⟩ := lg_i2s_range r
  have h1 : (-32768 : Int32).toInt = -32768 := by decide
  have h2 : (32767 : Int32).toInt = 32767 := by decide
  simp only [fits, Bool.and_eq_true, decide_eq_true_eq, Int32.le_iff_toInt_le, h1, h2]
  omega
theorem pk_charN {q : Nat} (hq : q < 65536) : narrow .char (.int (nI q)) = .int (nI q) ∧ fits .char (.int (nI q)) = true := by
  constructor
  · have e : (nI q).toUInt32.toUInt16.toUInt32.toInt32 = nI q := by
      apply Int32.toBitVec_inj.mp
      apply BitVec.eq_of_toNat_eq
      show (nI q).toUInt32.toUInt16.toUInt32.toNat = q % 2 ^ 32
      rw [UInt16.toNat_toUInt32, UInt32.toNat_toUInt16, show (nI q).toUInt32.toNat = q % 2 ^ 32 from rfl]
      omega
    exact congrArg Value.int e
  · have a : (0 : Int32) ≤ nI q := nI_pos' (by omega)
    have b : nI q ≤ 65535 := nI_le (b := 65535) (by omega) (by decide)
    show (decide ((0 : Int32) ≤ nI q) && decide (nI q ≤ 65535)) = true
    rw [decide_eq_true a, decide_eq_true b]
    rfl
theorem pk_char (x : Int32) : (x.toUInt32 % 65536).toInt32 = nI (x.toBitVec.toNat % 65536) := by
  apply Int32.toBitVec_inj.mp
  apply BitVec.eq_of_toNat_eq
  rw [pk_tn (by omega)]
  show (x.toUInt32 % 65536).toNat = _
  rw [UInt32.toNat_mod]
  rfl
theorem pk_nc (x : Int32) : narrow .char (.int (x.toUInt32 % 65536).toInt32) = .int (x.toUInt32 % 65536).toInt32 := by
  rw [pk_char]
  exact (pk_charN (Nat.mod_lt _ (by decide))).1
theorem pk_fc (x : Int32) : fits .char (.int (x.toUInt32 % 65536).toInt32) = true := by
  rw [pk_char]
  exact (pk_charN (Nat.mod_lt _ (by decide))).2
theorem pk_vb (z : Int32) : vp_nar .byte z.toInt8.toInt32 = z.toInt8.toInt32 := by rw [vp_nar_byte]; simp
theorem pk_vs (z : Int32) : vp_nar .short z.toInt16.toInt32 = z.toInt16.toInt32 := by rw [vp_nar_short]; simp
theorem pk_vc (z : Int32) : vp_nar .char (z.toUInt32 % 65536).toInt32 = (z.toUInt32 % 65536).toInt32 := Value.int.inj (pk_nc z)
/-! ===== Int32 by its bits: bt x i ===== -/
def bt (x : Int32) (i : Nat) : Bool := x.toBitVec.getLsbD i
theorem b_ext {x y : Int32} (h : ∀ i, i < 32 → bt x i = bt y i) : x = y := Int32.toBitVec_inj.mp (BitVec.eq_of_getLsbD_eq (fun i hi => h i hi))
theorem b_or (x y : Int32) (i : Nat) : bt (x ||| y) i = (bt x i || bt y i) := by unfold bt; rw [Int32.toBitVec_or, BitVec.getLsbD_or]
theorem b_and (x y : Int32) (i : Nat) : bt (x &&& y) i = (bt x i && bt y i) := by unfold bt; rw [Int32.toBitVec_and, BitVec.getLsbD_and]
theorem b_xor (x y : Int32) (i : Nat) : bt (x ^^^ y) i = (bt x i ^^ bt y i) := by unfold bt; rw [Int32.toBitVec_xor, BitVec.getLsbD_xor]
theorem b_big {x : Int32} {i : Nat} (h : 32 ≤ i) : bt x i = false := BitVec.getLsbD_of_ge _ _ h
theorem b_255 (i : Nat) : bt 255 i = decide (i < 8) := by
  rcases Nat.lt_or_ge i 32 with h | h
  · exact (by decide +kernel : ∀ i, i < 32 → bt 255 i = decide (i < 8)) i h
  · rw [b_big h, decide_eq_false (by omega)]
theorem b_65535 (i : Nat) : bt 65535 i = decide (i < 16) := by
  rcases Nat.lt_or_ge i 32 with h | h
  · exact (by decide +kernel : ∀ i, i < 32 → bt 65535 i = decide (i < 16)) i h
  · rw [b_big h, decide_eq_false (by omega)]
theorem b_m1 : ∀ i, i < 32 → bt (-1) i = true := by decide +kernel
theorem b_0 (i : Nat) : bt 0 i = false := BitVec.getLsbD_zero
theorem s_l : ∀ n, n < 32 → ((nI n &&& 31).toBitVec.smod 32).toNat = n := by decide +kernel
theorem s_u : ∀ n, n < 32 → (((nI n).toUInt32 &&& Int32.toUInt32 31).toBitVec % 32).toNat = n := by decide +kernel
theorem b_shl (n : Nat) (hn : n < 32) (x : Int32) {i : Nat} (hi : i < 32) : bt (x <<< (nI n &&& 31)) i = (decide (n ≤ i) && bt x (i - n)) := by
  unfold bt
  rw [Int32.toBitVec_shiftLeft]
  show (x.toBitVec <<< ((nI n &&& 31).toBitVec.smod 32).toNat).getLsbD i = _
  rw [s_l n hn, BitVec.getLsbD_shiftLeft]
  rcases Nat.lt_or_ge i n with h | h
  · simp [h, Nat.not_le.mpr h]
  · simp [hi, h, Nat.not_lt.mpr h]
theorem b_ushr (n : Nat) (hn : n < 32) (x : Int32) (i : Nat) : bt ((x.toUInt32 >>> ((nI n).toUInt32 &&& Int32.toUInt32 31)).toInt32) i = bt x (n + i) := by
  show (x.toUInt32 >>> ((nI n).toUInt32 &&& Int32.toUInt32 31)).toBitVec.getLsbD i = x.toUInt32.toBitVec.getLsbD (n + i)
  rw [UInt32.toBitVec_shiftRight]
  show (x.toUInt32.toBitVec >>> (((nI n).toUInt32 &&& Int32.toUInt32 31).toBitVec % 32).toNat).getLsbD i = _
  rw [s_u n hn, BitVec.getLsbD_ushiftRight]
theorem b_sshr (n : Nat) (hn : n < 32) (x : Int32) {i : Nat} (hi : i < 32) : bt (x >>> (nI n &&& 31)) i = if n + i < 32 then bt x (n + i) else bt x 31 := by
  unfold bt
  rw [Int32.toBitVec_shiftRight]
  show (x.toBitVec.sshiftRight ((nI n &&& 31).toBitVec.smod 32).toNat).getLsbD i = _
  rw [s_l n hn, BitVec.getLsbD_sshiftRight, BitVec.msb_eq_getLsbD_last]
  simp [hi]
theorem b_shl8 (x : Int32) {i : Nat} (hi : i < 32) : bt (x <<< ((8 : Int32) &&& 31)) i = (decide (8 ≤ i) && bt x (i - 8)) := b_shl 8 (by omega) x hi
theorem b_shl16 (x : Int32) {i : Nat} (hi : i < 32) : bt (x <<< ((16 : Int32) &&& 31)) i = (decide (16 ≤ i) && bt x (i - 16)) := b_shl 16 (by omega) x hi
theorem b_shl24 (x : Int32) {i : Nat} (hi : i < 32) : bt (x <<< ((24 : Int32) &&& 31)) i = (decide (24 ≤ i) && bt x (i - 24)) := b_shl 24 (by omega) x hi
theorem b_sshr8 (x : Int32) {i : Nat} (hi : i < 32) : bt (x >>> ((8 : Int32) &&& 31)) i = if 8 + i < 32 then bt x (8 + i) else bt x 31 := b_sshr 8 (by omega) x hi
/-! ===== nI under and, xor, >>>, one bit, 65535 ===== -/
theorem nx_and (a b : Nat) : nI a &&& nI b = nI (a &&& b) := by
  apply Int32.toBitVec_inj.1
  show BitVec.ofNat 32 a &&& BitVec.ofNat 32 b = BitVec.ofNat 32 (a &&& b)
  apply BitVec.eq_of_getLsbD_eq
  intro i hi
  simp [hi]
theorem nx_xor (a b : Nat) : nI a ^^^ nI b = nI (a ^^^ b) := by
  apply Int32.toBitVec_inj.1
  show BitVec.ofNat 32 a ^^^ BitVec.ofNat 32 b = BitVec.ofNat 32 (a ^^^ b)
  apply BitVec.eq_of_getLsbD_eq
  intro i hi
  simp [hi]
end
section
/-! base: images of pure functions, branches, bits, loops -/
section BASE
def im_n (f : Nat → Nat) : Nat → Int32 := fun j => nI (f j)
def im_bi (b : Bool) : Int32 := if b = true then 1 else 0
def im_b (f : Nat → Bool) : Nat → Int32 := fun j => im_bi (f j)
def im_oi (d : Int32) (o : Option Nat) : Int32 := match o with
  | none => d
  | some r => nI r
def im_o (d : Int32) (f : Nat → Option Nat) : Nat → Int32 := fun j => im_oi d (f j)
def im_u {α : Type} (f : Nat → α) (i : Nat) (v : α) : Nat → α := fun j => if j = i then v else f j
def im_m {α : Type} (i : Nat) (f g : Nat → α) : Nat → α := fun j => if j < i then f j else g j
theorem im_us {α : Type} {f : Nat → α} {i : Nat} {v : α} : im_u f i v i = v := if_pos rfl
theorem im_un {α : Type} {f : Nat → α} {i j : Nat} {v : α} (h : j ≠ i) : im_u f i v j = f j := if_neg h
theorem im_ue {α : Type} {f : Nat → α} {i j : Nat} {v : α} : im_u f i v j = if j = i then v else f j := rfl
theorem im_uid {α : Type} {f : Nat → α} {i : Nat} {v : α} (h : f i = v) : im_u f i v = f := by
  funext j
  rw [im_ue]
  split
  · rename_i e; rw [e, h]
  · rfl
theorem im_m0 {α : Type} {f g : Nat → α} : im_m 0 f g = g := rfl
theorem im_ms {α : Type} {i : Nat} {f g : Nat → α} {v : α} (h : f i = v) : im_u (im_m i f g) i v = im_m (i + 1) f g := by
  funext j
  unfold im_u im_m
  by_cases e : j = i
  · subst e; rw [if_pos rfl, if_pos (Nat.lt_succ_self _), h]
  · rw [if_neg e]
    by_cases l : j < i
    · rw [if_pos l, if_pos (by omega)]
    · rw [if_neg l, if_neg (by omega)]
theorem im_mk {α : Type} {i : Nat} {f g : Nat → α} (h : f i = g i) : im_m (i + 1) f g = im_m i f g := by
  funext j
  unfold im_m
  by_cases e : j = i
  · subst e; rw [if_pos (Nat.lt_succ_self _), if_neg (Nat.lt_irrefl _), h]
  · by_cases l : j < i
    · rw [if_pos l, if_pos (by omega)]
    · rw [if_neg l, if_neg (by omega)]
theorem im_mi {α : Type} {i : Nat} {f g : Nat → α} : im_m i f g i = g i := if_neg (Nat.lt_irrefl _)
theorem im_me {α : Type} {e : Nat} {f g : Nat → α} (h : ∀ a, e ≤ a → f a = g a) : im_m e f g = f := by
  funext j
  unfold im_m
  by_cases l : j < e
  · rw [if_pos l]
  · rw [if_neg l, h j (by omega)]
theorem im_nU {f : Nat → Nat} {i v : Nat} {x : Int32} (hx : x = nI v) : upd (im_n f) i x = im_n (im_u f i v) := by
  subst hx; funext j; unfold upd im_n im_u; split <;> rfl
theorem im_bU {f : Nat → Bool} {i : Nat} {v : Bool} {x : Int32} (hx : x = im_bi v) : upd (im_b f) i x = im_b (im_u f i v) := by
  subst hx; funext j; unfold upd im_b im_u; split <;> rfl
theorem im_oU {d : Int32} {f : Nat → Option Nat} {i : Nat} {v : Option Nat} {x : Int32} (hx : x = im_oi d v) : upd (im_o d f) i x = im_o d (im_u f i v) := by
  subst hx; funext j; unfold upd im_o im_u; split <;> rfl
theorem im_nS {f : Nat → Nat} {i v : Nat} {ix x : Int32} (hi : ix = nI i) (hb : i < 2 ^ 31) (hx : x = nI v) : upd (im_n f) ix.toNatClampNeg x = im_n (im_u f i v) := by
  rw [hi, nI_clamp hb]; exact im_nU hx
theorem im_bS {f : Nat → Bool} {i : Nat} {v : Bool} {ix x : Int32} (hi : ix = nI i) (hb : i < 2 ^ 31) (hx : x = im_bi v) : upd (im_b f) ix.toNatClampNeg x = im_b (im_u f i v) := by
  rw [hi, nI_clamp hb]; exact im_bU hx
theorem im_oS {d : Int32} {f : Nat → Option Nat} {i : Nat} {v : Option Nat} {ix x : Int32} (hi : ix = nI i) (hb : i < 2 ^ 31) (hx : x = im_oi d v) : upd (im_o d f) ix.toNatClampNeg x = im_o d (im_u f i v) := by
  rw [hi, nI_clamp hb]; exact im_oU hx
theorem im_uS {f : Nat → Int32} {i : Nat} {ix x y : Int32} (hi : ix = nI i) (hb : i < 2 ^ 31) (hx : x = y) : upd f ix.toNatClampNeg x = upd f i y := by
  rw [hi, nI_clamp hb, hx]
theorem im_nR {f : Nat → Nat} {i : Nat} {ix : Int32} (hi : ix = nI i) (hb : i < 2 ^ 31) : im_n f ix.toNatClampNeg = nI (f i) := by
  rw [hi, nI_clamp hb]; rfl
theorem im_bR {f : Nat → Bool} {i : Nat} {ix : Int32} (hi : ix = nI i) (hb : i < 2 ^ 31) : im_b f ix.toNatClampNeg = im_bi (f i) := by
  rw [hi, nI_clamp hb]; rfl
theorem im_oR {d : Int32} {f : Nat → Option Nat} {i : Nat} {ix : Int32} (hi : ix = nI i) (hb : i < 2 ^ 31) : im_o d f ix.toNatClampNeg = im_oi d (f i) := by
  rw [hi, nI_clamp hb]; rfl
theorem im_b0 : im_bi false = 0 := rfl
theorem im_b1 : im_bi true = 1 := rfl
theorem im_bn (b : Bool) : im_bi b = nI b.toNat := by cases b <;> rfl
theorem im_z {b : Bool} : im_bi b = 0 ↔ b = false := by cases b <;> decide
theorem im_o1 {b : Bool} : im_bi b = 1 ↔ b = true := by cases b <;> decide
theorem im_bc {b : Bool} {A B : Prop} (f : b = false → A) (g : b = true → B) : (im_bi b = 0 → A) ∧ (¬ im_bi b = 0 → B) := by
  cases b
  · exact ⟨fun _ => f rfl, fun h => absurd rfl h⟩
  · exact ⟨fun h => absurd h (by decide), fun _ => g rfl⟩
theorem im_bc1 {b : Bool} {A B : Prop} (f : b = false → A) (g : b = true → B) : (im_bi b = 1 → B) ∧ (¬ im_bi b = 1 → A) := by
  cases b
  · exact ⟨fun h => absurd h (by decide), fun _ => f rfl⟩
  · exact ⟨fun _ => g rfl, fun h => absurd rfl h⟩
theorem im_onn {d : Int32} : im_oi d none = d := rfl
theorem im_oss {d : Int32} {r : Nat} : im_oi d (some r) = nI r := rfl
/-- an option against 0 -/
theorem im_ol {d : Int32} {o : Option Nat} {A B : Prop} (hd : d < 0) (hb : ∀ r, o = some r → r < 2 ^ 31) (f : o = none → A) (g : ∀ r, o = some r → B) : (im_oi d o < 0 → A) ∧ (¬ im_oi d o < 0 → B) := by
  cases o with
  | none => exact ⟨fun _ => f rfl, fun h => absurd hd h⟩
  | some r => exact ⟨fun h => absurd h (nI_pos (hb r rfl)), fun _ => g r rfl⟩
theorem im_og {d : Int32} {o : Option Nat} {A B : Prop} (hd : d < 0) (hb : ∀ r, o = some r → r < 2 ^ 31) (f : o = none → A) (g : ∀ r, o = some r → B) : (0 ≤ im_oi d o → B) ∧ (¬ 0 ≤ im_oi d o → A) := by
  cases o with
  | none => exact ⟨fun h => absurd hd (Int32.not_lt.mpr h), fun _ => f rfl⟩
  | some r => exact ⟨fun _ => g r rfl, fun h => absurd (nI_pos' (hb r rfl)) h⟩
theorem im_oe {d : Int32} {o : Option Nat} {r : Nat} (hd : d < 0) (hb : ∀ q, o = some q → q < 2 ^ 31) (hr : r < 2 ^ 31) : im_oi d o = nI r ↔ o = some r := by
  cases o with
  | none =>
    constructor
    · intro h
      have h' : d = nI r := h
      exact absurd (h' ▸ hd) (nI_pos hr)
    · intro h; cases h
  | some q =>
    show nI q = nI r ↔ _
    rw [nI_eq (hb q rfl) hr]
    constructor
    · intro h; rw [h]
    · intro h; cases h; rfl
theorem im_m1 : (-1 : Int32) < 0 := by decide
theorem im_m2 : (-2 : Int32) < 0 := by decide
/-- small types -/
theorem im_by {v : Nat} (h : v < 128) : vp_nar .byte (nI v).toInt8.toInt32 = nI v := by
  rw [pk_vb, lg_i2b_small (by rw [nI_toInt (by omega)]; omega) (by rw [nI_toInt (by omega)]; omega)]
theorem im_byE {x : Int32} {v : Nat} (hx : x = nI v) (h : v < 128) : vp_nar .byte x.toInt8.toInt32 = nI v := by
  rw [hx]; exact im_by h
theorem im_by0 : vp_nar .byte 0 = nI 0 := by rw [vp_nar_byte]; decide
theorem im_by3 : vp_nar .byte 3 = nI 3 := by rw [vp_nar_byte]; decide
theorem im_bym : vp_nar .byte (-1) = -1 := by rw [vp_nar_byte]; decide
theorem im_bo0 : vp_nar .boolean 0 = im_bi false := by decide
theorem im_bo1 : vp_nar .boolean 1 = im_bi true := by decide
theorem im_boB (b : Bool) : vp_nar .boolean (im_bi b) = im_bi b := by cases b <;> decide
theorem im_sh0 : vp_nar .short 0 = 0 := by rw [vp_nar_short]; decide
/-- indices and ends -/
theorem ix_2 (a c : Nat) : 2 * nI a + nI c = nI (2 * a + c) := by
  show nI 2 * nI a + nI c = _
  rw [pk_mul, nI_add]
theorem ix_5 (a c : Nat) : 5 * nI a + nI c = nI (5 * a + c) := by
  show nI 5 * nI a + nI c = _
  rw [pk_mul, nI_add]
theorem ix_5m (a : Nat) : 5 * nI a = nI (5 * a) := pk_mul 5 a
theorem ix_h {a : Nat} (h : a < 2 ^ 31) : nI a / 2 = nI (a / 2) := pk_div (d := 2) h (by omega) (by omega)
def ix_op (a : Nat) : Nat := if a % 2 = 0 then a + 1 else a - 1
theorem ix_opx : ∀ a, a < 20 → nI a ^^^ 1 = nI (ix_op a) := by decide +kernel
theorem ix_op20 {a : Nat} (h : a < 20) : ix_op a < 20 := by unfold ix_op; split <;> omega
theorem ix_oph {a : Nat} : ix_op a / 2 = a / 2 := by unfold ix_op; split <;> omega
theorem ix_opn {a : Nat} : ix_op a ≠ a := by unfold ix_op; split <;> omega
theorem ix_opo {a : Nat} : ix_op (ix_op a) = a := by unfold ix_op; split <;> split <;> omega
theorem ix_20 : ¬ (2 : Int32) = 0 := by decide
/-- bits -/
theorem ib_1 (i : Nat) : bt 1 i = decide (i = 0) := by
  rcases Nat.lt_or_ge i 32 with h | h
  · exact (by decide +kernel : ∀ i, i < 32 → bt 1 i = decide (i = 0)) i h
  · rw [b_big h, decide_eq_false (by omega)]
theorem ib_bi (b : Bool) (i : Nat) : bt (im_bi b) i = (b && decide (i = 0)) := by
  cases b
  · exact b_0 i
  · rw [Bool.true_and]; exact ib_1 i
theorem ib_get (x : Int32) {n : Nat} (hn : n < 32) : ((x >>> (nI n &&& 31)) &&& 1) = im_bi (bt x n) := by
  apply b_ext
  intro i hi
  rw [b_and, b_sshr n hn x hi, ib_1, ib_bi]
  by_cases h : i = 0
  · subst h; rw [if_pos (by omega), Nat.add_zero]
  · rw [decide_eq_false h, Bool.and_false, Bool.and_false]
theorem ib_one {n : Nat} (hn : n < 32) (i : Nat) : bt ((1 : Int32) <<< (nI n &&& 31)) i = decide (i = n) := by
  rcases Nat.lt_or_ge i 32 with h | h
  · rw [b_shl n hn 1 h, ib_1]
    by_cases e : i = n
    · subst e; simp
    · rw [decide_eq_false e]
      by_cases l : n ≤ i
      · rw [decide_eq_false (p := i - n = 0) (by omega), Bool.and_false]
      · rw [decide_eq_false l, Bool.false_and]
  · rw [b_big h, decide_eq_false (by omega)]
theorem ib_set (x : Int32) {n : Nat} (hn : n < 32) (i : Nat) : bt (x ||| ((1 : Int32) <<< (nI n &&& 31))) i = (bt x i || decide (i = n)) := by
  rw [b_or, ib_one hn]
theorem ib_clr (x : Int32) {n : Nat} (hn : n < 32) (i : Nat) : bt (x &&& (((1 : Int32) <<< (nI n &&& 31)) ^^^ (-1))) i = (bt x i && !decide (i = n)) := by
  rcases Nat.lt_or_ge i 32 with h | h
  · rw [b_and, b_xor, ib_one hn, b_m1 i h, Bool.xor_true]
  · rw [b_big h, b_big h, Bool.false_and]
theorem ib_not (x : Int32) {i : Nat} (hi : i < 32) : bt (x ^^^ (-1)) i = !bt x i := by
  rw [b_xor, b_m1 i hi, Bool.xor_true]
theorem ib_z {x : Int32} : x = 0 ↔ ∀ i, i < 32 → bt x i = false := by
  constructor
  · intro h i _; rw [h]; exact b_0 i
  · intro h; apply b_ext; intro i hi; rw [h i hi, b_0]
theorem ib_and0 {x y : Int32} : x &&& y = 0 ↔ ∀ i, i < 32 → (bt x i && bt y i) = false := by
  rw [ib_z]
  constructor
  · intro h i hi; rw [← b_and]; exact h i hi
  · intro h i hi; rw [b_and]; exact h i hi
/-- a set of ten bits is a short -/
theorem ib_sh {x : Int32} (h : ∀ i, 15 ≤ i → bt x i = false) : vp_nar .short x.toInt16.toInt32 = x := by
  have hn : x.toBitVec.toNat < 2 ^ 15 := by
    apply Nat.lt_pow_two_of_testBit
    intro i hi
    exact h i hi
  have e : x.toInt = (x.toBitVec.toNat : Int) := BitVec.toInt_eq_toNat_of_lt (by omega)
  rw [pk_vs, lg_i2s_small (by rw [e]; omega) (by rw [e]; omega)]
/-- loops: a search, a run -/
theorem lq_find (W : Nat → Nat → Prop) (e : Nat) (P : Nat → Prop) (hend : ∀ n, (∀ i, i < e → ¬ P i) → W (n + 1) e) (hstep : ∀ n i, i < e → ¬ P i → W n (i + 1) → W (n + 1) i) (hhit : ∀ n i, i < e → (∀ k, k < i → ¬ P k) → P i → W (n + 1) i) : ∀ d i, i + d = e → (∀ k, k < i → ¬ P k) → W (d + 1) i := by
  intro d
  induction d with
  | zero =>
    intro i hi hp
    have hi' : i = e := hi
    subst hi'
    exact hend 0 hp
  | succ d ih =>
    intro i hi hp
    by_cases h : P i
    · exact hhit _ i (by omega) hp h
    · refine hstep _ i (by omega) h (ih (i + 1) (by omega) ?_)
      intro k hk
      by_cases hk' : k = i
      · rw [hk']; exact h
      · exact hp k (by omega)
theorem lq_find0 (W : Nat → Nat → Prop) (e : Nat) (P : Nat → Prop) (hend : ∀ n, (∀ i, i < e → ¬ P i) → W (n + 1) e) (hstep : ∀ n i, i < e → ¬ P i → W n (i + 1) → W (n + 1) i) (hhit : ∀ n i, i < e → (∀ k, k < i → ¬ P k) → P i → W (n + 1) i) : W (e + 1) 0 :=
  lq_find W e P hend hstep hhit e 0 (Nat.zero_add e) (fun k hk => absurd hk (Nat.not_lt_zero k))
theorem lq_run {σ : Type} (W : Nat → Nat → σ → Prop) (e : Nat) (s : Nat → σ) (hend : ∀ n, W (n + 1) e (s e)) (hstep : ∀ n i, i < e → W n (i + 1) (s (i + 1)) → W (n + 1) i (s i)) : ∀ d i, i + d = e → W (d + 1) i (s i) := by
  intro d
  induction d with
  | zero => intro i hi; have hi' : i = e := hi; subst hi'; exact hend 0
  | succ d ih => intro i hi; exact hstep _ i (by omega) (ih (i + 1) (by omega))
theorem lq_run0 {σ : Type} (W : Nat → Nat → σ → Prop) (e : Nat) (s : Nat → σ) (hend : ∀ n, W (n + 1) e (s e)) (hstep : ∀ n i, i < e → W n (i + 1) (s (i + 1)) → W (n + 1) i (s i)) : W (e + 1) 0 (s 0) :=
  lq_run W e s hend hstep e 0 (Nat.zero_add e)
end BASE
end
section
/-! the yard, pure: joints j < n with ends A j, B j; how many joints at an end, and which is the k-th -/
section STATIC
variable {A B : Nat → Nat}
def sk_at (A B : Nat → Nat) (j a : Nat) : Bool := decide (A j = a ∨ B j = a)
def sk_c (A B : Nat → Nat) : Nat → Nat → Nat
  | 0, _ => 0
  | n + 1, a => sk_c A B n a + (sk_at A B n a).toNat
def sk_n (A B : Nat → Nat) : Nat → Nat → Nat → Option Nat
  | 0, _, _ => none
  | n + 1, a, k => if sk_at A B n a = true ∧ sk_c A B n a = k then some n else sk_n A B n a k
def sk_o (A B : Nat → Nat) (j a : Nat) : Nat := if A j = a then B j else A j
theorem sk_atI {j a : Nat} : sk_at A B j a = true ↔ A j = a ∨ B j = a := by
  unfold sk_at; exact decide_eq_true_iff
theorem sk_atF {j a : Nat} : sk_at A B j a = false ↔ ¬ A j = a ∧ ¬ B j = a := by
  unfold sk_at; rw [decide_eq_false_iff_not, not_or]
theorem sk_cs (n a : Nat) : sk_c A B (n + 1) a = sk_c A B n a + (sk_at A B n a).toNat := rfl
theorem sk_cT {n a : Nat} (h : sk_at A B n a = true) : sk_c A B (n + 1) a = sk_c A B n a + 1 := by rw [sk_cs, h]; rfl
theorem sk_cF {n a : Nat} (h : sk_at A B n a = false) : sk_c A B (n + 1) a = sk_c A B n a := by rw [sk_cs, h]; rfl
theorem sk_cm {a : Nat} : ∀ {n m : Nat}, n ≤ m → sk_c A B n a ≤ sk_c A B m a := by
  intro n m h
  induction m with
  | zero => have : n = 0 := by omega
            subst this; exact Nat.le_refl _
  | succ m ih =>
    by_cases e : n = m + 1
    · subst e; exact Nat.le_refl _
    · have := ih (by omega)
      rw [sk_cs]; omega
theorem sk_ns {a k j : Nat} : ∀ n, sk_n A B n a k = some j ↔ j < n ∧ sk_at A B j a = true ∧ sk_c A B j a = k := by
  intro n
  induction n with
  | zero => constructor
            · intro h; cases h
            · intro h; exact absurd h.1 (Nat.not_lt_zero j)
  | succ n ih =>
    show (if sk_at A B n a = true ∧ sk_c A B n a = k then some n else sk_n A B n a k) = some j ↔ _
    by_cases h : sk_at A B n a = true ∧ sk_c A B n a = k
    · rw [if_pos h]
      constructor
      · intro e; cases e; exact ⟨Nat.lt_succ_self _, h⟩
      · rintro ⟨h1, h2, h3⟩
        by_cases e : j = n
        · rw [e]
        · have hm : sk_c A B (j + 1) a ≤ sk_c A B n a := sk_cm (by omega)
          rw [sk_cT h2] at hm
          omega
    · rw [if_neg h, ih]
      constructor
      · rintro ⟨h1, h2⟩; exact ⟨by omega, h2⟩
      · rintro ⟨h1, h2⟩
        by_cases e : j = n
        · subst e; exact absurd h2 h
        · exact ⟨by omega, h2⟩
theorem sk_nn {a k : Nat} : ∀ n, sk_n A B n a k = none ↔ sk_c A B n a ≤ k := by
  intro n
  induction n with
  | zero => constructor
            · intro _; exact Nat.zero_le _
            · intro _; rfl
  | succ n ih =>
    show (if sk_at A B n a = true ∧ sk_c A B n a = k then some n else sk_n A B n a k) = none ↔ _
    by_cases h : sk_at A B n a = true ∧ sk_c A B n a = k
    · rw [if_pos h, sk_cT h.1]
      constructor
      · intro e; cases e
      · intro e; omega
    · rw [if_neg h, ih]
      by_cases h2 : sk_at A B n a = true
      · rw [sk_cT h2]
        have : sk_c A B n a ≠ k := fun e => h ⟨h2, e⟩
        omega
      · rw [sk_cF (by simpa using h2)]
theorem sk_nlt {n a k : Nat} (h : k < sk_c A B n a) : ∃ j, sk_n A B n a k = some j := by
  cases e : sk_n A B n a k with
  | none => have := (sk_nn n).mp e; omega
  | some j => exact ⟨j, rfl⟩
theorem sk_nlt' {n a k j : Nat} (h : sk_n A B n a k = some j) : k < sk_c A B n a := by
  rcases Nat.lt_or_ge k (sk_c A B n a) with l | l
  · exact l
  · rw [(sk_nn n).mpr l] at h; cases h
theorem sk_o20 (hA : ∀ j, A j < 20) (hB : ∀ j, B j < 20) (j a : Nat) : sk_o A B j a < 20 := by
  unfold sk_o; split
  · exact hB j
  · exact hA j
/-- the ends of a joint that hangs at a: a and the other one -/
theorem sk_ends {j a x : Nat} (h : sk_at A B j a = true) : sk_at A B j x = true ↔ x = a ∨ x = sk_o A B j a := by
  rw [sk_atI] at h ⊢
  unfold sk_o
  by_cases e : A j = a
  · rw [if_pos e]; constructor
    · rintro (l | l)
      · exact Or.inl (l ▸ e)
      · exact Or.inr l.symm
    · rintro (l | l)
      · exact Or.inl (l ▸ e)
      · exact Or.inr l.symm
  · rw [if_neg e]
    have hb : B j = a := h.resolve_left e
    constructor
    · rintro (l | l)
      · exact Or.inr l.symm
      · exact Or.inl (l ▸ hb)
    · rintro (l | l)
      · exact Or.inr (l ▸ hb)
      · exact Or.inl l.symm
/-- a new joint -/
theorem sk_c_agree {A' B' : Nat → Nat} {n : Nat} (hA : ∀ j, j < n → A' j = A j) (hB : ∀ j, j < n → B' j = B j) (a : Nat) : sk_c A' B' n a = sk_c A B n a := by
  induction n with
  | zero => rfl
  | succ n ih =>
    rw [sk_cs, sk_cs, ih (fun j hj => hA j (by omega)) (fun j hj => hB j (by omega))]
    unfold sk_at
    rw [hA n (Nat.lt_succ_self n), hB n (Nat.lt_succ_self n)]
/-- the yard as the component holds it -/
def sk_St (A B : Nat → Nat) (nj : Nat) (jt : Nat → Int32) : Prop :=
  nj ≤ 12 ∧ (∀ j, A j < 20) ∧ (∀ j, B j < 20) ∧ (∀ j, j < nj → A j / 2 ≠ B j / 2) ∧ (∀ a, sk_c A B nj a ≤ 2) ∧ (∀ a k j, sk_n A B nj a k = some j → jt (2 * a + k) = nI j)
theorem sk_new {nj a b : Nat} {jt : Nat → Int32} (h : sk_St A B nj jt) (hn : nj < 12) (ha : a < 20) (hb : b < 20) (hab : a / 2 ≠ b / 2) (ca : sk_c A B nj a ≠ 2) (cb : sk_c A B nj b ≠ 2) :
    sk_St (im_u A nj a) (im_u B nj b) (nj + 1) (upd (upd jt (2 * a + sk_c A B nj a) (nI nj)) (2 * b + sk_c A B nj b) (nI nj)) ∧ im_u (im_u (sk_c A B nj) a (sk_c A B nj a + 1)) b (sk_c A B nj b + 1) = sk_c (im_u A nj a) (im_u B nj b) (nj + 1) := by
  obtain ⟨h1, h2, h3, h4, h5, h6⟩ := h
  have ca1 : sk_c A B nj a < 2 := by have := h5 a; omega
  have cb1 : sk_c A B nj b < 2 := by have := h5 b; omega
  have agA : ∀ j, j < nj → im_u A nj a j = A j := fun j hj => im_un (by omega)
  have agB : ∀ j, j < nj → im_u B nj b j = B j := fun j hj => im_un (by omega)
  have cn : ∀ m x, m ≤ nj → sk_c (im_u A nj a) (im_u B nj b) m x = sk_c A B m x := fun m x hm => sk_c_agree (fun j hj => agA j (by omega)) (fun j hj => agB j (by omega)) x
  have atn : ∀ x, sk_at (im_u A nj a) (im_u B nj b) nj x = decide (a = x ∨ b = x) := by
    intro x; unfold sk_at; rw [im_us, im_us]
  have hc : im_u (im_u (sk_c A B nj) a (sk_c A B nj a + 1)) b (sk_c A B nj b + 1) = sk_c (im_u A nj a) (im_u B nj b) (nj + 1) := by
    funext x
    rw [sk_cs, cn nj x (Nat.le_refl _), atn]
    by_cases xb : x = b
    · subst xb; rw [im_us, decide_eq_true (Or.inr rfl)]; rfl
    · rw [im_un xb]
      by_cases xa : x = a
      · subst xa; rw [im_us, decide_eq_true (Or.inl rfl)]; rfl
      · rw [im_un xa, decide_eq_false (by rintro (e | e); exact xa e.symm; exact xb e.symm)]; rfl
  refine ⟨⟨by omega, ?_, ?_, ?_, ?_, ?_⟩, hc⟩
  · intro j; rw [im_ue]; split
    · exact ha
    · exact h2 j
  · intro j; rw [im_ue]; split
    · exact hb
    · exact h3 j
  · intro j hj
    by_cases e : j = nj
    · subst e; rw [im_us, im_us]; exact hab
    · rw [agA j (by omega), agB j (by omega)]; exact h4 j (by omega)
  · intro x
    rw [← hc]
    by_cases xb : x = b
    · subst xb; rw [im_us]; omega
    · rw [im_un xb]
      by_cases xa : x = a
      · subst xa; rw [im_us]; omega
      · rw [im_un xa]; exact h5 x
  · intro x k j hj
    rw [sk_ns] at hj
    obtain ⟨j1, j2, j3⟩ := hj
    by_cases e : j = nj
    · subst e
      rw [atn] at j2
      rw [cn _ _ (Nat.le_refl _)] at j3
      subst j3
      rcases of_decide_eq_true j2 with e | e
      · subst e
        rw [pk_un (by omega), pk_us]
      · subst e
        rw [pk_us]
    · have hj' : sk_n A B nj x k = some j := by
        rw [sk_ns]
        refine ⟨by omega, ?_, ?_⟩
        · rw [← j2]; unfold sk_at; rw [agA j (by omega), agB j (by omega)]
        · rw [← j3, cn j x (by omega)]
      have kl := sk_nlt' hj'
      have k2 := h5 x
      have e1 : 2 * x + k ≠ 2 * b + sk_c A B nj b := by
        intro q
        have : x = b := by omega
        subst this; omega
      have e2 : 2 * x + k ≠ 2 * a + sk_c A B nj a := by
        intro q
        have : x = a := by omega
        subst this; omega
      rw [pk_un e1, pk_un e2]
      exact h6 x k j hj'
end STATIC
end
section
/-! ways through the yard, pure: by depth (the component), by codes (the reference) -/
section PATHS
variable {nx : Nat → Nat → Option (Nat × Nat)} {tm : Nat → Bool}
def pa_s {α : Type} (f : Nat → List α) : Nat → List α
  | 0 => []
  | n + 1 => pa_s f n ++ f n
theorem pa_ss {α : Type} {f : Nat → List α} {n : Nat} : pa_s f (n + 1) = pa_s f n ++ f n := rfl
theorem pa_sc {α : Type} {f g : Nat → List α} {n : Nat} (h : ∀ i, i < n → f i = g i) : pa_s f n = pa_s g n := by
  induction n with
  | zero => rfl
  | succ n ih => rw [pa_ss, pa_ss, ih (fun i hi => h i (by omega)), h n (Nat.lt_succ_self n)]
theorem pa_sa {α : Type} {f : Nat → List α} {n : Nat} : ∀ m, pa_s f (n + m) = pa_s f n ++ pa_s (fun i => f (n + i)) m := by
  intro m
  induction m with
  | zero => show pa_s f n = pa_s f n ++ []; rw [List.append_nil]
  | succ m ih =>
    show pa_s f (n + m) ++ f (n + m) = pa_s f n ++ (pa_s (fun i => f (n + i)) m ++ f (n + m))
    rw [ih, List.append_assoc]
theorem pa_s0 {α : Type} {f : Nat → List α} {n : Nat} (h : ∀ i, i < n → f i = []) : pa_s f n = [] := by
  induction n with
  | zero => rfl
  | succ n ih => rw [pa_ss, ih (fun i hi => h i (by omega)), h n (Nat.lt_succ_self n)]; rfl
theorem pa_s1 {α : Type} {x : α} : ∀ {n : Nat}, 0 < n → pa_s (fun i => if i = 0 then [x] else []) n = [x] := by
  intro n h
  obtain ⟨m, rfl⟩ : ∃ m, n = 1 + m := ⟨n - 1, by omega⟩
  have e : pa_s (fun i => if 1 + i = 0 then [x] else []) m = [] := pa_s0 (fun i _ => if_neg (by omega))
  rw [pa_sa, e]
  rfl
def pa_b (nx : Nat → Nat → Option (Nat × Nat)) (tm : Nat → Bool) (rc : Nat → List Nat → List (Nat × Nat) → List (List (Nat × Nat))) (c a : Nat) (seen : List Nat) (pre : List (Nat × Nat)) : List (List (Nat × Nat)) :=
  match nx a c with
  | none => []
  | some q => if q.2 / 2 ∈ seen then [] else if tm (ix_op q.2) = true then [pre ++ [q]] else rc (ix_op q.2) (q.2 / 2 :: seen) (pre ++ [q])
def pa_d (nx : Nat → Nat → Option (Nat × Nat)) (tm : Nat → Bool) : Nat → Nat → List Nat → List (Nat × Nat) → List (List (Nat × Nat))
  | 0 => fun _ _ _ => []
  | d + 1 => fun a seen pre => pa_b nx tm (pa_d nx tm d) 0 a seen pre ++ pa_b nx tm (pa_d nx tm d) 1 a seen pre
def pa_w (nx : Nat → Nat → Option (Nat × Nat)) (tm : Nat → Bool) : Nat → Nat → Nat → List Nat → List (Nat × Nat) → List (List (Nat × Nat))
  | 0 => fun _ _ _ _ => []
  | d + 1 => fun code a seen pre => match nx a (code / 2 ^ d % 2) with
    | none => []
    | some q => if q.2 / 2 ∈ seen then [] else if tm (ix_op q.2) = true then (if code % 2 ^ d = 0 then [pre ++ [q]] else []) else pa_w nx tm d code (ix_op q.2) (q.2 / 2 :: seen) (pre ++ [q])
theorem pa_bn {rc : Nat → List Nat → List (Nat × Nat) → List (List (Nat × Nat))} {c a : Nat} {seen : List Nat} {pre : List (Nat × Nat)} (h : nx a c = none) : pa_b nx tm rc c a seen pre = [] := by
  unfold pa_b; rw [h]
theorem pa_bs {rc : Nat → List Nat → List (Nat × Nat) → List (List (Nat × Nat))} {c a : Nat} {seen : List Nat} {pre : List (Nat × Nat)} {q : Nat × Nat} (h : nx a c = some q) : pa_b nx tm rc c a seen pre = if q.2 / 2 ∈ seen then [] else if tm (ix_op q.2) = true then [pre ++ [q]] else rc (ix_op q.2) (q.2 / 2 :: seen) (pre ++ [q]) := by
  unfold pa_b; rw [h]
theorem pa_wn {d code a : Nat} {seen : List Nat} {pre : List (Nat × Nat)} (h : nx a (code / 2 ^ d % 2) = none) : pa_w nx tm (d + 1) code a seen pre = [] := by
  show (match nx a (code / 2 ^ d % 2) with
    | none => []
    | some q => if q.2 / 2 ∈ seen then [] else if tm (ix_op q.2) = true then (if code % 2 ^ d = 0 then [pre ++ [q]] else []) else pa_w nx tm d code (ix_op q.2) (q.2 / 2 :: seen) (pre ++ [q])) = _
  rw [h]
theorem pa_ws {d code a : Nat} {seen : List Nat} {pre : List (Nat × Nat)} {q : Nat × Nat} (h : nx a (code / 2 ^ d % 2) = some q) : pa_w nx tm (d + 1) code a seen pre = if q.2 / 2 ∈ seen then [] else if tm (ix_op q.2) = true then (if code % 2 ^ d = 0 then [pre ++ [q]] else []) else pa_w nx tm d code (ix_op q.2) (q.2 / 2 :: seen) (pre ++ [q]) := by
  show (match nx a (code / 2 ^ d % 2) with
    | none => []
    | some q => if q.2 / 2 ∈ seen then [] else if tm (ix_op q.2) = true then (if code % 2 ^ d = 0 then [pre ++ [q]] else []) else pa_w nx tm d code (ix_op q.2) (q.2 / 2 :: seen) (pre ++ [q])) = _
  rw [h]
theorem pa_div (m i d : Nat) : (m * 2 ^ (d + 1) + i) / 2 ^ d % 2 = i / 2 ^ d % 2 := by
  have h : m * 2 ^ (d + 1) + i = i + 2 ^ d * (2 * m) := by
    rw [Nat.pow_succ, Nat.add_comm, Nat.mul_comm m, Nat.mul_assoc]
  rw [h, Nat.add_mul_div_left _ _ (Nat.two_pow_pos d), Nat.add_mul_mod_self_left]
theorem pa_mod (m i d : Nat) : (m * 2 ^ (d + 1) + i) % 2 ^ d = i % 2 ^ d := by
  have h : m * 2 ^ (d + 1) + i = i + 2 ^ d * (2 * m) := by
    rw [Nat.pow_succ, Nat.add_comm, Nat.mul_comm m, Nat.mul_assoc]
  rw [h, Nat.add_mul_mod_self_left]
theorem pa_per : ∀ (d m i a : Nat) (seen : List Nat) (pre : List (Nat × Nat)), pa_w nx tm d (m * 2 ^ d + i) a seen pre = pa_w nx tm d i a seen pre := by
  intro d
  induction d with
  | zero => intros; rfl
  | succ d ih =>
    intro m i a seen pre
    have e1 := pa_div m i d
    have e2 := pa_mod m i d
    cases h : nx a (i / 2 ^ d % 2) with
    | none => rw [pa_wn h, pa_wn (e1 ▸ h)]
    | some q =>
      rw [pa_ws h, pa_ws (q := q) (e1 ▸ h), e2]
      have e3 : m * 2 ^ (d + 1) + i = (2 * m) * 2 ^ d + i := by rw [Nat.pow_succ]; rw [Nat.mul_comm 2 m, Nat.mul_assoc, Nat.mul_comm 2]
      rw [e3, ih]
theorem pa_half {d c a : Nat} {seen : List Nat} {pre : List (Nat × Nat)} (hc : c < 2) (ih : ∀ a seen pre, pa_s (fun k => pa_w nx tm d k a seen pre) (2 ^ d) = pa_d nx tm d a seen pre) : pa_s (fun i => pa_w nx tm (d + 1) (c * 2 ^ d + i) a seen pre) (2 ^ d) = pa_b nx tm (pa_d nx tm d) c a seen pre := by
  have e1 : ∀ i, i < 2 ^ d → (c * 2 ^ d + i) / 2 ^ d % 2 = c := by
    intro i hi
    rw [Nat.add_comm, Nat.mul_comm, Nat.add_mul_div_left _ _ (Nat.two_pow_pos d), Nat.div_eq_of_lt hi, Nat.zero_add, Nat.mod_eq_of_lt hc]
  have e2 : ∀ i, i < 2 ^ d → (c * 2 ^ d + i) % 2 ^ d = i := by
    intro i hi
    rw [Nat.add_comm, Nat.mul_comm, Nat.add_mul_mod_self_left, Nat.mod_eq_of_lt hi]
  cases h : nx a c with
  | none =>
    rw [pa_bn h]
    exact pa_s0 (fun i hi => pa_wn (by rw [e1 i hi]; exact h))
  | some q =>
    rw [pa_bs h]
    have hw : ∀ i, i < 2 ^ d → pa_w nx tm (d + 1) (c * 2 ^ d + i) a seen pre = if q.2 / 2 ∈ seen then [] else if tm (ix_op q.2) = true then (if i = 0 then [pre ++ [q]] else []) else pa_w nx tm d i (ix_op q.2) (q.2 / 2 :: seen) (pre ++ [q]) := by
      intro i hi
      rw [pa_ws (q := q) (by rw [e1 i hi]; exact h), e2 i hi, pa_per]
    rw [pa_sc hw]
    by_cases h1 : q.2 / 2 ∈ seen
    · rw [if_pos h1]
      exact pa_s0 (fun i _ => if_pos h1)
    · rw [if_neg h1]
      by_cases h2 : tm (ix_op q.2) = true
      · rw [if_pos h2]
        rw [pa_sc (g := fun i => if i = 0 then [pre ++ [q]] else []) (fun i _ => by rw [if_neg h1, if_pos h2])]
        exact pa_s1 (Nat.two_pow_pos d)
      · rw [if_neg h2]
        rw [pa_sc (g := fun i => pa_w nx tm d i (ix_op q.2) (q.2 / 2 :: seen) (pre ++ [q])) (fun i _ => by rw [if_neg h1, if_neg h2])]
        exact ih _ _ _
/-- the codes in their order give the ways in theirs -/
theorem pa_codes : ∀ (d a : Nat) (seen : List Nat) (pre : List (Nat × Nat)), pa_s (fun k => pa_w nx tm d k a seen pre) (2 ^ d) = pa_d nx tm d a seen pre := by
  intro d
  induction d with
  | zero => intros; rfl
  | succ d ih =>
    intro a seen pre
    have e : 2 ^ (d + 1) = 2 ^ d + 2 ^ d := by rw [Nat.pow_succ]; omega
    have h0 := pa_half (c := 0) (a := a) (seen := seen) (pre := pre) (by omega) ih
    have h1 := pa_half (c := 1) (a := a) (seen := seen) (pre := pre) (by omega) ih
    rw [e, pa_sa]
    show _ = pa_b nx tm (pa_d nx tm d) 0 a seen pre ++ pa_b nx tm (pa_d nx tm d) 1 a seen pre
    rw [← h0, ← h1]
    congr 1
    · exact pa_sc (fun i _ => by rw [Nat.zero_mul, Nat.zero_add])
    · exact pa_sc (fun i _ => by rw [Nat.one_mul])
/-- what is left of a node from its choice c on -/
def pa_r (nx : Nat → Nat → Option (Nat × Nat)) (tm : Nat → Bool) (d : Nat) (c a : Nat) (seen : List Nat) (pre : List (Nat × Nat)) : List (List (Nat × Nat)) :=
  if c = 0 then pa_b nx tm (pa_d nx tm d) 0 a seen pre ++ pa_b nx tm (pa_d nx tm d) 1 a seen pre else if c = 1 then pa_b nx tm (pa_d nx tm d) 1 a seen pre else []
theorem pa_r0 {d a : Nat} {seen : List Nat} {pre : List (Nat × Nat)} : pa_d nx tm (d + 1) a seen pre = pa_r nx tm d 0 a seen pre := rfl
theorem pa_rs {d c a : Nat} {seen : List Nat} {pre : List (Nat × Nat)} (hc : c < 2) : pa_r nx tm d c a seen pre = pa_b nx tm (pa_d nx tm d) c a seen pre ++ pa_r nx tm d (c + 1) a seen pre := by
  have : c = 0 ∨ c = 1 := by omega
  rcases this with rfl | rfl
  · rfl
  · show pa_b nx tm (pa_d nx tm d) 1 a seen pre = pa_b nx tm (pa_d nx tm d) 1 a seen pre ++ []
    rw [List.append_nil]
theorem pa_rn {d c a : Nat} {seen : List Nat} {pre : List (Nat × Nat)} (h : ∀ k, c ≤ k → nx a k = none) : pa_r nx tm d c a seen pre = [] := by
  unfold pa_r
  by_cases h0 : c = 0
  · rw [if_pos h0, pa_bn (h 0 (by omega)), pa_bn (h 1 (by omega))]; rfl
  · rw [if_neg h0]
    by_cases h1 : c = 1
    · rw [if_pos h1, pa_bn (h 1 (by omega))]
    · rw [if_neg h1]
/-- what holds of a way: pre from the end s -/
def pa_l (s : Nat) (p : List (Nat × Nat)) (k : Nat) : Nat := if k = 0 then s else ix_op (p.getD (k - 1) (0, 0)).2
def pa_G (nx : Nat → Nat → Option (Nat × Nat)) (s : Nat) (p : List (Nat × Nat)) : Prop :=
  ∀ k, k < p.length → (∃ c, nx (pa_l s p k) c = some (p.getD k (0, 0))) ∧ (p.getD k (0, 0)).2 / 2 ≠ s / 2 ∧ ∀ i, i < k → (p.getD k (0, 0)).2 / 2 ≠ (p.getD i (0, 0)).2 / 2
def pa_P (nx : Nat → Nat → Option (Nat × Nat)) (tm : Nat → Bool) (s : Nat) (p : List (Nat × Nat)) (a : Nat) (seen : List Nat) : Prop :=
  a = pa_l s p p.length ∧ pa_G nx s p ∧ (∀ x, x ∈ seen ↔ x = s / 2 ∨ ∃ k, k < p.length ∧ (p.getD k (0, 0)).2 / 2 = x) ∧ (∀ k, k < p.length → tm (ix_op (p.getD k (0, 0)).2) = false)
def pa_V (nx : Nat → Nat → Option (Nat × Nat)) (tm : Nat → Bool) (s : Nat) (p : List (Nat × Nat)) : Prop :=
  1 ≤ p.length ∧ p.length ≤ 5 ∧ pa_G nx s p ∧ (∀ k, k + 1 < p.length → tm (ix_op (p.getD k (0, 0)).2) = false) ∧ tm (ix_op (p.getD (p.length - 1) (0, 0)).2) = true
theorem pa_P0 {s : Nat} : pa_P nx tm s [] s [s / 2] := by
  refine ⟨rfl, fun k hk => absurd hk (Nat.not_lt_zero k), fun x => ?_, fun k hk => absurd hk (Nat.not_lt_zero k)⟩
  rw [List.mem_singleton]
  constructor
  · exact Or.inl
  · rintro (h | ⟨k, hk, _⟩)
    · exact h
    · exact absurd hk (Nat.not_lt_zero k)
theorem pa_gl {p : List (Nat × Nat)} {q : Nat × Nat} {k : Nat} (h : k < p.length) : (p ++ [q]).getD k (0, 0) = p.getD k (0, 0) := by
  rw [List.getD_eq_getElem?_getD, List.getD_eq_getElem?_getD, List.getElem?_append_left h]
theorem pa_gq {p : List (Nat × Nat)} {q : Nat × Nat} : (p ++ [q]).getD p.length (0, 0) = q := by
  rw [List.getD_eq_getElem?_getD, List.getElem?_append_right (Nat.le_refl _), Nat.sub_self]; rfl
theorem pa_len {p : List (Nat × Nat)} {q : Nat × Nat} : (p ++ [q]).length = p.length + 1 := by
  rw [List.length_append]; rfl
theorem pa_ll {s : Nat} {p : List (Nat × Nat)} {q : Nat × Nat} {k : Nat} (h : k ≤ p.length) : pa_l s (p ++ [q]) k = pa_l s p k := by
  unfold pa_l
  by_cases e : k = 0
  · rw [if_pos e, if_pos e]
  · rw [if_neg e, if_neg e, pa_gl (by omega)]
theorem pa_lq {s : Nat} {p : List (Nat × Nat)} {q : Nat × Nat} : pa_l s (p ++ [q]) (p.length + 1) = ix_op q.2 := by
  unfold pa_l
  rw [if_neg (by omega), Nat.add_sub_cancel, pa_gq]
theorem pa_Gs {s a c : Nat} {p : List (Nat × Nat)} {q : Nat × Nat} {seen : List Nat} (h : pa_P nx tm s p a seen) (hq : nx a c = some q) (hs : ¬ q.2 / 2 ∈ seen) : pa_G nx s (p ++ [q]) := by
  obtain ⟨h1, h2, h3, h4⟩ := h
  intro k hk
  rw [pa_len] at hk
  by_cases e : k = p.length
  · subst e
    rw [pa_gq, pa_ll (Nat.le_refl _), ← h1]
    refine ⟨⟨c, hq⟩, fun z => hs ((h3 _).mpr (Or.inl z)), fun i hi z => hs ((h3 _).mpr (Or.inr ⟨i, hi, ?_⟩))⟩
    rw [z, pa_gl hi]
  · have hk' : k < p.length := by omega
    rw [pa_gl hk', pa_ll (by omega)]
    obtain ⟨g1, g2, g3⟩ := h2 k hk'
    refine ⟨g1, g2, fun i hi => ?_⟩
    rw [pa_gl (by omega)]
    exact g3 i hi
theorem pa_Ps {s a c : Nat} {p : List (Nat × Nat)} {q : Nat × Nat} {seen : List Nat} (h : pa_P nx tm s p a seen) (hq : nx a c = some q) (hs : ¬ q.2 / 2 ∈ seen) (ht : tm (ix_op q.2) = false) : pa_P nx tm s (p ++ [q]) (ix_op q.2) (q.2 / 2 :: seen) := by
  have hG := pa_Gs h hq hs
  obtain ⟨h1, h2, h3, h4⟩ := h
  refine ⟨?_, hG, ?_, ?_⟩
  · rw [pa_len, pa_lq]
  · intro x
    rw [List.mem_cons, h3, pa_len]
    constructor
    · rintro (e | e | ⟨k, hk, e⟩)
      · exact Or.inr ⟨p.length, by omega, by rw [pa_gq, e]⟩
      · exact Or.inl e
      · exact Or.inr ⟨k, by omega, by rw [pa_gl hk, e]⟩
    · rintro (e | ⟨k, hk, e⟩)
      · exact Or.inr (Or.inl e)
      · by_cases z : k = p.length
        · subst z; rw [pa_gq] at e; exact Or.inl e.symm
        · rw [pa_gl (by omega)] at e; exact Or.inr (Or.inr ⟨k, by omega, e⟩)
  · intro k hk
    rw [pa_len] at hk
    by_cases z : k = p.length
    · subst z; rw [pa_gq]; exact ht
    · rw [pa_gl (by omega)]; exact h4 k (by omega)
theorem pa_valid {s : Nat} : ∀ (d a : Nat) (seen : List Nat) (pre : List (Nat × Nat)), pa_P nx tm s pre a seen → pre.length + d ≤ 5 → ∀ p, p ∈ pa_d nx tm d a seen pre → pa_V nx tm s p := by
  intro d
  induction d with
  | zero => intro a seen pre _ _ p hp; exact absurd hp List.not_mem_nil
  | succ d ih =>
    intro a seen pre hP hl p hp
    have key : ∀ c, p ∈ pa_b nx tm (pa_d nx tm d) c a seen pre → pa_V nx tm s p := by
      intro c hc
      cases hq : nx a c with
      | none => rw [pa_bn hq] at hc; exact absurd hc List.not_mem_nil
      | some q =>
        rw [pa_bs hq] at hc
        by_cases h1 : q.2 / 2 ∈ seen
        · rw [if_pos h1] at hc; exact absurd hc List.not_mem_nil
        · rw [if_neg h1] at hc
          by_cases h2 : tm (ix_op q.2) = true
          · rw [if_pos h2, List.mem_singleton] at hc
            subst hc
            refine ⟨by rw [pa_len]; omega, by rw [pa_len]; omega, pa_Gs hP hq h1, ?_, ?_⟩
            · intro k hk
              rw [pa_len] at hk
              rw [pa_gl (by omega)]
              exact hP.2.2.2 k (by omega)
            · rw [pa_len, Nat.add_sub_cancel, pa_gq]; exact h2
          · rw [if_neg h2] at hc
            exact ih _ _ _ (pa_Ps hP hq h1 (by simpa using h2)) (by rw [pa_len]; omega) p hc
    rcases List.mem_append.mp hp with h | h
    · exact key 0 h
    · exact key 1 h
/-- the list of routes, sixteen at most -/
def pa_cp {α : Type} (L xs : List α) : List α := (L ++ xs).take 16
theorem pa_tt {α : Type} (L ys : List α) : (L.take 16 ++ ys).take 16 = (L ++ ys).take 16 := by
  rw [List.take_append, List.take_append, List.take_take, Nat.min_self, List.length_take]
  congr 2
  omega
theorem pa_cpa {α : Type} (L xs ys : List α) : pa_cp (pa_cp L xs) ys = pa_cp L (xs ++ ys) := by
  unfold pa_cp
  rw [pa_tt, List.append_assoc]
theorem pa_cpl {α : Type} (L xs : List α) : (pa_cp L xs).length ≤ 16 := by
  unfold pa_cp; rw [List.length_take]; omega
theorem pa_cpn {α : Type} {L : List α} (h : L.length ≤ 16) : pa_cp L [] = L := by
  unfold pa_cp; rw [List.append_nil, List.take_of_length_le h]
theorem pa_cpf {α : Type} {L : List α} (xs : List α) (h : L.length = 16) : pa_cp L xs = L := by
  unfold pa_cp; rw [List.take_append, h, Nat.sub_self, List.take_zero, List.append_nil, List.take_of_length_le (by omega)]
theorem pa_cp1 {α : Type} {L : List α} {x : α} (h : L.length < 16) : pa_cp L [x] = L ++ [x] := by
  unfold pa_cp; rw [List.take_of_length_le]; rw [List.length_append]; show L.length + 1 ≤ 16; omega
def pa_M (nx : Nat → Nat → Option (Nat × Nat)) (tm sg : Nat → Bool) (i : Nat) : List (Nat × List (Nat × Nat)) :=
  pa_s (fun a => if sg a = true then (pa_d nx tm 5 a [a / 2] []).map (Prod.mk a) else []) i
def pa_L (nx : Nat → Nat → Option (Nat × Nat)) (tm sg : Nat → Bool) : List (Nat × List (Nat × Nat)) := pa_cp [] (pa_M nx tm sg 20)
theorem pa_smem {α : Type} {f : Nat → List α} {x : α} : ∀ {n : Nat}, x ∈ pa_s f n → ∃ i, i < n ∧ x ∈ f i := by
  intro n
  induction n with
  | zero => intro h; exact absurd h List.not_mem_nil
  | succ n ih =>
    intro h
    rcases List.mem_append.mp h with h | h
    · obtain ⟨i, h1, h2⟩ := ih h; exact ⟨i, by omega, h2⟩
    · exact ⟨n, Nat.lt_succ_self n, h⟩
theorem pa_Lv {sg : Nat → Bool} {x : Nat × List (Nat × Nat)} (h : x ∈ pa_L nx tm sg) : x.1 < 20 ∧ sg x.1 = true ∧ pa_V nx tm x.1 x.2 := by
  have h' : x ∈ pa_M nx tm sg 20 := by
    have := List.mem_of_mem_take h
    rwa [List.nil_append] at this
  obtain ⟨i, h1, h2⟩ := pa_smem h'
  by_cases e : sg i = true
  · rw [if_pos e] at h2
    obtain ⟨p, hp, e2⟩ := List.mem_map.mp h2
    subst e2
    exact ⟨h1, e, pa_valid 5 i [i / 2] [] pa_P0 (by decide) p hp⟩
  · rw [if_neg e] at h2; exact absurd h2 List.not_mem_nil
end PATHS
end
section
/-! the small methods of both, over the yard -/
section SMALL
variable {xjc xfd xrc xsr xoc xwg : Int32} {xjA xjB xcA xjt xhs xps xso xlo xrj xre xrs xnd xnp xcf xwe xwc xwt xto xlk xnc xhd xro xpg xrt xsz xrg : Nat → Int32}
variable {yjs yrs : Int32} {yon ytw ysg yps yfr yln yjt yen yst ywt yhl ylk yhd yun yed yrv ymt ynx : Nat → Int32}
variable {A B : Nat → Nat} {nj : Nat} {post : Int32 → Prop}
theorem xs_endL {x : Int32} (h : x < 0) (h0 : post 0) : wpX_isEnd post (xjc, xfd, xrc, xsr, xoc, xwg, xjA, xjB, xcA, xjt, xhs, xps, xso, xlo, xrj, xre, xrs, xnd, xnp, xcf, xwe, xwc, xwt, xto, xlk, xnc, xhd, xro, xpg, xrt, xsz, xrg) x := br_t h h0
theorem xs_endG {x : Int32} (h : nI 20 ≤ x) (h0 : post 0) : wpX_isEnd post (xjc, xfd, xrc, xsr, xoc, xwg, xjA, xjB, xcA, xjt, xhs, xps, xso, xlo, xrj, xre, xrs, xnd, xnp, xcf, xwe, xwc, xwt, xto, xlk, xnc, xhd, xro, xpg, xrt, xsz, xrg) x :=
  br_c (fun _ => h0) (fun _ => br_t h h0)
theorem xs_endM {a : Nat} (h : a < 20) (h0 : post 1) : wpX_isEnd post (xjc, xfd, xrc, xsr, xoc, xwg, xjA, xjB, xcA, xjt, xhs, xps, xso, xlo, xrj, xre, xrs, xnd, xnp, xcf, xwe, xwc, xwt, xto, xlk, xnc, xhd, xro, xpg, xrt, xsz, xrg) (nI a) :=
  br_f (nI_pos (by omega)) (br_f (nI_ge (b := 20) h (by omega)) h0)
theorem xs_trL {x : Int32} (h : x < 0) (h0 : post 0) : wpX_isTrain post (xjc, xfd, xrc, xsr, xoc, xwg, xjA, xjB, xcA, xjt, xhs, xps, xso, xlo, xrj, xre, xrs, xnd, xnp, xcf, xwe, xwc, xwt, xto, xlk, xnc, xhd, xro, xpg, xrt, xsz, xrg) x := br_t h h0
theorem xs_trG {x : Int32} (h : nI 3 ≤ x) (h0 : post 0) : wpX_isTrain post (xjc, xfd, xrc, xsr, xoc, xwg, xjA, xjB, xcA, xjt, xhs, xps, xso, xlo, xrj, xre, xrs, xnd, xnp, xcf, xwe, xwc, xwt, xto, xlk, xnc, xhd, xro, xpg, xrt, xsz, xrg) x :=
  br_c (fun _ => h0) (fun _ => br_t h h0)
theorem xs_trM {a : Nat} (h : a < 3) (h0 : post 1) : wpX_isTrain post (xjc, xfd, xrc, xsr, xoc, xwg, xjA, xjB, xcA, xjt, xhs, xps, xso, xlo, xrj, xre, xrs, xnd, xnp, xcf, xwe, xwc, xwt, xto, xlk, xnc, xhd, xro, xpg, xrt, xsz, xrg) (nI a) :=
  br_f (nI_pos (by omega)) (br_f (nI_ge (b := 3) h (by omega)) h0)
theorem xs_quiet (h1 : xsr = 0 ∧ xoc = 0 → post 1) (h0 : ¬ (xsr = 0 ∧ xoc = 0) → post 0) : wpX_isQuiet post (xjc, xfd, xrc, xsr, xoc, xwg, xjA, xjB, xcA, xjt, xhs, xps, xso, xlo, xrj, xre, xrs, xnd, xnp, xcf, xwe, xwc, xwt, xto, xlk, xnc, xhd, xro, xpg, xrt, xsz, xrg) :=
  br_c (fun a => br_c (fun b => h1 ⟨a, b⟩) (fun b => h0 (fun z => b z.2))) (fun a => h0 (fun z => a z.1))
theorem xs_across {j a : Nat} (hj : j < 12) (ha : a < 20) (hA : ∀ j, A j < 20) (h : post (nI (sk_o A B j a))) : wpX_across post (xjc, xfd, xrc, xsr, xoc, xwg, im_n A, im_n B, xcA, xjt, xhs, xps, xso, xlo, xrj, xre, xrs, xnd, xnp, xcf, xwe, xwc, xwt, xto, xlk, xnc, xhd, xro, xpg, xrt, xsz, xrg) (nI j) (nI a) := by
  have hv : vp_in (nI j) 12 := vp_in_nI hj (by omega)
  have cj : (nI j).toNatClampNeg = j := nI_clamp (by omega)
  unfold wpX_across; dsimp only; rw [cj]
  show vp_in (nI j) 12 ∧ ((nI (A j) = nI a → vp_in (nI j) 12 ∧ post (nI (B j))) ∧ (¬ nI (A j) = nI a → vp_in (nI j) 12 ∧ post (nI (A j))))
  have hAj := hA j
  rw [nI_eq (by omega) (by omega)]
  unfold sk_o at h
  refine ⟨hv, fun e => ⟨hv, ?_⟩, fun e => ⟨hv, ?_⟩⟩
  · rw [if_pos e] at h; exact h
  · rw [if_neg e] at h; exact h
theorem xs_joined {a b : Nat} (ha : a < 20) (hb : b < 20) (S : sk_St A B nj xjt) (h0 : (¬ ∃ j, j < nj ∧ sk_at A B j a = true ∧ sk_o A B j a = b) → post 0) (h1 : (∃ j, j < nj ∧ sk_at A B j a = true ∧ sk_o A B j a = b) → post 1) : wpX_areJoined post (xjc, xfd, xrc, xsr, xoc, xwg, im_n A, im_n B, im_n (sk_c A B nj), xjt, xhs, xps, xso, xlo, xrj, xre, xrs, xnd, xnp, xcf, xwe, xwc, xwt, xto, xlk, xnc, xhd, xro, xpg, xrt, xsz, xrg) (nI a) (nI b) := by
  obtain ⟨s1, s2, s3, s4, s5, s6⟩ := S
  have va : vp_in (nI a) 20 := vp_in_nI ha (by omega)
  have ca : (nI a).toNatClampNeg = a := nI_clamp (by omega)
  have c2 := s5 a
  refine Exists.intro (sk_c A B nj a + 1) ?_
  refine lq_find0 (fun n i => wX_areJoined_2 post (nI a) (nI b) xjc xfd xrc xsr xoc xwg (im_n A) (im_n B) (im_n (sk_c A B nj)) xjt xhs xps xso xlo xrj xre xrs xnd xnp xcf xwe xwc xwt xto xlk xnc xhd xro xpg xrt xsz xrg n (nI i)) (sk_c A B nj a) (fun k => ∃ j, sk_n A B nj a k = some j ∧ sk_o A B j a = b) ?_ ?_ ?_
  · intro n hn
    refine And.intro va (br_t ?_ (h0 ?_))
    · rw [ca]; exact Int32.le_refl _
    · rintro ⟨j, j1, j2, j3⟩
      have e := (sk_ns (A := A) (B := B) nj).mpr ⟨j1, j2, rfl⟩
      exact hn (sk_c A B j a) (sk_nlt' e) ⟨j, e, j3⟩
  · intro n i hi hp hw
    obtain ⟨j, hj⟩ := sk_nlt hi
    have hj' := (sk_ns nj).mp hj
    have ho := sk_o20 s2 s3 j a
    refine And.intro va (br_f ?_ (And.intro ?_ ?_))
    · rw [ca]; exact nI_ge hi (by omega)
    · rw [ix_2]; exact vp_in_nI (by omega) (by omega)
    · rw [ix_2, nI_clamp (n := 2 * a + i) (by omega), s6 a i j hj]
      refine xs_across (by omega) ha s2 (br_f ?_ ?_)
      · intro e; exact hp ⟨j, hj, (nI_eq (by omega) (by omega)).mp e⟩
      · intro y ey; rw [ey, nI_1]; exact hw
  · intro n i hi hk hp
    obtain ⟨j, hj, e⟩ := hp
    have hj' := (sk_ns nj).mp hj
    refine And.intro va (br_f ?_ (And.intro ?_ ?_))
    · rw [ca]; exact nI_ge hi (by omega)
    · rw [ix_2]; exact vp_in_nI (by omega) (by omega)
    · rw [ix_2, nI_clamp (n := 2 * a + i) (by omega), s6 a i j hj]
      refine xs_across (by omega) ha s2 (br_t ?_ (h1 ⟨j, hj'.1, hj'.2.1, e⟩))
      rw [e]
theorem xs_hang {pu : SX → Prop} {c : Nat → Nat} {a j : Nat} (ha : a < 20) (hj : j < 128) (hc : c a ≤ 1) (h : pu (xjc, xfd, xrc, xsr, xoc, xwg, xjA, xjB, im_n (im_u c a (c a + 1)), upd xjt (2 * a + c a) (nI j), xhs, xps, xso, xlo, xrj, xre, xrs, xnd, xnp, xcf, xwe, xwc, xwt, xto, xlk, xnc, xhd, xro, xpg, xrt, xsz, xrg)) : wpX_hang pu (xjc, xfd, xrc, xsr, xoc, xwg, xjA, xjB, im_n c, xjt, xhs, xps, xso, xlo, xrj, xre, xrs, xnd, xnp, xcf, xwe, xwc, xwt, xto, xlk, xnc, xhd, xro, xpg, xrt, xsz, xrg) (nI a) (nI j) := by
  have va : vp_in (nI a) 20 := vp_in_nI ha (by omega)
  have ca : (nI a).toNatClampNeg = a := nI_clamp (by omega)
  refine And.intro va (And.intro ?_ (nm_r (e' := upd xjt (2 * a + c a) (nI j)) ?_ (And.intro va (And.intro va (nm_r (e' := im_n (im_u c a (c a + 1))) ?_ h)))))
  · rw [ca]; show vp_in (2 * nI a + nI (c a)) 40; rw [ix_2]; exact vp_in_nI (by omega) (by omega)
  · rw [ca]; show upd xjt (2 * nI a + nI (c a)).toNatClampNeg _ = _; rw [ix_2, nI_clamp (n := 2 * a + c a) (by omega), im_by hj]
  · exact im_nS rfl (by omega) (im_byE (by rw [ca]; exact nI_1 (c a)) (by omega))
theorem ys_inL {x l h : Int32} (e : x < l) (h0 : post 0) : wpY_in post (yjs, yrs, yon, ytw, ysg, yps, yfr, yln, yjt, yen, yst, ywt, yhl, ylk, yhd, yun, yed, yrv, ymt, ynx) x l h := br_t e h0
theorem ys_inG {x : Int32} {N : Nat} (hN : N + 1 < 2 ^ 31) (e : nI (N + 1) ≤ x) (h0 : post 0) : wpY_in post (yjs, yrs, yon, ytw, ysg, yps, yfr, yln, yjt, yen, yst, ywt, yhl, ylk, yhd, yun, yed, yrv, ymt, ynx) x 0 (nI N) :=
  br_c (fun _ => h0) (fun _ => br_t (Int32.lt_of_lt_of_le (nI_lt (Nat.lt_succ_self N) hN) e) h0)
theorem ys_inM {j N : Nat} (hN : N + 1 < 2 ^ 31) (e : j ≤ N) (h0 : post 1) : wpY_in post (yjs, yrs, yon, ytw, ysg, yps, yfr, yln, yjt, yen, yst, ywt, yhl, ylk, yhd, yun, yed, yrv, ymt, ynx) (nI j) 0 (nI N) :=
  br_f (nI_pos (by omega)) (br_f (nI_nlt e (by omega)) h0)
theorem ys_opp {a : Nat} (ha : a < 20) (h : post (nI (ix_op a))) : wpY_opposite post (yjs, yrs, yon, ytw, ysg, yps, yfr, yln, yjt, yen, yst, ywt, yhl, ylk, yhd, yun, yed, yrv, ymt, ynx) (nI a) := by
  show post (nI a ^^^ 1)
  rw [ix_opx a ha]; exact h
theorem ys_busy {hd : Nat → Option Nat} {st : Nat → Bool} (hb : ∀ t h, hd t = some h → h < 20) (h0 : ((∀ t, t < 3 → hd t = none) ∧ (∀ r, r < 16 → st r = false)) → post 0) (h1 : ¬ ((∀ t, t < 3 → hd t = none) ∧ (∀ r, r < 16 → st r = false)) → post 1) : wpY_isBusy post (yjs, yrs, yon, ytw, ysg, yps, yfr, yln, yjt, yen, im_b st, ywt, yhl, ylk, im_o (-1) hd, yun, yed, yrv, ymt, ynx) := by
  refine Exists.intro (3 + 1) ?_
  refine lq_find0 (fun n i => wY_isBusy_2 post yjs yrs yon ytw ysg yps yfr yln yjt yen (im_b st) ywt yhl ylk (im_o (-1) hd) yun yed yrv ymt ynx n (nI i)) 3 (fun t => hd t ≠ none) ?_ ?_ ?_
  · intro n hn
    refine br_t (nI_le (a := 3) (b := 3) (by omega) (by omega)) ?_
    refine Exists.intro (16 + 1) ?_
    refine lq_find0 (fun n i => wY_isBusy_26 post yjs yrs yon ytw ysg yps yfr yln yjt yen (im_b st) ywt yhl ylk (im_o (-1) hd) yun yed yrv ymt ynx n (nI i)) 16 (fun r => st r = true) ?_ ?_ ?_
    · intro n hs
      refine br_t (nI_le (a := 16) (b := 16) (by omega) (by omega)) (h0 ⟨?_, ?_⟩)
      · intro t ht; exact Classical.not_not.mp (hn t ht)
      · intro r hr; exact Bool.eq_false_iff.mpr (hs r hr)
    · intro n i hi hs hw
      refine br_f (nI_ge (b := 16) hi (by omega)) (And.intro (vp_in_nI hi (by omega)) (br_t ?_ ?_))
      · rw [im_bR (i := i) rfl (by omega), im_z]; exact Bool.eq_false_iff.mpr hs
      · intro y ey; rw [ey, nI_1]; exact hw
    · intro n i hi _ hs
      refine br_f (nI_ge (b := 16) hi (by omega)) (And.intro (vp_in_nI hi (by omega)) (br_f ?_ (h1 ?_)))
      · rw [im_bR (i := i) rfl (by omega), hs]; decide
      · intro z; rw [z.2 i hi] at hs; cases hs
  · intro n i hi hp hw
    refine br_f (nI_ge (b := 3) hi (by omega)) (And.intro (vp_in_nI hi (by omega)) (br_t ?_ ?_))
    · rw [im_oR (i := i) rfl (by omega), Classical.not_not.mp hp]; exact im_m1
    · intro y ey; rw [ey, nI_1]; exact hw
  · intro n i hi _ hp
    refine br_f (nI_ge (b := 3) hi (by omega)) (And.intro (vp_in_nI hi (by omega)) (br_f ?_ (h1 ?_)))
    · rw [im_oR (i := i) rfl (by omega)]
      cases e : hd i with
      | none => exact absurd e hp
      | some q => have := hb i q e; exact nI_pos (by omega)
    · intro z; exact hp (z.1 i hi)
theorem ys_jointsAt {a : Nat} (ha : a < 20) (hn : nj ≤ 12) (hA : ∀ j, A j < 20) (hB : ∀ j, B j < 20) (h : post (nI (sk_c A B nj a))) : wpY_jointsAt post (nI nj, yrs, im_n A, im_n B, ysg, yps, yfr, yln, yjt, yen, yst, ywt, yhl, ylk, yhd, yun, yed, yrv, ymt, ynx) (nI a) := by
  refine Exists.intro (nj + 1) ?_
  refine lq_run0 (fun n i s => wY_jointsAt_4 post (nI a) (nI nj) yrs (im_n A) (im_n B) ysg yps yfr yln yjt yen yst ywt yhl ylk yhd yun yed yrv ymt ynx n (nI s) (nI i)) nj (fun i => sk_c A B i a) ?_ ?_
  · intro n
    exact br_t (Int32.le_refl _) h
  · intro n i hi hw
    have hAi := hA i
    have hBi := hB i
    have vi : vp_in (nI i) 12 := vp_in_nI (by omega) (by omega)
    refine br_f (nI_ge hi (by omega)) (And.intro vi ?_)
    rw [im_nR (i := i) rfl (by omega)]
    refine pk_eq (A i) a ?_ ?_
    · intro e
      have ht : sk_at A B i a = true := sk_atI.mpr (Or.inl e)
      intro y ey z ez
      rw [ey, ez, nI_1, nI_1, ← sk_cT ht]; exact hw
    · intro e
      refine And.intro vi ?_
      rw [im_nR (i := i) rfl (by omega)]
      refine pk_eq (B i) a ?_ ?_
      · intro e2
        have ht : sk_at A B i a = true := sk_atI.mpr (Or.inr e2)
        intro y ey z ez
        rw [ey, ez, nI_1, nI_1, ← sk_cT ht]; exact hw
      · intro e2
        have ht : sk_at A B i a = false := sk_atF.mpr ⟨e, e2⟩
        intro z ez
        rw [ez, nI_1]
        show wY_jointsAt_4 post (nI a) (nI nj) yrs (im_n A) (im_n B) ysg yps yfr yln yjt yen yst ywt yhl ylk yhd yun yed yrv ymt ynx n (nI (sk_c A B i a)) (nI (i + 1))
        rw [← sk_cF ht]; exact hw
theorem ys_jointAt {a k : Nat} (ha : a < 20) (hk : k < 2) (hn : nj ≤ 12) (hA : ∀ j, A j < 20) (hB : ∀ j, B j < 20) (h : post (im_oi (-1) (sk_n A B nj a k))) : wpY_jointAt post (nI nj, yrs, im_n A, im_n B, ysg, yps, yfr, yln, yjt, yen, yst, ywt, yhl, ylk, yhd, yun, yed, yrv, ymt, ynx) (nI a) (nI k) := by
  refine Exists.intro (nj + 1) ?_
  have cb : ∀ i, i ≤ nj → sk_c A B i a < 2 ^ 31 := by
    intro i hi
    have : ∀ m, sk_c A B m a ≤ m := by
      intro m
      induction m with
      | zero => exact Nat.le_refl _
      | succ m ih => rw [sk_cs]; have := Bool.toNat_le (sk_at A B m a); omega
    have := this i
    omega
  refine lq_find0 (fun n i => wY_jointAt_5 post (nI a) (nI k) (nI nj) yrs (im_n A) (im_n B) ysg yps yfr yln yjt yen yst ywt yhl ylk yhd yun yed yrv ymt ynx n (nI (sk_c A B i a)) (nI i)) nj (fun j => sk_at A B j a = true ∧ sk_c A B j a = k) ?_ ?_ ?_
  · intro n hn
    refine br_t (Int32.le_refl _) ?_
    have e : sk_n A B nj a k = none := by
      cases e : sk_n A B nj a k with
      | none => rfl
      | some j => have := (sk_ns nj).mp e; exact absurd this.2 (hn j this.1)
    rw [e] at h; exact h
  · intro n i hi hp hw
    have hAi := hA i
    have hBi := hB i
    have hci := cb i (by omega)
    have vi : vp_in (nI i) 12 := vp_in_nI (by omega) (by omega)
    have hit : sk_at A B i a = true → wY_jointAt_36 post (wY_jointAt_5 post (nI a) (nI k) (nI nj) yrs (im_n A) (im_n B) ysg yps yfr yln yjt yen yst ywt yhl ylk yhd yun yed yrv ymt ynx n) (nI a) (nI k) (nI (sk_c A B i a)) (nI i) (nI nj) yrs (im_n A) (im_n B) ysg yps yfr yln yjt yen yst ywt yhl ylk yhd yun yed yrv ymt ynx := by
      intro ht
      refine br_f ?_ ?_
      · rw [nI_eq hci (by omega)]; exact fun e => hp ⟨ht, e⟩
      · intro y ey z ez
        rw [ey, ez, nI_1, nI_1, ← sk_cT ht]; exact hw
    refine br_f (nI_ge hi (by omega)) (And.intro vi ?_)
    rw [im_nR (i := i) rfl (by omega)]
    refine pk_eq (A i) a (fun e => hit (sk_atI.mpr (Or.inl e))) ?_
    intro e
    refine And.intro vi ?_
    rw [im_nR (i := i) rfl (by omega)]
    refine pk_eq (B i) a (fun e => hit (sk_atI.mpr (Or.inr e))) ?_
    intro e2
    have ht : sk_at A B i a = false := sk_atF.mpr ⟨e, e2⟩
    intro z ez
    rw [ez, nI_1]
    show wY_jointAt_5 post (nI a) (nI k) (nI nj) yrs (im_n A) (im_n B) ysg yps yfr yln yjt yen yst ywt yhl ylk yhd yun yed yrv ymt ynx n (nI (sk_c A B i a)) (nI (i + 1))
    rw [← sk_cF ht]; exact hw
  · intro n i hi _ hp
    have hAi := hA i
    have hBi := hB i
    have vi : vp_in (nI i) 12 := vp_in_nI (by omega) (by omega)
    have e : sk_n A B nj a k = some i := (sk_ns nj).mpr ⟨hi, hp⟩
    have hit : wY_jointAt_36 post (wY_jointAt_5 post (nI a) (nI k) (nI nj) yrs (im_n A) (im_n B) ysg yps yfr yln yjt yen yst ywt yhl ylk yhd yun yed yrv ymt ynx n) (nI a) (nI k) (nI (sk_c A B i a)) (nI i) (nI nj) yrs (im_n A) (im_n B) ysg yps yfr yln yjt yen yst ywt yhl ylk yhd yun yed yrv ymt ynx := by
      refine br_t ?_ ?_
      · rw [hp.2]
      · rw [e] at h; exact h
    refine br_f (nI_ge hi (by omega)) (And.intro vi ?_)
    rw [im_nR (i := i) rfl (by omega)]
    refine pk_eq (A i) a (fun _ => hit) ?_
    intro e1
    refine And.intro vi ?_
    rw [im_nR (i := i) rfl (by omega)]
    refine pk_eq (B i) a (fun _ => hit) ?_
    intro e2
    rcases sk_atI.mp hp.1 with z | z
    · exact absurd z e1
    · exact absurd z e2
end SMALL
end
section
/-! the routes as they are held; the component takes one -/
section TAKE
variable {xjc xfd xrc xsr xoc xwg : Int32} {xjA xjB xcA xjt xhs xps xso xlo xrj xre xrs xnd xnp xcf xwe xwc xwt xto xlk xnc xhd xro xpg xrt xsz xrg : Nat → Int32}
variable {A B : Nat → Nat} {nj : Nat}
def yd_nx (A B : Nat → Nat) (nj a c : Nat) : Option (Nat × Nat) := (sk_n A B nj a c).map (fun j => (j, sk_o A B j a))
def yd_tm (A B : Nat → Nat) (nj : Nat) (sg : Nat → Bool) (e : Nat) : Bool := sg e || decide (sk_c A B nj e = 0)
theorem yd_s {a c : Nat} {q : Nat × Nat} (h : yd_nx A B nj a c = some q) : sk_n A B nj a c = some q.1 ∧ q.2 = sk_o A B q.1 a := by
  unfold yd_nx at h
  obtain ⟨j, h1, h2⟩ := Option.map_eq_some_iff.mp h
  subst h2
  exact ⟨h1, rfl⟩
theorem yd_i {a c j : Nat} (h : sk_n A B nj a c = some j) : yd_nx A B nj a c = some (j, sk_o A B j a) := by
  unfold yd_nx; rw [h]; rfl
theorem yd_n {a c : Nat} (h : sk_c A B nj a ≤ c) : yd_nx A B nj a c = none := by
  unfold yd_nx; rw [(sk_nn nj).mpr h]; rfl
def rl_s (L : List (Nat × List (Nat × Nat))) (r : Nat) : Nat := (L.getD r (0, [])).1
def rl_p (L : List (Nat × List (Nat × Nat))) (r : Nat) : List (Nat × Nat) := (L.getD r (0, [])).2
def rl_n (L : List (Nat × List (Nat × Nat))) (r : Nat) : Nat := (rl_p L r).length
def rl_j (L : List (Nat × List (Nat × Nat))) (r k : Nat) : Nat := ((rl_p L r).getD k (0, 0)).1
def rl_e (L : List (Nat × List (Nat × Nat))) (r k : Nat) : Nat := ((rl_p L r).getD k (0, 0)).2
/-- route r of a start s and a way p lies in the arrays -/
def rp_1 (s : Nat) (p : List (Nat × Nat)) (r : Nat) (so lo rj re : Nat → Int32) : Prop :=
  p.length ≤ 5 ∧ so r = nI s ∧ lo r = nI p.length ∧ ∀ k, k < p.length → rj (5 * r + k) = nI (p.getD k (0, 0)).1 ∧ re (5 * r + k) = nI (p.getD k (0, 0)).2
/-- its sets of sections and points, by the first K places -/
def rp_x (A B : Nat → Nat) (nj K s : Nat) (p : List (Nat × Nat)) (r : Nat) (rs nd np : Nat → Int32) : Prop :=
  (∀ x, bt (rs r) x = true ↔ ∃ k, k < K ∧ (p.getD k (0, 0)).2 / 2 = x) ∧
  (∀ a, bt (nd r) a = true ↔ ∃ k, k < K ∧ (a = pa_l s p k ∨ a = (p.getD k (0, 0)).2) ∧ 2 ≤ sk_c A B nj a) ∧
  (∀ a, bt (np r) a = true ↔ ∃ k, k < K ∧ (a = pa_l s p k ∨ a = (p.getD k (0, 0)).2) ∧ 2 ≤ sk_c A B nj a ∧ sk_n A B nj a 1 = some (p.getD k (0, 0)).1)
def rp_X (A B : Nat → Nat) (nj : Nat) (L : List (Nat × List (Nat × Nat))) (rc : Int32) (so lo rj re rs nd np : Nat → Int32) : Prop :=
  rc = nI L.length ∧ L.length ≤ 16 ∧ ∀ r, r < L.length → rp_1 (rl_s L r) (rl_p L r) r so lo rj re ∧ rp_x A B nj (rl_n L r) (rl_s L r) (rl_p L r) r rs nd np
/-- the way that is being followed: its ends and choices lie in we, wc -/
def wy_W (A B : Nat → Nat) (nj s : Nat) (p : List (Nat × Nat)) (we wc : Nat → Int32) : Prop :=
  ∀ k, k < p.length → we (k + 1) = nI (p.getD k (0, 0)).2 ∧ ∃ c, c < 2 ∧ wc k = nI (c + 1) ∧ yd_nx A B nj (pa_l s p k) c = some (p.getD k (0, 0))
theorem wy_l20 {s : Nat} {p : List (Nat × Nat)} {we wc : Nat → Int32} (hs : s < 20) (hA : ∀ j, A j < 20) (hB : ∀ j, B j < 20) (W : wy_W A B nj s p we wc) {k : Nat} (hk : k ≤ p.length) : pa_l s p k < 20 := by
  unfold pa_l
  split
  · exact hs
  · obtain ⟨_, c, _, _, h⟩ := W (k - 1) (by omega)
    rw [(yd_s h).2]
    exact ix_op20 (sk_o20 hA hB _ _)
def tr_T (A B : Nat → Nat) (nj K s : Nat) (p : List (Nat × Nat)) (r : Nat) (rj0 re0 rs0 nd0 np0 rj re rs nd np : Nat → Int32) : Prop :=
  (∀ k, k < K → rj (5 * r + k) = nI (p.getD k (0, 0)).1 ∧ re (5 * r + k) = nI (p.getD k (0, 0)).2) ∧ (∀ x, x < 5 * r → rj x = rj0 x ∧ re x = re0 x) ∧ rp_x A B nj K s p r rs nd np ∧ (∀ q, q ≠ r → rs q = rs0 q ∧ nd q = nd0 q ∧ np q = np0 q)
theorem xt_need {pu : SX → Prop} {r a j : Nat} (hr : r < 16) (ha : a < 20) (hj : j < 12) (S : sk_St A B nj xjt)
    (h : ∀ nd np, (∀ q, q ≠ r → nd q = xnd q ∧ np q = xnp q) → (∀ x, bt (nd r) x = true ↔ bt (xnd r) x = true ∨ (x = a ∧ 2 ≤ sk_c A B nj a)) → (∀ x, bt (np r) x = true ↔ bt (xnp r) x = true ∨ (x = a ∧ 2 ≤ sk_c A B nj a ∧ sk_n A B nj a 1 = some j)) → pu (xjc, xfd, xrc, xsr, xoc, xwg, xjA, xjB, im_n (sk_c A B nj), xjt, xhs, xps, xso, xlo, xrj, xre, xrs, nd, np, xcf, xwe, xwc, xwt, xto, xlk, xnc, xhd, xro, xpg, xrt, xsz, xrg)) :
    wpX_addNeed pu (xjc, xfd, xrc, xsr, xoc, xwg, xjA, xjB, im_n (sk_c A B nj), xjt, xhs, xps, xso, xlo, xrj, xre, xrs, xnd, xnp, xcf, xwe, xwc, xwt, xto, xlk, xnc, xhd, xro, xpg, xrt, xsz, xrg) (nI r) (nI a) (nI j) := by
  obtain ⟨s1, s2, s3, s4, s5, s6⟩ := S
  have va : vp_in (nI a) 20 := vp_in_nI ha (by omega)
  have vr : vp_in (nI r) 16 := vp_in_nI hr (by omega)
  have cr : (nI r).toNatClampNeg = r := nI_clamp (by omega)
  have c2 := s5 a
  refine And.intro va ?_
  rw [im_nR (i := a) rfl (by omega)]
  refine pk_le 2 (sk_c A B nj a) ?_ ?_
  · intro h2
    obtain ⟨j1, hj1⟩ := sk_nlt (A := A) (B := B) (n := nj) (a := a) (k := 1) (by omega)
    have hj1' := (sk_ns nj).mp hj1
    have ej : xjt (2 * a + 1) = nI j1 := s6 a 1 j1 hj1
    refine And.intro vr (And.intro vr (nm_r (e' := upd xnd r (xnd r ||| ((1 : Int32) <<< (nI a &&& 31)))) (by rw [cr]) ?_))
    have ei : 2 * nI a + 1 = nI (2 * a + 1) := ix_2 a 1
    refine And.intro ?_ ?_
    · rw [ei]; exact vp_in_nI (by omega) (by omega)
    · rw [ei, nI_clamp (n := 2 * a + 1) (by omega), ej]
      have hnd : ∀ x, bt (upd xnd r (xnd r ||| ((1 : Int32) <<< (nI a &&& 31))) r) x = true ↔ bt (xnd r) x = true ∨ (x = a ∧ 2 ≤ sk_c A B nj a) := by
        intro x; rw [pk_us, ib_set _ (by omega), Bool.or_eq_true, decide_eq_true_iff]
        constructor
        · rintro (e | e)
          · exact Or.inl e
          · exact Or.inr ⟨e, h2⟩
        · rintro (e | e)
          · exact Or.inl e
          · exact Or.inr e.1
      refine pk_eq j1 j ?_ ?_
      · intro e
        refine And.intro vr (And.intro vr (nm_r (e' := upd xnp r (xnp r ||| ((1 : Int32) <<< (nI a &&& 31)))) (by rw [cr]) ?_))
        refine h _ _ (fun q hq => ⟨pk_un hq, pk_un hq⟩) hnd ?_
        intro x; rw [pk_us, ib_set _ (by omega), Bool.or_eq_true, decide_eq_true_iff]
        constructor
        · rintro (z | z)
          · exact Or.inl z
          · exact Or.inr ⟨z, h2, e ▸ hj1⟩
        · rintro (z | z)
          · exact Or.inl z
          · exact Or.inr z.1
      · intro e
        refine h _ _ (fun q hq => ⟨pk_un hq, rfl⟩) hnd ?_
        intro x
        constructor
        · exact Or.inl
        · rintro (z | ⟨_, _, z⟩)
          · exact z
          · rw [hj1] at z; cases z; exact absurd rfl e
  · intro h2
    refine h _ _ (fun q hq => ⟨rfl, rfl⟩) ?_ ?_
    · intro x
      constructor
      · exact Or.inl
      · rintro (z | ⟨_, z⟩)
        · exact z
        · omega
    · intro x
      constructor
      · exact Or.inl
      · rintro (z | ⟨_, z, _⟩)
        · exact z
        · omega
theorem xt_step {K s r : Nat} {p : List (Nat × Nat)} {rj0 re0 rs0 nd0 np0 rs1 nd1 np1 nd2 np2 : Nat → Int32} (T : tr_T A B nj K s p r rj0 re0 rs0 nd0 np0 xrj xre xrs xnd xnp) (hK : K < p.length)
    (e1 : ∀ x, bt (rs1 r) x = true ↔ bt (xrs r) x = true ∨ x = (p.getD K (0, 0)).2 / 2) (f1 : ∀ q, q ≠ r → rs1 q = xrs q)
    (e2 : ∀ q, q ≠ r → nd1 q = xnd q ∧ np1 q = xnp q) (e3 : ∀ x, bt (nd1 r) x = true ↔ bt (xnd r) x = true ∨ (x = pa_l s p K ∧ 2 ≤ sk_c A B nj (pa_l s p K)))
    (e4 : ∀ x, bt (np1 r) x = true ↔ bt (xnp r) x = true ∨ (x = pa_l s p K ∧ 2 ≤ sk_c A B nj (pa_l s p K) ∧ sk_n A B nj (pa_l s p K) 1 = some (p.getD K (0, 0)).1))
    (g2 : ∀ q, q ≠ r → nd2 q = nd1 q ∧ np2 q = np1 q) (g3 : ∀ x, bt (nd2 r) x = true ↔ bt (nd1 r) x = true ∨ (x = (p.getD K (0, 0)).2 ∧ 2 ≤ sk_c A B nj (p.getD K (0, 0)).2))
    (g4 : ∀ x, bt (np2 r) x = true ↔ bt (np1 r) x = true ∨ (x = (p.getD K (0, 0)).2 ∧ 2 ≤ sk_c A B nj (p.getD K (0, 0)).2 ∧ sk_n A B nj (p.getD K (0, 0)).2 1 = some (p.getD K (0, 0)).1)) :
    tr_T A B nj (K + 1) s p r rj0 re0 rs0 nd0 np0 (upd xrj (5 * r + K) (nI (p.getD K (0, 0)).1)) (upd xre (5 * r + K) (nI (p.getD K (0, 0)).2)) rs1 nd2 np2 := by
  obtain ⟨t1, t2, ⟨t3, t4, t5⟩, t6⟩ := T
  refine ⟨?_, ?_, ⟨?_, ?_, ?_⟩, ?_⟩
  · intro k hk
    by_cases e : k = K
    · subst e; rw [pk_us, pk_us]; exact ⟨rfl, rfl⟩
    · rw [pk_un (by omega), pk_un (by omega)]; exact t1 k (by omega)
  · intro x hx
    rw [pk_un (by omega), pk_un (by omega)]; exact t2 x hx
  · intro x
    rw [e1, t3]
    constructor
    · rintro (⟨k, hk, e⟩ | e)
      · exact ⟨k, by omega, e⟩
      · exact ⟨K, by omega, e.symm⟩
    · rintro ⟨k, hk, e⟩
      by_cases z : k = K
      · subst z; exact Or.inr e.symm
      · exact Or.inl ⟨k, by omega, e⟩
  · intro x
    rw [g3, e3, t4]
    constructor
    · rintro ((⟨k, hk, e⟩ | ⟨e, c⟩) | ⟨e, c⟩)
      · exact ⟨k, by omega, e⟩
      · exact ⟨K, by omega, Or.inl e, e ▸ c⟩
      · exact ⟨K, by omega, Or.inr e, e ▸ c⟩
    · rintro ⟨k, hk, e, c⟩
      by_cases z : k = K
      · subst z
        rcases e with e | e
        · exact Or.inl (Or.inr ⟨e, e ▸ c⟩)
        · exact Or.inr ⟨e, e ▸ c⟩
      · exact Or.inl (Or.inl ⟨k, by omega, e, c⟩)
  · intro x
    rw [g4, e4, t5]
    constructor
    · rintro ((⟨k, hk, e⟩ | ⟨e, c, c2⟩) | ⟨e, c, c2⟩)
      · exact ⟨k, by omega, e⟩
      · exact ⟨K, by omega, Or.inl e, e ▸ c, e ▸ c2⟩
      · exact ⟨K, by omega, Or.inr e, e ▸ c, e ▸ c2⟩
    · rintro ⟨k, hk, e, c, c2⟩
      by_cases z : k = K
      · subst z
        rcases e with e | e
        · exact Or.inl (Or.inr ⟨e, e ▸ c, e ▸ c2⟩)
        · exact Or.inr ⟨e, e ▸ c, e ▸ c2⟩
      · exact Or.inl (Or.inl ⟨k, by omega, e, c, c2⟩)
  · intro q hq
    rw [f1 q hq, (g2 q hq).1, (g2 q hq).2, (e2 q hq).1, (e2 q hq).2]
    exact t6 q hq
theorem xt_79 {pu : SX → Prop} {J : Int32 → Int32 → Int32 → Int32 → Int32 → Int32 → Int32 → (Nat → Int32) → (Nat → Int32) → (Nat → Int32) → (Nat → Int32) → (Nat → Int32) → (Nat → Int32) → (Nat → Int32) → (Nat → Int32) → (Nat → Int32) → (Nat → Int32) → (Nat → Int32) → (Nat → Int32) → (Nat → Int32) → (Nat → Int32) → (Nat → Int32) → (Nat → Int32) → (Nat → Int32) → (Nat → Int32) → (Nat → Int32) → (Nat → Int32) → (Nat → Int32) → (Nat → Int32) → (Nat → Int32) → (Nat → Int32) → (Nat → Int32) → (Nat → Int32) → Prop}
    {K s r : Nat} {x1 x2 : Int32} {p : List (Nat × Nat)} {rj0 re0 rs0 nd0 np0 : Nat → Int32} (hs : s < 20) (hr : r < 16) (S : sk_St A B nj xjt) (W : wy_W A B nj s p xwe xwc) (hp : p.length ≤ 5) (hK : K < p.length) (T : tr_T A B nj K s p r rj0 re0 rs0 nd0 np0 xrj xre xrs xnd xnp)
    (h : ∀ rj re rs nd np, tr_T A B nj (K + 1) s p r rj0 re0 rs0 nd0 np0 rj re rs nd np → J (nI (K + 1)) xjc xfd xrc xsr xoc xwg xjA xjB (im_n (sk_c A B nj)) xjt xhs xps xso xlo rj re rs nd np xcf xwe xwc xwt xto xlk xnc xhd xro xpg xrt xsz xrg) :
    wX_takeRoute_79 pu J x1 x2 (nI r) (nI K) (nI (pa_l s p K)) xjc xfd xrc xsr xoc xwg xjA xjB (im_n (sk_c A B nj)) xjt xhs xps xso xlo xrj xre xrs xnd xnp xcf xwe xwc xwt xto xlk xnc xhd xro xpg xrt xsz xrg := by
  obtain ⟨w1, c, hc, w2, w3⟩ := W K hK
  have hl : pa_l s p K < 20 := wy_l20 hs S.2.1 S.2.2.1 W (by omega)
  obtain ⟨n1, n2⟩ := yd_s w3
  have he : (p.getD K (0, 0)).2 < 20 := by rw [n2]; exact sk_o20 S.2.1 S.2.2.1 _ _
  have hj := ((sk_ns nj).mp n1).1
  have hnj := S.1
  have hjt := S.2.2.2.2.2 _ _ _ n1
  generalize hq : p.getD K (0, 0) = q at *
  have cK : (nI K).toNatClampNeg = K := nI_clamp (by omega)
  have ck1 : nI K + 1 = nI (K + 1) := nI_1 K
  have vr : vp_in (nI r) 16 := vp_in_nI hr (by omega)
  have cr : (nI r).toNatClampNeg = r := nI_clamp (by omega)
  have e5 : 5 * nI r + nI K = nI (5 * r + K) := ix_5 r K
  have v5 : vp_in (5 * nI r + nI K) 80 := by rw [e5]; exact vp_in_nI (by omega) (by omega)
  have ei : 2 * nI (pa_l s p K) + xwc (nI K).toNatClampNeg - 1 = nI (2 * pa_l s p K + c) := by
    rw [cK, w2, ix_2]; exact nI_pred _
  refine And.intro (by rw [ck1]; exact vp_in_nI (by omega) (by omega)) ?_
  refine nm_r (e' := nI q.2) (by rw [ck1, nI_clamp (n := K + 1) (by omega), w1]) ?_
  refine And.intro (vp_in_nI (by omega) (by omega)) ?_
  refine And.intro (by rw [ei]; exact vp_in_nI (by omega) (by omega)) ?_
  refine nm_r (e' := nI q.1) (by rw [ei, nI_clamp (n := 2 * pa_l s p K + c) (by omega), hjt]) ?_
  refine And.intro v5 ?_
  refine nm_r (e' := upd xrj (5 * r + K) (nI q.1)) (by rw [e5, nI_clamp (n := 5 * r + K) (by omega), im_by (by omega)]) ?_
  refine And.intro v5 ?_
  refine nm_r (e' := upd xre (5 * r + K) (nI q.2)) (by rw [e5, nI_clamp (n := 5 * r + K) (by omega), im_by (by omega)]) ?_
  have hrs : ∀ x, bt (xrs r ||| ((1 : Int32) <<< (nI (q.2 / 2) &&& 31))) x = true ↔ bt (xrs r) x = true ∨ x = q.2 / 2 := by
    intro x; rw [ib_set _ (by omega), Bool.or_eq_true, decide_eq_true_iff]
  have hsh : vp_nar .short (xrs r ||| ((1 : Int32) <<< (nI (q.2 / 2) &&& 31))).toInt16.toInt32 = xrs r ||| ((1 : Int32) <<< (nI (q.2 / 2) &&& 31)) := by
    apply ib_sh
    intro i hi
    apply Bool.eq_false_iff.mpr
    intro z
    rcases (hrs i).mp z with z | z
    · obtain ⟨k, hk, e⟩ := (T.2.2.1.1 i).mp z
      obtain ⟨_, c', _, _, w3'⟩ := W k (by omega)
      have := sk_o20 S.2.1 S.2.2.1 (p.getD k (0, 0)).1 (pa_l s p k)
      rw [← (yd_s w3').2] at this
      omega
    · omega
  refine And.intro vr (And.intro ix_20 (And.intro vr ?_))
  refine nm_r (e' := upd xrs r (xrs r ||| ((1 : Int32) <<< (nI (q.2 / 2) &&& 31)))) (by rw [cr, ix_h (by omega), hsh]) ?_
  refine xt_need hr hl (by omega) S ?_
  intro nd1 np1 e2 e3 e4
  refine xt_need hr he (by omega) S ?_
  intro nd2 np2 g2 g3 g4
  refine nm_r ck1 ?_
  refine h _ _ _ _ _ ?_
  have := xt_step (rs1 := upd xrs r (xrs r ||| ((1 : Int32) <<< (nI (q.2 / 2) &&& 31)))) T hK (by rw [pk_us, hq]; exact hrs) (fun q' hq' => pk_un hq') e2 (by rw [hq] at *; exact e3) (by rw [hq]; exact e4) g2 (by rw [hq]; exact g3) (by rw [hq]; exact g4)
  rw [hq] at this
  exact this
theorem xt_55 {pu : SX → Prop} {s r : Nat} {p : List (Nat × Nat)} {rj0 re0 rs0 nd0 np0 : Nat → Int32} (hs : s < 20) (hr : r < 16) (S : sk_St A B nj xjt) (W : wy_W A B nj s p xwe xwc) (hp : p.length ≤ 5)
    (h : ∀ rj re rs nd np, tr_T A B nj p.length s p r rj0 re0 rs0 nd0 np0 rj re rs nd np → pu (xjc, xfd, xrc, xsr, xoc, xwg, xjA, xjB, im_n (sk_c A B nj), xjt, xhs, xps, xso, xlo, rj, re, rs, nd, np, xcf, xwe, xwc, xwt, xto, xlk, xnc, xhd, xro, xpg, xrt, xsz, xrg)) :
    ∀ (d K : Nat) (rj re rs nd np : Nat → Int32), K + d = p.length → tr_T A B nj K s p r rj0 re0 rs0 nd0 np0 rj re rs nd np → wX_takeRoute_55 pu (nI s) (nI p.length) (nI r) (d + 1) (nI K) xjc xfd xrc xsr xoc xwg xjA xjB (im_n (sk_c A B nj)) xjt xhs xps xso xlo rj re rs nd np xcf xwe xwc xwt xto xlk xnc xhd xro xpg xrt xsz xrg := by
  intro d
  induction d with
  | zero =>
    intro K rj re rs nd np hK T
    have hK' : K = p.length := hK
    subst hK'
    exact br_t (Int32.le_refl _) (h rj re rs nd np T)
  | succ d ih =>
    intro K rj re rs nd np hK T
    have key := xt_79 (pu := pu) (J := wX_takeRoute_55 pu (nI s) (nI p.length) (nI r) (d + 1)) (x1 := nI s) (x2 := nI p.length) (xjc := xjc) (xfd := xfd) (xrc := xrc) (xsr := xsr) (xoc := xoc) (xwg := xwg) (xjA := xjA) (xjB := xjB) (xhs := xhs) (xps := xps) (xso := xso) (xlo := xlo) (xcf := xcf) (xwt := xwt) (xto := xto) (xlk := xlk) (xnc := xnc) (xhd := xhd) (xro := xro) (xpg := xpg) (xrt := xrt) (xsz := xsz) (xrg := xrg) hs hr S W hp (show K < p.length by omega) T (fun rj re rs nd np T' => ih (K + 1) rj re rs nd np (by omega) T')
    refine br_f (nI_ge (by omega) (by omega)) ?_
    refine pk_eq K 0 ?_ ?_
    · intro e
      have el : pa_l s p K = s := by rw [e]; rfl
      rw [el] at key; exact key
    · intro e
      refine And.intro (vp_in_nI (by omega) (by omega)) ?_
      have el : xwe (nI K).toNatClampNeg ^^^ 1 = nI (pa_l s p K) := by
        have hw := W (K - 1) (by omega)
        have hl : pa_l s p K < 20 := wy_l20 hs S.2.1 S.2.2.1 W (by omega)
        have e1 : K - 1 + 1 = K := by omega
        rw [nI_clamp (by omega)]
        rw [e1] at hw
        rw [hw.1]
        have ho : (p.getD (K - 1) (0, 0)).2 < 20 := by
          obtain ⟨_, c, _, _, w⟩ := hw
          rw [(yd_s w).2]; exact sk_o20 S.2.1 S.2.2.1 _ _
        rw [ix_opx _ ho]
        unfold pa_l
        rw [if_neg e]
      rw [el]; exact key
/-- a route is taken -/
theorem xt_take {pu : SX → Prop} {s : Nat} {p : List (Nat × Nat)} {L : List (Nat × List (Nat × Nat))} (hs : s < 20) (hL : L.length < 16) (S : sk_St A B nj xjt) (W : wy_W A B nj s p xwe xwc) (hp : p.length ≤ 5) (R : rp_X A B nj L xrc xso xlo xrj xre xrs xnd xnp)
    (h : ∀ rc so lo rj re rs nd np, rp_X A B nj (L ++ [(s, p)]) rc so lo rj re rs nd np → pu (xjc, xfd, rc, xsr, xoc, xwg, xjA, xjB, im_n (sk_c A B nj), xjt, xhs, xps, so, lo, rj, re, rs, nd, np, xcf, xwe, xwc, xwt, xto, xlk, xnc, xhd, xro, xpg, xrt, xsz, xrg)) :
    wpX_takeRoute pu (xjc, xfd, xrc, xsr, xoc, xwg, xjA, xjB, im_n (sk_c A B nj), xjt, xhs, xps, xso, xlo, xrj, xre, xrs, xnd, xnp, xcf, xwe, xwc, xwt, xto, xlk, xnc, xhd, xro, xpg, xrt, xsz, xrg) (nI s) (nI p.length) := by
  obtain ⟨r1, r2, r3⟩ := R
  subst r1
  have vr : vp_in (nI L.length) 16 := vp_in_nI hL (by omega)
  have cr : (nI L.length).toNatClampNeg = L.length := nI_clamp (by omega)
  refine nm_r (nI_1 L.length) ?_
  refine And.intro vr (nm_r (e' := upd xso L.length (nI s)) (by rw [cr, im_by (by omega)]) ?_)
  refine And.intro vr (nm_r (e' := upd xlo L.length (nI p.length)) (by rw [cr, im_by (by omega)]) ?_)
  refine And.intro vr (nm_r (e' := upd xrs L.length 0) (by rw [cr, im_sh0]) ?_)
  refine And.intro vr (nm_r (e' := upd xnd L.length 0) (by rw [cr]) ?_)
  refine And.intro vr (nm_r (e' := upd xnp L.length 0) (by rw [cr]) ?_)
  refine Exists.intro (p.length + 1) ?_
  have T0 : tr_T A B nj 0 s p L.length xrj xre xrs xnd xnp xrj xre (upd xrs L.length 0) (upd xnd L.length 0) (upd xnp L.length 0) := by
    refine ⟨fun k hk => absurd hk (Nat.not_lt_zero k), fun x _ => ⟨rfl, rfl⟩, ⟨?_, ?_, ?_⟩, fun q hq => ⟨pk_un hq, pk_un hq, pk_un hq⟩⟩
    · intro x; rw [pk_us, b_0]
      exact ⟨(fun z => by cases z), fun ⟨k, hk, _⟩ => absurd hk (Nat.not_lt_zero k)⟩
    · intro x; rw [pk_us, b_0]
      exact ⟨(fun z => by cases z), fun ⟨k, hk, _⟩ => absurd hk (Nat.not_lt_zero k)⟩
    · intro x; rw [pk_us, b_0]
      exact ⟨(fun z => by cases z), fun ⟨k, hk, _⟩ => absurd hk (Nat.not_lt_zero k)⟩
  refine xt_55 (xjc := xjc) (xfd := xfd) (rj0 := xrj) (re0 := xre) (rs0 := xrs) (nd0 := xnd) (np0 := xnp) hs hL S W hp ?_ p.length 0 _ _ _ _ _ (Nat.zero_add _) T0
  intro rj re rs nd np T
  obtain ⟨t1, t2, t3, t4⟩ := T
  refine h _ _ _ _ _ _ _ _ ⟨?_, ?_, ?_⟩
  · rw [List.length_append]; rfl
  · rw [List.length_append]; show L.length + 1 ≤ 16; omega
  · intro r hr
    rw [List.length_append] at hr
    have hr' : r < L.length + 1 := hr
    by_cases e : r = L.length
    · subst e
      have g : (L ++ [(s, p)]).getD L.length (0, []) = (s, p) := by
        rw [List.getD_eq_getElem?_getD, List.getElem?_append_right (Nat.le_refl _), Nat.sub_self]; rfl
      unfold rl_n rl_s rl_p
      rw [g]
      exact ⟨⟨hp, pk_us, pk_us, t1⟩, t3⟩
    · have g : (L ++ [(s, p)]).getD r (0, []) = L.getD r (0, []) := by
        rw [List.getD_eq_getElem?_getD, List.getD_eq_getElem?_getD, List.getElem?_append_left (by omega)]
      have hq := r3 r (by omega)
      unfold rl_n rl_s rl_p at hq ⊢
      rw [g]
      obtain ⟨⟨q0, q1, q2, q3⟩, q4⟩ := hq
      have b := t4 r e
      refine ⟨⟨q0, ?_, ?_, ?_⟩, ?_⟩
      · rw [pk_un e]; exact q1
      · rw [pk_un e]; exact q2
      · intro k hk
        have z := t2 (5 * r + k) (by omega)
        rw [z.1, z.2]; exact q3 k hk
      · unfold rp_x at q4 ⊢
        rw [b.1, b.2.1, b.2.2]; exact q4
end TAKE
end
section
/-! the component follows all ways from an end -/
section FOLLOW
variable {xjc xfd xrc xsr xoc xwg : Int32} {xjA xjB xcA xjt xhs xps xso xlo xrj xre xrs xnd xnp xcf xwe xwc xwt xto xlk xnc xhd xro xpg xrt xsz xrg : Nat → Int32}
variable {A B : Nat → Nat} {nj : Nat} {sg : Nat → Bool}
theorem xf_vis {post : Int32 → Prop} {s x : Nat} {p : List (Nat × Nat)} {seen : List Nat} (hs : s < 20) (hx : x < 10) (hp : p.length ≤ 5) (hw : ∀ k, k < p.length → xwe (k + 1) = nI (p.getD k (0, 0)).2 ∧ (p.getD k (0, 0)).2 < 20) (hm : ∀ x, x ∈ seen ↔ x = s / 2 ∨ ∃ k, k < p.length ∧ (p.getD k (0, 0)).2 / 2 = x) (h0 : ¬ x ∈ seen → post 0) (h1 : x ∈ seen → post 1) : wpX_isVisited post (xjc, xfd, xrc, xsr, xoc, xwg, xjA, xjB, xcA, xjt, xhs, xps, xso, xlo, xrj, xre, xrs, xnd, xnp, xcf, xwe, xwc, xwt, xto, xlk, xnc, xhd, xro, xpg, xrt, xsz, xrg) (nI s) (nI p.length) (nI x) := by
  refine And.intro ix_20 ?_
  rw [ix_h (by omega)]
  refine pk_eq (s / 2) x ?_ ?_
  · intro e; exact h1 ((hm x).mpr (Or.inl e.symm))
  · intro e
    refine Exists.intro (p.length + 1) ?_
    refine lq_find0 (fun n i => wX_isVisited_12 post (nI p.length) (nI x) xjc xfd xrc xsr xoc xwg xjA xjB xcA xjt xhs xps xso xlo xrj xre xrs xnd xnp xcf xwe xwc xwt xto xlk xnc xhd xro xpg xrt xsz xrg n (nI (i + 1))) p.length (fun k => (p.getD k (0, 0)).2 / 2 = x) ?_ ?_ ?_
    · intro n hn
      refine br_t (nI_lt (Nat.lt_succ_self _) (by omega)) (h0 ?_)
      intro z
      rcases (hm x).mp z with z | ⟨k, hk, z⟩
      · exact e z.symm
      · exact hn k hk z
    · intro n i hi hn h
      obtain ⟨w1, w2⟩ := hw i hi
      refine br_f (nI_nlt (by omega) (by omega)) (And.intro (vp_in_nI (by omega) (by omega)) (And.intro ix_20 (br_f ?_ ?_)))
      · rw [nI_clamp (by omega), w1, ix_h (by omega), nI_eq (by omega) (by omega)]; exact hn
      · intro y ey; rw [ey, nI_1]; exact h
    · intro n i hi _ hn
      obtain ⟨w1, w2⟩ := hw i hi
      refine br_f (nI_nlt (by omega) (by omega)) (And.intro (vp_in_nI (by omega) (by omega)) (And.intro ix_20 (br_t ?_ (h1 ((hm x).mpr (Or.inr ⟨i, hi, hn⟩))))))
      rw [nI_clamp (by omega), w1, ix_h (by omega), hn]
theorem wy_20 {s : Nat} {p : List (Nat × Nat)} {we wc : Nat → Int32} (hA : ∀ j, A j < 20) (hB : ∀ j, B j < 20) (W : wy_W A B nj s p we wc) {k : Nat} (hk : k < p.length) : (p.getD k (0, 0)).2 < 20 := by
  obtain ⟨_, c, _, _, w⟩ := W k hk
  rw [(yd_s w).2]; exact sk_o20 hA hB _ _
theorem wy_ag {s : Nat} {p : List (Nat × Nat)} {we wc we' wc' : Nat → Int32} (W : wy_W A B nj s p we wc) (h : ∀ k, k < p.length → we' (k + 1) = we (k + 1) ∧ wc' k = wc k) : wy_W A B nj s p we' wc' := by
  intro k hk
  obtain ⟨w1, c, w2, w3, w4⟩ := W k hk
  obtain ⟨h1, h2⟩ := h k hk
  exact ⟨h1.trans w1, c, w2, h2.trans w3, w4⟩
theorem wy_ap {s c : Nat} {p : List (Nat × Nat)} {q : Nat × Nat} {we wc : Nat → Int32} (W : wy_W A B nj s p we wc) (hc : c < 2) (hq : yd_nx A B nj (pa_l s p p.length) c = some q) (h1 : we (p.length + 1) = nI q.2) (h2 : wc p.length = nI (c + 1)) : wy_W A B nj s (p ++ [q]) we wc := by
  intro k hk
  rw [pa_len] at hk
  by_cases e : k = p.length
  · subst e
    rw [pa_gq, pa_ll (Nat.le_refl _)]
    exact ⟨h1, c, hc, h2, hq⟩
  · rw [pa_gl (by omega), pa_ll (by omega)]
    exact W k (by omega)
theorem xf_145 {pu : SX → Prop} {J : Int32 → Int32 → Int32 → Int32 → Int32 → Int32 → Int32 → (Nat → Int32) → (Nat → Int32) → (Nat → Int32) → (Nat → Int32) → (Nat → Int32) → (Nat → Int32) → (Nat → Int32) → (Nat → Int32) → (Nat → Int32) → (Nat → Int32) → (Nat → Int32) → (Nat → Int32) → (Nat → Int32) → (Nat → Int32) → (Nat → Int32) → (Nat → Int32) → (Nat → Int32) → (Nat → Int32) → (Nat → Int32) → (Nat → Int32) → (Nat → Int32) → (Nat → Int32) → (Nat → Int32) → (Nat → Int32) → (Nat → Int32) → (Nat → Int32) → Prop} {s d : Nat} {p : List (Nat × Nat)} {L : List (Nat × List (Nat × Nat))} (hs : s < 20) (S : sk_St A B nj xjt) (W : wy_W A B nj s p xwe xwc) (hd : p.length = d) (hp : d ≤ 5) (R : rp_X A B nj L xrc xso xlo xrj xre xrs xnd xnp)
    (h : ∀ rc so lo rj re rs nd np, rp_X A B nj (pa_cp L [(s, p)]) rc so lo rj re rs nd np → J (nI d + (-1)) xjc xfd rc xsr xoc xwg xjA xjB (im_n (sk_c A B nj)) xjt xhs xps so lo rj re rs nd np xcf xwe xwc xwt xto xlk xnc xhd xro xpg xrt xsz xrg) :
    wX_follow_145 pu J (nI s) (nI d) xjc xfd xrc xsr xoc xwg xjA xjB (im_n (sk_c A B nj)) xjt xhs xps xso xlo xrj xre xrs xnd xnp xcf xwe xwc xwt xto xlk xnc xhd xro xpg xrt xsz xrg := by
  subst hd
  have R' := R
  obtain ⟨r1, r2, r3⟩ := R'
  by_cases e : L.length = 16
  · refine br_t (by rw [r1, e]; exact Int32.le_refl _) (nm_e (h _ _ _ _ _ _ _ _ ?_))
    rw [pa_cpf _ e]; exact R
  · refine br_f (by rw [r1]; exact nI_ge (b := 16) (by omega) (by omega)) ?_
    refine xt_take hs (by omega) S W hp R ?_
    intro rc so lo rj re rs nd np R2
    refine nm_e (h _ _ _ _ _ _ _ _ ?_)
    rw [pa_cp1 (by omega)]; exact R2
theorem xf_29 {pu : SX → Prop} {J : Int32 → Int32 → Int32 → Int32 → Int32 → Int32 → Int32 → (Nat → Int32) → (Nat → Int32) → (Nat → Int32) → (Nat → Int32) → (Nat → Int32) → (Nat → Int32) → (Nat → Int32) → (Nat → Int32) → (Nat → Int32) → (Nat → Int32) → (Nat → Int32) → (Nat → Int32) → (Nat → Int32) → (Nat → Int32) → (Nat → Int32) → (Nat → Int32) → (Nat → Int32) → (Nat → Int32) → (Nat → Int32) → (Nat → Int32) → (Nat → Int32) → (Nat → Int32) → (Nat → Int32) → (Nat → Int32) → (Nat → Int32) → (Nat → Int32) → Prop} {s d c a : Nat} {p : List (Nat × Nat)} {seen : List Nat} {L : List (Nat × List (Nat × Nat))} (hs : s < 20) (S : sk_St A B nj xjt) (P : pa_P (yd_nx A B nj) (yd_tm A B nj sg) s p a seen) (W : wy_W A B nj s p xwe xwc) (hd : p.length = d) (hp : d < 5) (R : rp_X A B nj L xrc xso xlo xrj xre xrs xnd xnp) (hwc : xwc d = nI c) (hc : c ≤ sk_c A B nj a)
    (h1 : sk_c A B nj a ≤ c → J (nI d + (-1)) xjc xfd xrc xsr xoc xwg (im_n A) (im_n B) (im_n (sk_c A B nj)) xjt (im_b sg) xps xso xlo xrj xre xrs xnd xnp xcf xwe xwc xwt xto xlk xnc xhd xro xpg xrt xsz xrg)
    (h2 : ∀ q, c < sk_c A B nj a → yd_nx A B nj a c = some q → q.2 / 2 ∈ seen → J (nI d) xjc xfd xrc xsr xoc xwg (im_n A) (im_n B) (im_n (sk_c A B nj)) xjt (im_b sg) xps xso xlo xrj xre xrs xnd xnp xcf xwe (upd xwc d (nI (c + 1))) xwt xto xlk xnc xhd xro xpg xrt xsz xrg)
    (h3 : ∀ q, c < sk_c A B nj a → yd_nx A B nj a c = some q → ¬ q.2 / 2 ∈ seen → yd_tm A B nj sg (ix_op q.2) = true → ∀ rc so lo rj re rs nd np, rp_X A B nj (pa_cp L [(s, p ++ [q])]) rc so lo rj re rs nd np → J (nI (d + 1) + (-1)) xjc xfd rc xsr xoc xwg (im_n A) (im_n B) (im_n (sk_c A B nj)) xjt (im_b sg) xps so lo rj re rs nd np xcf (upd xwe (d + 1) (nI q.2)) (upd xwc d (nI (c + 1))) xwt xto xlk xnc xhd xro xpg xrt xsz xrg)
    (h4 : ∀ q, c < sk_c A B nj a → yd_nx A B nj a c = some q → ¬ q.2 / 2 ∈ seen → yd_tm A B nj sg (ix_op q.2) = false → J (nI (d + 1)) xjc xfd xrc xsr xoc xwg (im_n A) (im_n B) (im_n (sk_c A B nj)) xjt (im_b sg) xps xso xlo xrj xre xrs xnd xnp xcf (upd xwe (d + 1) (nI q.2)) (upd (upd xwc d (nI (c + 1))) (d + 1) (nI 0)) xwt xto xlk xnc xhd xro xpg xrt xsz xrg) :
    wX_follow_29 pu J (nI s) (nI d) (nI a) xjc xfd xrc xsr xoc xwg (im_n A) (im_n B) (im_n (sk_c A B nj)) xjt (im_b sg) xps xso xlo xrj xre xrs xnd xnp xcf xwe xwc xwt xto xlk xnc xhd xro xpg xrt xsz xrg := by
  have Sk := S
  obtain ⟨s1, s2, s3, s4, s5, s6⟩ := Sk
  obtain ⟨p1, p2, p3, p4⟩ := P
  have ha : a < 20 := by rw [p1]; exact wy_l20 hs s2 s3 W (Nat.le_refl _)
  have c2 := s5 a
  have cd : (nI d).toNatClampNeg = d := nI_clamp (by omega)
  have vd : vp_in (nI d) 6 := vp_in_nI (by omega) (by omega)
  have va : vp_in (nI a) 20 := vp_in_nI ha (by omega)
  have rwc : xwc (nI d).toNatClampNeg = nI c := by rw [cd]; exact hwc
  have rca : im_n (sk_c A B nj) (nI a).toNatClampNeg = nI (sk_c A B nj a) := im_nR rfl (by omega)
  refine br_f (by show ¬ nI d = nI 5; rw [nI_eq (by omega) (by omega)]; omega) (And.intro vd (And.intro va ?_))
  rw [rwc, rca]
  refine pk_eq c (sk_c A B nj a) ?_ ?_
  · intro e; exact nm_e (h1 (by omega))
  · intro e
    have hlt : c < sk_c A B nj a := by omega
    obtain ⟨j, hj⟩ := sk_nlt hlt
    have hj' := (sk_ns nj).mp hj
    have hq := yd_i hj
    have ho := sk_o20 s2 s3 j a
    have hop := ix_op20 ho
    refine And.intro vd (And.intro (by rw [ix_2]; exact vp_in_nI (by omega) (by omega)) ?_)
    refine nm_r (e' := nI j) (by rw [ix_2, nI_clamp (n := 2 * a + c) (by omega), s6 a c j hj]) ?_
    refine And.intro vd (And.intro vd ?_)
    refine nm_r (e' := upd xwc d (nI (c + 1))) (by rw [cd, nI_1, im_by (by omega)]) ?_
    refine xs_across (by omega) ha s2 ?_
    refine And.intro ix_20 ?_
    rw [ix_h (a := sk_o A B j a) (by omega)]
    subst hd
    refine xf_vis hs (by omega) (by omega) (fun k hk => ⟨(W k hk).1, wy_20 s2 s3 W hk⟩) p3 ?_ ?_
    · intro hns
      refine br_t rfl ?_
      refine nm_r (nI_1 p.length) ?_
      refine And.intro (vp_in_nI (by omega) (by omega)) ?_
      refine nm_r (e' := upd xwe (p.length + 1) (nI (sk_o A B j a))) (by rw [nI_clamp (n := p.length + 1) (by omega), im_by (by omega)]) ?_
      have vo : vp_in (nI (sk_o A B j a) ^^^ 1) 20 := by rw [ix_opx _ ho]; exact vp_in_nI hop (by omega)
      have co : (nI (sk_o A B j a) ^^^ 1).toNatClampNeg = ix_op (sk_o A B j a) := by rw [ix_opx _ ho]; exact nI_clamp (by omega)
      have W' : wy_W A B nj s (p ++ [(j, sk_o A B j a)]) (upd xwe (p.length + 1) (nI (sk_o A B j a))) (upd xwc p.length (nI (c + 1))) := by
        refine wy_ap (c := c) ?_ (by omega) ?_ pk_us pk_us
        · exact wy_ag W (fun k hk => ⟨pk_un (by omega), pk_un (by omega)⟩)
        · rw [← p1]; exact hq
      have hterm : yd_tm A B nj sg (ix_op (sk_o A B j a)) = true → wX_follow_145 pu J (nI s) (nI (p.length + 1)) xjc xfd xrc xsr xoc xwg (im_n A) (im_n B) (im_n (sk_c A B nj)) xjt (im_b sg) xps xso xlo xrj xre xrs xnd xnp xcf (upd xwe (p.length + 1) (nI (sk_o A B j a))) (upd xwc p.length (nI (c + 1))) xwt xto xlk xnc xhd xro xpg xrt xsz xrg := by
        intro ht
        exact xf_145 hs S W' pa_len (by omega) R (h3 _ hlt hq hns ht)
      refine And.intro vo ?_
      rw [co]
      show (im_bi (sg (ix_op (sk_o A B j a))) = 0 → _) ∧ _
      refine im_bc ?_ ?_
      · intro hsg
        refine And.intro vo ?_
        show (nI (sk_c A B nj (ix_op (sk_o A B j a))) = 0 → _) ∧ _
        have c2' := s5 (ix_op (sk_o A B j a))
        refine pk_eq (sk_c A B nj (ix_op (sk_o A B j a))) 0 ?_ ?_
        · intro e0
          refine hterm ?_
          unfold yd_tm; rw [e0, decide_eq_true rfl, Bool.or_true]
        · intro e0
          refine And.intro (vp_in_nI (by omega) (by omega)) ?_
          refine nm_r (e' := upd (upd xwc p.length (nI (c + 1))) (p.length + 1) (nI 0)) (by rw [nI_clamp (n := p.length + 1) (by omega), im_by0]) ?_
          refine h4 _ hlt hq hns ?_
          unfold yd_tm; rw [hsg, decide_eq_false e0]; rfl
      · intro hsg
        refine hterm ?_
        unfold yd_tm; rw [hsg, Bool.true_or]
    · intro hns
      exact br_f (by decide) (h2 _ hlt hq hns)
theorem xf_head {pu : SX → Prop} {s d n : Nat} {p : List (Nat × Nat)} (hs : s < 20) (hA : ∀ j, A j < 20) (hB : ∀ j, B j < 20) (W : wy_W A B nj s p xwe xwc) (hd : p.length = d) (hp : d ≤ 5) (h : wX_follow_29 pu (wX_follow_9 pu (nI s) n) (nI s) (nI d) (nI (pa_l s p d)) xjc xfd xrc xsr xoc xwg xjA xjB xcA xjt xhs xps xso xlo xrj xre xrs xnd xnp xcf xwe xwc xwt xto xlk xnc xhd xro xpg xrt xsz xrg) : wX_follow_9 pu (nI s) (n + 1) (nI d) xjc xfd xrc xsr xoc xwg xjA xjB xcA xjt xhs xps xso xlo xrj xre xrs xnd xnp xcf xwe xwc xwt xto xlk xnc xhd xro xpg xrt xsz xrg := by
  refine br_f (nI_pos (by omega)) ?_
  refine pk_eq d 0 ?_ ?_
  · intro e
    have el : pa_l s p d = s := by rw [e]; rfl
    rw [el] at h; exact h
  · intro e
    refine And.intro (vp_in_nI (by omega) (by omega)) ?_
    have el : xwe (nI d).toNatClampNeg ^^^ 1 = nI (pa_l s p d) := by
      have hw := W (d - 1) (by omega)
      have e1 : d - 1 + 1 = d := by omega
      rw [nI_clamp (by omega)]
      rw [e1] at hw
      rw [hw.1, ix_opx _ (wy_20 hA hB W (by omega))]
      unfold pa_l
      rw [if_neg e]
    rw [el]; exact h
def xf_c : Nat → Nat
  | 0 => 1
  | e + 1 => 2 * xf_c e + 3
theorem xf_cs (e : Nat) : xf_c (e + 1) = 2 * xf_c e + 3 := rfl
theorem xf_node {pu : SX → Prop} {s : Nat} (hs : s < 20) (S : sk_St A B nj xjt) : ∀ (e : Nat) (p : List (Nat × Nat)) (a : Nat) (seen : List Nat) (L : List (Nat × List (Nat × Nat))) (we wc : Nat → Int32) (rc : Int32) (so lo rj re rs nd np : Nat → Int32) (N : Nat), p.length + e = 5 → pa_P (yd_nx A B nj) (yd_tm A B nj sg) s p a seen → wy_W A B nj s p we wc → rp_X A B nj L rc so lo rj re rs nd np → wc p.length = nI 0 →
    (∀ (we' wc' : Nat → Int32) (rc' : Int32) (so' lo' rj' re' rs' nd' np' : Nat → Int32), rp_X A B nj (pa_cp L ((pa_d (yd_nx A B nj) (yd_tm A B nj sg) e a seen p).map (Prod.mk s))) rc' so' lo' rj' re' rs' nd' np' → (∀ k, k < p.length → we' (k + 1) = we (k + 1) ∧ wc' k = wc k) → ∀ n, N ≤ n → wX_follow_9 pu (nI s) n (nI p.length + (-1)) xjc xfd rc' xsr xoc xwg (im_n A) (im_n B) (im_n (sk_c A B nj)) xjt (im_b sg) xps so' lo' rj' re' rs' nd' np' xcf we' wc' xwt xto xlk xnc xhd xro xpg xrt xsz xrg) →
    ∀ n, N + xf_c e ≤ n → wX_follow_9 pu (nI s) n (nI p.length) xjc xfd rc xsr xoc xwg (im_n A) (im_n B) (im_n (sk_c A B nj)) xjt (im_b sg) xps so lo rj re rs nd np xcf we wc xwt xto xlk xnc xhd xro xpg xrt xsz xrg := by
  intro e
  induction e with
  | zero =>
    intro p a seen L we wc rc so lo rj re rs nd np N hl P W R hw K n hn
    obtain ⟨m, rfl⟩ : ∃ m, n = m + 1 := ⟨n - 1, by have : xf_c 0 = 1 := rfl; omega⟩
    have hl' : p.length = 5 := hl
    refine xf_head hs S.2.1 S.2.2.1 W rfl (by omega) ?_
    refine br_t (by rw [hl']; rfl) (nm_e ?_)
    refine K we wc rc so lo rj re rs nd np ?_ (fun k _ => ⟨rfl, rfl⟩) m (by have : xf_c 0 = 1 := rfl; omega)
    show rp_X A B nj (pa_cp L []) _ _ _ _ _ _ _ _
    rw [pa_cpn R.2.1]; exact R
  | succ e ih =>
    intro p a seen L we wc rc so lo rj re rs nd np N hl P W R hw K
    have inner : ∀ (m c : Nat) (L : List (Nat × List (Nat × Nat))) (we wc : Nat → Int32) (rc : Int32) (so lo rj re rs nd np : Nat → Int32), c + m = 2 → c ≤ sk_c A B nj a → wy_W A B nj s p we wc → rp_X A B nj L rc so lo rj re rs nd np → wc p.length = nI c →
        (∀ (we' wc' : Nat → Int32) (rc' : Int32) (so' lo' rj' re' rs' nd' np' : Nat → Int32), rp_X A B nj (pa_cp L ((pa_r (yd_nx A B nj) (yd_tm A B nj sg) e c a seen p).map (Prod.mk s))) rc' so' lo' rj' re' rs' nd' np' → (∀ k, k < p.length → we' (k + 1) = we (k + 1) ∧ wc' k = wc k) → ∀ n, N ≤ n → wX_follow_9 pu (nI s) n (nI p.length + (-1)) xjc xfd rc' xsr xoc xwg (im_n A) (im_n B) (im_n (sk_c A B nj)) xjt (im_b sg) xps so' lo' rj' re' rs' nd' np' xcf we' wc' xwt xto xlk xnc xhd xro xpg xrt xsz xrg) →
        ∀ n, N + m * (xf_c e + 1) + 1 ≤ n → wX_follow_9 pu (nI s) n (nI p.length) xjc xfd rc xsr xoc xwg (im_n A) (im_n B) (im_n (sk_c A B nj)) xjt (im_b sg) xps so lo rj re rs nd np xcf we wc xwt xto xlk xnc xhd xro xpg xrt xsz xrg := by
      intro m
      induction m with
      | zero =>
        intro c L we wc rc so lo rj re rs nd np hc hca W R hw K n hn
        obtain ⟨n, rfl⟩ : ∃ m, n = m + 1 := ⟨n - 1, by omega⟩
        have c2 := S.2.2.2.2.1 a
        refine xf_head hs S.2.1 S.2.2.1 W rfl (by omega) ?_
        rw [← P.1]
        refine xf_29 hs S P W rfl (by omega) R hw hca ?_ ?_ ?_ ?_
        · intro _
          refine K we wc rc so lo rj re rs nd np ?_ (fun k _ => ⟨rfl, rfl⟩) n (by omega)
          rw [pa_rn (fun k hk => yd_n (by omega))]
          show rp_X A B nj (pa_cp L []) _ _ _ _ _ _ _ _
          rw [pa_cpn R.2.1]; exact R
        · intro q hlt; omega
        · intro q hlt; omega
        · intro q hlt; omega
      | succ m ihm =>
        intro c L we wc rc so lo rj re rs nd np hc hca W R hw K n hn
        have hmul : (m + 1) * (xf_c e + 1) = m * (xf_c e + 1) + (xf_c e + 1) := Nat.succ_mul _ _
        obtain ⟨n, rfl⟩ : ∃ m, n = m + 1 := ⟨n - 1, by omega⟩
        refine xf_head hs S.2.1 S.2.2.1 W rfl (by omega) ?_
        rw [← P.1]
        refine xf_29 hs S P W rfl (by omega) R hw hca ?_ ?_ ?_ ?_
        · intro hcc
          refine K we wc rc so lo rj re rs nd np ?_ (fun k _ => ⟨rfl, rfl⟩) n (by omega)
          rw [pa_rn (fun k hk => yd_n (by omega))]
          show rp_X A B nj (pa_cp L []) _ _ _ _ _ _ _ _
          rw [pa_cpn R.2.1]; exact R
        · intro q hlt hq hsn
          refine ihm (c + 1) L we (upd wc p.length (nI (c + 1))) rc so lo rj re rs nd np (by omega) (by omega) (wy_ag W (fun k hk => ⟨rfl, pk_un (by omega)⟩)) R pk_us ?_ n (by omega)
          intro we' wc' rc' so' lo' rj' re' rs' nd' np' R' ag
          refine K we' wc' rc' so' lo' rj' re' rs' nd' np' ?_ ?_
          · rw [pa_rs (by omega), pa_bs hq, if_pos hsn]; exact R'
          · intro k hk; exact ⟨(ag k hk).1, (ag k hk).2.trans (pk_un (by omega))⟩
        · intro q hlt hq hsn ht rc1 so1 lo1 rj1 re1 rs1 nd1 np1 R1
          rw [pk_m1]
          refine ihm (c + 1) _ (upd we (p.length + 1) (nI q.2)) (upd wc p.length (nI (c + 1))) rc1 so1 lo1 rj1 re1 rs1 nd1 np1 (by omega) (by omega) (wy_ag W (fun k hk => ⟨pk_un (by omega), pk_un (by omega)⟩)) R1 pk_us ?_ n (by omega)
          intro we' wc' rc' so' lo' rj' re' rs' nd' np' R' ag
          refine K we' wc' rc' so' lo' rj' re' rs' nd' np' ?_ ?_
          · rw [pa_rs (by omega), pa_bs hq, if_neg hsn, if_pos ht]
            rw [pa_cpa] at R'
            exact R'
          · intro k hk; exact ⟨(ag k hk).1.trans (pk_un (by omega)), (ag k hk).2.trans (pk_un (by omega))⟩
        · intro q hlt hq hsn ht
          have hlen : (p ++ [q]).length = p.length + 1 := pa_len
          have W2 : wy_W A B nj s (p ++ [q]) (upd we (p.length + 1) (nI q.2)) (upd (upd wc p.length (nI (c + 1))) (p.length + 1) (nI 0)) := by
            refine wy_ap (c := c) (wy_ag W (fun k hk => ⟨pk_un (by omega), ?_⟩)) (by omega) ?_ pk_us ?_
            · rw [pk_un (by omega), pk_un (by omega)]
            · rw [← P.1]; exact hq
            · rw [pk_un (by omega), pk_us]
          have step := ih (p ++ [q]) (ix_op q.2) (q.2 / 2 :: seen) L (upd we (p.length + 1) (nI q.2)) (upd (upd wc p.length (nI (c + 1))) (p.length + 1) (nI 0)) rc so lo rj re rs nd np (N + m * (xf_c e + 1) + 1) (by rw [hlen]; omega) (pa_Ps P hq hsn ht) W2 R (by rw [hlen, pk_us])
          rw [hlen] at step
          refine step ?_ n (by omega)
          intro we1 wc1 rc1 so1 lo1 rj1 re1 rs1 nd1 np1 R1 ag1 n1 hn1
          rw [pk_m1]
          have W3 : wy_W A B nj s p we1 wc1 := by
            refine wy_ag W (fun k hk => ⟨(ag1 k (by omega)).1.trans (pk_un (by omega)), (ag1 k (by omega)).2.trans ?_⟩)
            rw [pk_un (by omega), pk_un (by omega)]
          refine ihm (c + 1) _ we1 wc1 rc1 so1 lo1 rj1 re1 rs1 nd1 np1 (by omega) (by omega) W3 R1 ?_ ?_ n1 (by omega)
          · rw [(ag1 p.length (by omega)).2, pk_un (by omega), pk_us]
          · intro we' wc' rc' so' lo' rj' re' rs' nd' np' R' ag
            refine K we' wc' rc' so' lo' rj' re' rs' nd' np' ?_ ?_
            · rw [pa_rs (by omega), pa_bs hq, if_neg hsn, if_neg (by rw [ht]; decide), List.map_append]
              rw [pa_cpa] at R'
              exact R'
            · intro k hk
              refine ⟨(ag k hk).1.trans ((ag1 k (by omega)).1.trans (pk_un (by omega))), (ag k hk).2.trans ((ag1 k (by omega)).2.trans ?_)⟩
              rw [pk_un (by omega), pk_un (by omega)]
    intro n hn
    refine inner 2 0 L we wc rc so lo rj re rs nd np rfl (Nat.zero_le _) W R hw K n ?_
    rw [xf_cs] at hn
    omega
/-- all ways from an end -/
theorem xf_follow {pu : SX → Prop} {s : Nat} {L : List (Nat × List (Nat × Nat))} (hs : s < 20) (S : sk_St A B nj xjt) (R : rp_X A B nj L xrc xso xlo xrj xre xrs xnd xnp)
    (h : ∀ (we' wc' : Nat → Int32) (rc' : Int32) (so' lo' rj' re' rs' nd' np' : Nat → Int32), rp_X A B nj (pa_cp L ((pa_d (yd_nx A B nj) (yd_tm A B nj sg) 5 s [s / 2] []).map (Prod.mk s))) rc' so' lo' rj' re' rs' nd' np' → pu (xjc, xfd, rc', xsr, xoc, xwg, im_n A, im_n B, im_n (sk_c A B nj), xjt, im_b sg, xps, so', lo', rj', re', rs', nd', np', xcf, we', wc', xwt, xto, xlk, xnc, xhd, xro, xpg, xrt, xsz, xrg)) :
    wpX_follow pu (xjc, xfd, xrc, xsr, xoc, xwg, im_n A, im_n B, im_n (sk_c A B nj), xjt, im_b sg, xps, xso, xlo, xrj, xre, xrs, xnd, xnp, xcf, xwe, xwc, xwt, xto, xlk, xnc, xhd, xro, xpg, xrt, xsz, xrg) (nI s) := by
  refine nm_r (e' := upd xwc 0 (nI 0)) (by rw [im_by0]) ?_
  refine Exists.intro (1 + xf_c 5) ?_
  refine xf_node hs S 5 [] s [s / 2] L xwe (upd xwc 0 (nI 0)) xrc xso xlo xrj xre xrs xnd xnp 1 rfl pa_P0 (fun k hk => absurd hk (Nat.not_lt_zero k)) R pk_us ?_ _ (Nat.le_refl _)
  intro we' wc' rc' so' lo' rj' re' rs' nd' np' R' _ n hn
  obtain ⟨n, rfl⟩ : ∃ m, n = m + 1 := ⟨n - 1, by omega⟩
  exact br_t (by decide) (h we' wc' rc' so' lo' rj' re' rs' nd' np' R')
end FOLLOW
end
section
/-! the component finds its routes and their conflicts -/
section XFIND
variable {xjc xfd xrc xsr xoc xwg : Int32} {xjA xjB xcA xjt xhs xps xso xlo xrj xre xrs xnd xnp xcf xwe xwc xwt xto xlk xnc xhd xro xpg xrt xsz xrg : Nat → Int32}
variable {A B : Nat → Nat} {nj : Nat} {sg : Nat → Bool}
def xc_B (rs nd np : Nat → Int32) (r q : Nat) : Prop := r = q ∨ ¬ rs r &&& rs q = 0 ∨ ¬ (np r ^^^ np q) &&& (nd r &&& nd q) = 0
def rx_F (A B : Nat → Nat) (nj : Nat) (sg : Nat → Bool) (rc : Int32) (so lo rj re rs nd np cf : Nat → Int32) : Prop :=
  rp_X A B nj (pa_L (yd_nx A B nj) (yd_tm A B nj sg) sg) rc so lo rj re rs nd np ∧ ∀ r, r < (pa_L (yd_nx A B nj) (yd_tm A B nj sg) sg).length → ∀ x, bt (cf r) x = true ↔ x < (pa_L (yd_nx A B nj) (yd_tm A B nj sg) sg).length ∧ xc_B rs nd np r x
theorem xc_are {post : Int32 → Prop} {r q : Nat} (hr : r < 16) (hq : q < 16) (h0 : ¬ xc_B xrs xnd xnp r q → post 0) (h1 : xc_B xrs xnd xnp r q → post 1) : wpX_areInConflict post (xjc, xfd, xrc, xsr, xoc, xwg, xjA, xjB, xcA, xjt, xhs, xps, xso, xlo, xrj, xre, xrs, xnd, xnp, xcf, xwe, xwc, xwt, xto, xlk, xnc, xhd, xro, xpg, xrt, xsz, xrg) (nI r) (nI q) := by
  have vr : vp_in (nI r) 16 := vp_in_nI hr (by omega)
  have vq : vp_in (nI q) 16 := vp_in_nI hq (by omega)
  have cr : (nI r).toNatClampNeg = r := nI_clamp (by omega)
  have cq : (nI q).toNatClampNeg = q := nI_clamp (by omega)
  refine And.intro vr (And.intro vq (nm_r (e' := xnd r &&& xnd q) (by rw [cr, cq]) ?_))
  refine pk_eq r q ?_ ?_
  · intro e; exact h1 (Or.inl e)
  · intro e
    refine And.intro vr (And.intro vq ?_)
    rw [cr, cq]
    refine br_c ?_ ?_
    · intro z1
      refine And.intro vr (And.intro vq ?_)
      refine br_c ?_ ?_
      · intro z2
        refine h0 ?_
        rintro (z | z | z)
        · exact e z
        · exact z z1
        · exact z z2
      · intro z2; exact h1 (Or.inr (Or.inr z2))
    · intro z1; exact h1 (Or.inr (Or.inl z1))
theorem xc_65 {pu : SX → Prop} {J : Int32 → (Nat → Int32) → (Nat → Int32) → (Nat → Int32) → (Nat → Int32) → (Nat → Int32) → (Nat → Int32) → (Nat → Int32) → (Nat → Int32) → (Nat → Int32) → (Nat → Int32) → (Nat → Int32) → (Nat → Int32) → (Nat → Int32) → (Nat → Int32) → (Nat → Int32) → (Nat → Int32) → (Nat → Int32) → (Nat → Int32) → (Nat → Int32) → (Nat → Int32) → (Nat → Int32) → (Nat → Int32) → (Nat → Int32) → (Nat → Int32) → (Nat → Int32) → (Nat → Int32) → Prop} {n r : Nat} {cf0 : Nat → Int32} (hn : n ≤ 16) (hr : r < n) (h : ∀ cf : Nat → Int32, (∀ q, q ≠ r → cf q = cf0 q) → (∀ x, bt (cf r) x = true ↔ x < n ∧ xc_B xrs xnd xnp r x) → J (nI (r + 1)) xjA xjB xcA xjt xhs xps xso xlo xrj xre xrs xnd xnp cf xwe xwc xwt xto xlk xnc xhd xro xpg xrt xsz xrg) :
    ∀ (d q : Nat) (cf : Nat → Int32), q + d = n → (∀ q, q ≠ r → cf q = cf0 q) → (∀ x, bt (cf r) x = true ↔ x < q ∧ xc_B xrs xnd xnp r x) → wX_findRoutes_65 pu J (nI r) xjc xfd (nI n) xsr xoc xwg (d + 1) (nI q) xjA xjB xcA xjt xhs xps xso xlo xrj xre xrs xnd xnp cf xwe xwc xwt xto xlk xnc xhd xro xpg xrt xsz xrg := by
  intro d
  induction d with
  | zero =>
    intro q cf hq h1 h2
    have hq' : q = n := hq
    subst hq'
    exact br_t (Int32.le_refl _) (nm_r (nI_1 r) (h cf h1 h2))
  | succ d ih =>
    intro q cf hq h1 h2
    have cr : (nI r).toNatClampNeg = r := nI_clamp (by omega)
    have vr : vp_in (nI r) 16 := vp_in_nI (by omega) (by omega)
    refine br_f (nI_ge (by omega) (by omega)) ?_
    refine xc_are (by omega) (by omega) ?_ ?_
    · intro z
      refine br_t rfl (nm_r (nI_1 q) (ih (q + 1) cf (by omega) h1 ?_))
      intro x
      rw [h2 x]
      constructor
      · rintro ⟨a, b⟩; exact ⟨by omega, b⟩
      · rintro ⟨a, b⟩
        refine ⟨?_, b⟩
        by_cases e : x = q
        · subst e; exact absurd b z
        · omega
    · intro z
      refine br_f (by decide) (And.intro vr (And.intro vr ?_))
      refine nm_r (e' := upd cf r (cf r ||| ((1 : Int32) <<< (nI q &&& 31)))) (by rw [cr]) ?_
      refine nm_r (nI_1 q) (ih (q + 1) _ (by omega) (fun q' hq' => (pk_un hq').trans (h1 q' hq')) ?_)
      intro x
      rw [pk_us, ib_set _ (by omega), Bool.or_eq_true, decide_eq_true_iff, h2 x]
      constructor
      · rintro (⟨a, b⟩ | a)
        · exact ⟨by omega, b⟩
        · subst a; exact ⟨by omega, z⟩
      · rintro ⟨a, b⟩
        by_cases e : x = q
        · exact Or.inr e
        · exact Or.inl ⟨by omega, b⟩
theorem xc_48 {pu : SX → Prop} {n : Nat} (hn : n ≤ 16) (h : ∀ cf : Nat → Int32, (∀ r, r < n → ∀ x, bt (cf r) x = true ↔ x < n ∧ xc_B xrs xnd xnp r x) → pu (xjc, xfd, nI n, xsr, xoc, xwg, xjA, xjB, xcA, xjt, xhs, xps, xso, xlo, xrj, xre, xrs, xnd, xnp, cf, xwe, xwc, xwt, xto, xlk, xnc, xhd, xro, xpg, xrt, xsz, xrg)) :
    ∀ (d r : Nat) (cf : Nat → Int32), r + d = n → (∀ q, q < r → ∀ x, bt (cf q) x = true ↔ x < n ∧ xc_B xrs xnd xnp q x) → wX_findRoutes_48 pu xjc xfd (nI n) xsr xoc xwg (d + 1) (nI r) xjA xjB xcA xjt xhs xps xso xlo xrj xre xrs xnd xnp cf xwe xwc xwt xto xlk xnc xhd xro xpg xrt xsz xrg := by
  intro d
  induction d with
  | zero =>
    intro r cf hr h1
    have hr' : r = n := hr
    subst hr'
    exact br_t (Int32.le_refl _) (h cf h1)
  | succ d ih =>
    intro r cf hr h1
    have cr : (nI r).toNatClampNeg = r := nI_clamp (by omega)
    have vr : vp_in (nI r) 16 := vp_in_nI (by omega) (by omega)
    refine br_f (nI_ge (by omega) (by omega)) (And.intro vr (nm_r (e' := upd cf r 0) (by rw [cr]) ?_))
    refine Exists.intro (n + 1) ?_
    refine xc_65 (cf0 := cf) hn (by omega) ?_ n 0 (upd cf r 0) (Nat.zero_add n) (fun q hq => pk_un hq) ?_
    · intro cf' e1 e2
      refine ih (r + 1) cf' (by omega) ?_
      intro q hq
      by_cases e : q = r
      · subst e; exact e2
      · rw [e1 q e]; exact h1 q (by omega)
    · intro x
      rw [pk_us, b_0]
      exact ⟨(fun z => by cases z), fun z => absurd z.1 (Nat.not_lt_zero x)⟩
theorem xr_20 {pu : SX → Prop} (S : sk_St A B nj xjt)
    (h : ∀ (we wc : Nat → Int32) (rc : Int32) (so lo rj re rs nd np cf : Nat → Int32), rx_F A B nj sg rc so lo rj re rs nd np cf → pu (xjc, xfd, rc, xsr, xoc, xwg, im_n A, im_n B, im_n (sk_c A B nj), xjt, im_b sg, xps, so, lo, rj, re, rs, nd, np, cf, we, wc, xwt, xto, xlk, xnc, xhd, xro, xpg, xrt, xsz, xrg)) :
    ∀ (d a : Nat) (we wc : Nat → Int32) (rc : Int32) (so lo rj re rs nd np : Nat → Int32), a + d = 20 → rp_X A B nj (pa_cp [] (pa_M (yd_nx A B nj) (yd_tm A B nj sg) sg a)) rc so lo rj re rs nd np → wX_findRoutes_20 pu (d + 1) (nI a) xjc xfd rc xsr xoc xwg (im_n A) (im_n B) (im_n (sk_c A B nj)) xjt (im_b sg) xps so lo rj re rs nd np xcf we wc xwt xto xlk xnc xhd xro xpg xrt xsz xrg := by
  intro d
  induction d with
  | zero =>
    intro a we wc rc so lo rj re rs nd np ha R
    have ha' : a = 20 := ha
    subst ha'
    refine br_t (Int32.le_refl _) (Exists.intro ((pa_L (yd_nx A B nj) (yd_tm A B nj sg) sg).length + 1) ?_)
    have R' := R
    obtain ⟨r1, r2, r3⟩ := R'
    subst r1
    refine xc_48 (n := (pa_L (yd_nx A B nj) (yd_tm A B nj sg) sg).length) r2 ?_ (pa_L (yd_nx A B nj) (yd_tm A B nj sg) sg).length 0 _ (Nat.zero_add _) (fun q hq => absurd hq (Nat.not_lt_zero q))
    intro cf hcf
    exact h _ _ _ _ _ _ _ _ _ _ _ ⟨R, hcf⟩
  | succ d ih =>
    intro a we wc rc so lo rj re rs nd np ha R
    refine br_f (nI_ge (b := 20) (by omega) (by omega)) (And.intro (vp_in_nI (by omega) (by omega)) ?_)
    rw [im_bR (i := a) rfl (by omega)]
    refine im_bc ?_ ?_
    · intro e
      refine nm_r (nI_1 a) (ih (a + 1) we wc rc so lo rj re rs nd np (by omega) ?_)
      have hM : pa_M (yd_nx A B nj) (yd_tm A B nj sg) sg (a + 1) = pa_M (yd_nx A B nj) (yd_tm A B nj sg) sg a := by
        show pa_M (yd_nx A B nj) (yd_tm A B nj sg) sg a ++ (if sg a = true then _ else []) = _
        rw [if_neg (by rw [e]; decide), List.append_nil]
      rw [hM]; exact R
    · intro e
      refine xf_follow (by omega) S R ?_
      intro we' wc' rc' so' lo' rj' re' rs' nd' np' R'
      refine nm_r (nI_1 a) (ih (a + 1) we' wc' rc' so' lo' rj' re' rs' nd' np' (by omega) ?_)
      have hM : pa_M (yd_nx A B nj) (yd_tm A B nj sg) sg (a + 1) = pa_M (yd_nx A B nj) (yd_tm A B nj sg) sg a ++ (pa_d (yd_nx A B nj) (yd_tm A B nj sg) 5 a [a / 2] []).map (Prod.mk a) := by
        show pa_M (yd_nx A B nj) (yd_tm A B nj sg) sg a ++ (if sg a = true then _ else []) = _
        rw [if_pos e]
      rw [hM, ← pa_cpa]; exact R'
/-- the routes are found, or were -/
theorem xr_find {pu : SX → Prop} {fd : Bool} (S : sk_St A B nj xjt) (F : fd = true → rx_F A B nj sg xrc xso xlo xrj xre xrs xnd xnp xcf)
    (h : ∀ (we wc : Nat → Int32) (rc : Int32) (so lo rj re rs nd np cf : Nat → Int32), rx_F A B nj sg rc so lo rj re rs nd np cf → pu (xjc, im_bi true, rc, xsr, xoc, xwg, im_n A, im_n B, im_n (sk_c A B nj), xjt, im_b sg, xps, so, lo, rj, re, rs, nd, np, cf, we, wc, xwt, xto, xlk, xnc, xhd, xro, xpg, xrt, xsz, xrg)) :
    wpX_findRoutes pu (xjc, im_bi fd, xrc, xsr, xoc, xwg, im_n A, im_n B, im_n (sk_c A B nj), xjt, im_b sg, xps, xso, xlo, xrj, xre, xrs, xnd, xnp, xcf, xwe, xwc, xwt, xto, xlk, xnc, xhd, xro, xpg, xrt, xsz, xrg) := by
  refine im_bc ?_ ?_
  · intro _
    refine Exists.intro (20 + 1) ?_
    refine xr_20 S h 20 0 xwe xwc 0 xso xlo xrj xre xrs xnd xnp rfl ?_
    refine ⟨rfl, Nat.zero_le _, fun r hr => absurd hr (Nat.not_lt_zero r)⟩
  · intro e
    subst e
    exact h xwe xwc xrc xso xlo xrj xre xrs xnd xnp xcf (F rfl)
end XFIND
end
section
/-! the reference finds its routes, code by code -/
section YFIND
variable {yjs yrs : Int32} {yon ytw ysg yps yfr yln yjt yen yst ywt yhl ylk yhd yun yed yrv ymt ynx : Nat → Int32}
variable {A B : Nat → Nat} {nj : Nat} {sg : Nat → Bool}
def rp_Y (L : List (Nat × List (Nat × Nat))) (rs : Int32) (fr ln jt en : Nat → Int32) : Prop :=
  rs = nI L.length ∧ L.length ≤ 16 ∧ ∀ r, r < L.length → rp_1 (rl_s L r) (rl_p L r) r fr ln jt en
theorem yd_20 {s : Nat} {p : List (Nat × Nat)} (hA : ∀ j, A j < 20) (hB : ∀ j, B j < 20) (G : pa_G (yd_nx A B nj) s p) {k : Nat} (hk : k < p.length) : (p.getD k (0, 0)).2 < 20 := by
  obtain ⟨⟨c, w⟩, _⟩ := G k hk
  rw [(yd_s w).2]; exact sk_o20 hA hB _ _
theorem yd_l20 {s : Nat} {p : List (Nat × Nat)} (hs : s < 20) (hA : ∀ j, A j < 20) (hB : ∀ j, B j < 20) (G : pa_G (yd_nx A B nj) s p) {k : Nat} (hk : k ≤ p.length) : pa_l s p k < 20 := by
  unfold pa_l
  split
  · exact hs
  · exact ix_op20 (yd_20 hA hB G (by omega))
theorem yf_bit : ∀ k, k < 5 → ∀ c, c < 32 → ((nI c >>> ((4 - nI k) &&& 31)) &&& 1) = nI (c / 2 ^ (4 - k) % 2) := by decide +kernel
theorem yf_rest : ∀ k, k < 5 → ∀ c, c < 32 → nI c &&& ((15 : Int32) >>> (nI k &&& 31)) = nI (c % 2 ^ (4 - k)) := by decide +kernel
theorem yf_160 {pv : SY → Prop} {s code : Nat} {p : List (Nat × Nat)} {q : Nat × Nat} {L : List (Nat × List (Nat × Nat))} (hc : code < 32) (hp : p.length < 5) (hL : L.length < 16) (R : rp_Y L yrs yfr yln yjt yen) (hq : ∀ k, k < p.length + 1 → yjt (5 * L.length + k) = nI ((p ++ [q]).getD k (0, 0)).1 ∧ yen (5 * L.length + k) = nI ((p ++ [q]).getD k (0, 0)).2)
    (h : ∀ rs fr ln jt en, rp_Y (pa_cp L ((if code % 2 ^ (4 - p.length) = 0 then [p ++ [q]] else []).map (Prod.mk s))) rs fr ln jt en → pv (yjs, rs, yon, ytw, ysg, yps, fr, ln, jt, en, yst, ywt, yhl, ylk, yhd, yun, yed, yrv, ymt, ynx)) :
    wY_follow_160 pv (nI s) (nI code) (nI p.length) yjs yrs yon ytw ysg yps yfr yln yjt yen yst ywt yhl ylk yhd yun yed yrv ymt ynx := by
  have R' := R
  obtain ⟨r1, r2, r3⟩ := R'
  subst r1
  have cr : (nI L.length).toNatClampNeg = L.length := nI_clamp (by omega)
  have vr : vp_in (nI L.length) 16 := vp_in_nI hL (by omega)
  have hm : code % 2 ^ (4 - p.length) < 2 ^ 31 := Nat.lt_of_le_of_lt (Nat.mod_le _ _) (by omega)
  unfold wY_follow_160
  rw [yf_rest _ hp _ hc]
  refine pk_eq (code % 2 ^ (4 - p.length)) 0 ?_ ?_
  · intro e
    refine And.intro vr (nm_r (e' := upd yfr L.length (nI s)) (by rw [cr]) ?_)
    refine And.intro vr (nm_r (e' := upd yln L.length (nI (p.length + 1))) (by rw [cr, nI_1]) ?_)
    refine nm_r (nI_1 L.length) (h _ _ _ _ _ ?_)
    rw [if_pos e]
    show rp_Y (pa_cp L [(s, p ++ [q])]) _ _ _ _ _
    rw [pa_cp1 hL]
    refine ⟨?_, ?_, ?_⟩
    · rw [List.length_append]; rfl
    · rw [List.length_append]; show L.length + 1 ≤ 16; omega
    · intro r hr
      rw [List.length_append] at hr
      have hr' : r < L.length + 1 := hr
      by_cases e : r = L.length
      · subst e
        have g : (L ++ [(s, p ++ [q])]).getD L.length (0, []) = (s, p ++ [q]) := by
          rw [List.getD_eq_getElem?_getD, List.getElem?_append_right (Nat.le_refl _), Nat.sub_self]; rfl
        unfold rl_s rl_p
        rw [g]
        refine ⟨?_, pk_us, ?_, ?_⟩
        · show (p ++ [q]).length ≤ 5; rw [pa_len]; omega
        · show upd yln L.length (nI (p.length + 1)) L.length = nI (p ++ [q]).length
          rw [pk_us, pa_len]
        · intro k hk
          have hk' : k < (p ++ [q]).length := hk
          rw [pa_len] at hk'
          exact hq k hk'
      · have g : (L ++ [(s, p ++ [q])]).getD r (0, []) = L.getD r (0, []) := by
          rw [List.getD_eq_getElem?_getD, List.getD_eq_getElem?_getD, List.getElem?_append_left (by omega)]
        have hz := r3 r (by omega)
        unfold rl_s rl_p at hz ⊢
        rw [g]
        obtain ⟨q0, q1, q2, q3⟩ := hz
        exact ⟨q0, (pk_un e).trans q1, (pk_un e).trans q2, q3⟩
  · intro e
    refine h _ _ _ _ _ ?_
    rw [if_neg e]
    show rp_Y (pa_cp L []) _ _ _ _ _
    rw [pa_cpn r2]; exact R
theorem yf_22 {pv : SY → Prop} {s code : Nat} {L : List (Nat × List (Nat × Nat))} (hs : s < 20) (hc : code < 32) (hL : L.length < 16) (hn : nj ≤ 12) (hA : ∀ j, A j < 20) (hB : ∀ j, B j < 20) :
    ∀ (e : Nat) (p : List (Nat × Nat)) (a : Nat) (seen : List Nat) (m : Int32) (jt en : Nat → Int32), p.length + e = 5 → pa_P (yd_nx A B nj) (yd_tm A B nj sg) s p a seen → (∀ x, x < 32 → (bt m x = true ↔ x ∈ seen)) → rp_Y L (nI L.length) yfr yln jt en → (∀ k, k < p.length → jt (5 * L.length + k) = nI (p.getD k (0, 0)).1 ∧ en (5 * L.length + k) = nI (p.getD k (0, 0)).2) →
    (∀ rs fr ln jt en, rp_Y (pa_cp L ((pa_w (yd_nx A B nj) (yd_tm A B nj sg) e code a seen p).map (Prod.mk s))) rs fr ln jt en → pv (nI nj, rs, im_n A, im_n B, im_b sg, yps, fr, ln, jt, en, yst, ywt, yhl, ylk, yhd, yun, yed, yrv, ymt, ynx)) →
    wY_follow_22 pv (nI s) (nI code) (nI nj) (nI L.length) (e + 1) (nI a) m (nI p.length) (im_n A) (im_n B) (im_b sg) yps yfr yln jt en yst ywt yhl ylk yhd yun yed yrv ymt ynx := by
  intro e
  induction e with
  | zero =>
    intro p a seen m jt en hl P hm R hq h
    have hl' : p.length = 5 := hl
    refine br_t (by rw [hl']; exact Int32.le_refl _) (h _ _ _ _ _ ?_)
    show rp_Y (pa_cp L []) _ _ _ _ _
    rw [pa_cpn (by omega)]; exact R
  | succ e ih =>
    intro p a seen m jt en hl P hm R hq h
    have ep : 4 - p.length = e := by omega
    obtain ⟨p1, p2, p3, p4⟩ := P
    have ha : a < 20 := by rw [p1]; exact yd_l20 hs hA hB p2 (Nat.le_refl _)
    refine br_f (nI_ge (b := 5) (by omega) (by omega)) ?_
    rw [yf_bit _ (by omega) _ hc, ep]
    have hch : code / 2 ^ e % 2 < 2 := Nat.mod_lt _ (by omega)
    refine ys_jointAt ha hch hn hA hB ?_
    cases hj : sk_n A B nj a (code / 2 ^ e % 2) with
    | none =>
      refine br_f (by decide) (h _ _ _ _ _ ?_)
      rw [pa_wn (by unfold yd_nx; rw [hj]; rfl)]
      show rp_Y (pa_cp L []) _ _ _ _ _
      rw [pa_cpn (by omega)]; exact R
    | some j =>
      have hj' := (sk_ns nj).mp hj
      have hq1 := yd_i hj
      have ho := sk_o20 hA hB j a
      have hop := ix_op20 ho
      have hAj := hA j
      have vj : vp_in (nI j) 12 := vp_in_nI (by omega) (by omega)
      have e5 : 5 * nI L.length + nI p.length = nI (5 * L.length + p.length) := ix_5 _ _
      have v5 : vp_in (5 * nI L.length + nI p.length) 80 := by rw [e5]; exact vp_in_nI (by omega) (by omega)
      have c5 : (5 * nI L.length + nI p.length).toNatClampNeg = 5 * L.length + p.length := by rw [e5]; exact nI_clamp (by omega)
      have key : wY_follow_77 pv (wY_follow_22 pv (nI s) (nI code) (nI nj) (nI L.length) (e + 1)) (nI s) (nI code) m (nI p.length) (nI j) (nI (sk_o A B j a)) (nI nj) (nI L.length) (im_n A) (im_n B) (im_b sg) yps yfr yln jt en yst ywt yhl ylk yhd yun yed yrv ymt ynx := by
        refine And.intro ix_20 ?_
        rw [ix_h (a := sk_o A B j a) (by omega), ib_get _ (by omega)]
        refine im_bc1 ?_ ?_
        · intro hb
          have hns : ¬ sk_o A B j a / 2 ∈ seen := by
            intro z; rw [(hm _ (by omega)).mpr z] at hb; cases hb
          refine And.intro ix_20 ?_
          refine nm_e ?_
          refine And.intro v5 (nm_r (e' := upd jt (5 * L.length + p.length) (nI j)) (by rw [c5]) ?_)
          refine And.intro v5 (nm_r (e' := upd en (5 * L.length + p.length) (nI (sk_o A B j a))) (by rw [c5]) ?_)
          have R2 : rp_Y L (nI L.length) yfr yln (upd jt (5 * L.length + p.length) (nI j)) (upd en (5 * L.length + p.length) (nI (sk_o A B j a))) := by
            refine ⟨R.1, R.2.1, fun r hr => ?_⟩
            obtain ⟨q0, q1, q2, q3⟩ := R.2.2 r hr
            refine ⟨q0, q1, q2, fun k hk => ?_⟩
            rw [pk_un (by omega), pk_un (by omega)]; exact q3 k hk
          have hq2 : ∀ k, k < p.length + 1 → upd jt (5 * L.length + p.length) (nI j) (5 * L.length + k) = nI ((p ++ [(j, sk_o A B j a)]).getD k (0, 0)).1 ∧ upd en (5 * L.length + p.length) (nI (sk_o A B j a)) (5 * L.length + k) = nI ((p ++ [(j, sk_o A B j a)]).getD k (0, 0)).2 := by
            intro k hk
            by_cases z : k = p.length
            · subst z; rw [pk_us, pk_us, pa_gq]; exact ⟨rfl, rfl⟩
            · rw [pk_un (by omega), pk_un (by omega), pa_gl (by omega)]; exact hq k (by omega)
          have hterm : yd_tm A B nj sg (ix_op (sk_o A B j a)) = true → wY_follow_160 pv (nI s) (nI code) (nI p.length) (nI nj) (nI L.length) (im_n A) (im_n B) (im_b sg) yps yfr yln (upd jt (5 * L.length + p.length) (nI j)) (upd en (5 * L.length + p.length) (nI (sk_o A B j a))) yst ywt yhl ylk yhd yun yed yrv ymt ynx := by
            intro ht
            refine yf_160 hc (by omega) hL R2 hq2 ?_
            intro rs fr ln jt' en' R3
            refine h _ _ _ _ _ ?_
            rw [pa_ws hq1, if_neg hns, if_pos ht]
            rw [ep] at R3; exact R3
          refine ys_opp ho ?_
          refine And.intro (vp_in_nI hop (by omega)) ?_
          rw [im_bR (i := ix_op (sk_o A B j a)) rfl (by omega)]
          refine im_bc ?_ ?_
          · intro hsg
            refine ys_jointsAt hop hn hA hB ?_
            have cb : sk_c A B nj (ix_op (sk_o A B j a)) < 2 ^ 31 := by
              have : ∀ m, sk_c A B m (ix_op (sk_o A B j a)) ≤ m := by
                intro m
                induction m with
                | zero => exact Nat.le_refl _
                | succ m ih => rw [sk_cs]; have := Bool.toNat_le (sk_at A B m (ix_op (sk_o A B j a))); omega
              have := this nj
              omega
            refine pk_eq (sk_c A B nj (ix_op (sk_o A B j a))) 0 ?_ ?_
            · intro e0
              refine hterm ?_
              unfold yd_tm; rw [e0, decide_eq_true rfl, Bool.or_true]
            · intro e0
              have ht : yd_tm A B nj sg (ix_op (sk_o A B j a)) = false := by
                unfold yd_tm; rw [hsg, decide_eq_false e0]; rfl
              refine nm_r (nI_1 p.length) ?_
              have P2 := pa_Ps (tm := yd_tm A B nj sg) ⟨p1, p2, p3, p4⟩ hq1 hns ht
              have st := ih (p ++ [(j, sk_o A B j a)]) (ix_op (sk_o A B j a)) (sk_o A B j a / 2 :: seen) (m ||| ((1 : Int32) <<< (nI (sk_o A B j a / 2) &&& 31))) _ _ (by rw [pa_len]; omega) P2 ?_ R2 (by rw [pa_len]; exact hq2) ?_
              · rw [pa_len] at st; exact st
              · intro x hx
                rw [ib_set _ (by omega), Bool.or_eq_true, decide_eq_true_iff, hm x hx, List.mem_cons]
                exact Or.comm
              · intro rs fr ln jt' en' R3
                refine h _ _ _ _ _ ?_
                rw [pa_ws hq1, if_neg hns, if_neg (by rw [ht]; decide)]
                exact R3
          · intro hsg
            refine hterm ?_
            unfold yd_tm; rw [hsg, Bool.true_or]
        · intro hb
          have hns : sk_o A B j a / 2 ∈ seen := (hm _ (by omega)).mp hb
          refine h _ _ _ _ _ ?_
          rw [pa_ws hq1, if_pos hns]
          show rp_Y (pa_cp L []) _ _ _ _ _
          rw [pa_cpn (by omega)]; exact R
      refine br_t (nI_pos' (by omega)) (And.intro vj ?_)
      rw [im_oss, im_nR (i := j) (f := A) rfl (by omega), im_nR (i := j) (f := B) rfl (by omega)]
      refine pk_eq (A j) a ?_ ?_
      · intro z
        refine And.intro vj ?_
        have : sk_o A B j a = B j := if_pos z
        rw [this] at key; exact key
      · intro z
        refine And.intro vj ?_
        have : sk_o A B j a = A j := if_neg z
        rw [this] at key; exact key
theorem yf_follow {pv : SY → Prop} {s code : Nat} {L : List (Nat × List (Nat × Nat))} (hs : s < 20) (hc : code < 32) (hn : nj ≤ 12) (hA : ∀ j, A j < 20) (hB : ∀ j, B j < 20) (R : rp_Y L yrs yfr yln yjt yen)
    (h : ∀ rs fr ln jt en, rp_Y (pa_cp L ((pa_w (yd_nx A B nj) (yd_tm A B nj sg) 5 code s [s / 2] []).map (Prod.mk s))) rs fr ln jt en → pv (nI nj, rs, im_n A, im_n B, im_b sg, yps, fr, ln, jt, en, yst, ywt, yhl, ylk, yhd, yun, yed, yrv, ymt, ynx)) :
    wpY_follow pv (nI nj, yrs, im_n A, im_n B, im_b sg, yps, yfr, yln, yjt, yen, yst, ywt, yhl, ylk, yhd, yun, yed, yrv, ymt, ynx) (nI s) (nI code) := by
  have R' := R
  obtain ⟨r1, r2, r3⟩ := R'
  subst r1
  refine pk_eq L.length 16 ?_ ?_
  · intro e
    refine h _ _ _ _ _ ?_
    rw [pa_cpf _ e]; exact R
  · intro e
    refine And.intro ix_20 ?_
    refine nm_r (e' := (1 : Int32) <<< (nI (s / 2) &&& 31)) (by rw [ix_h (by omega)]) ?_
    refine Exists.intro (5 + 1) ?_
    refine yf_22 hs hc (by omega) hn hA hB 5 [] s [s / 2] _ yjt yen rfl pa_P0 ?_ R (fun k hk => absurd hk (Nat.not_lt_zero k)) h
    intro x hx
    rw [ib_one (by omega), decide_eq_true_iff, List.mem_singleton]
theorem pa_sm {α β : Type} {f : Nat → List α} {g : α → β} : ∀ n, (pa_s f n).map g = pa_s (fun i => (f i).map g) n := by
  intro n
  induction n with
  | zero => rfl
  | succ n ih => rw [pa_ss, List.map_append, ih]; rfl
theorem yf_24 {pv : SY → Prop} {J : Int32 → Int32 → Int32 → (Nat → Int32) → (Nat → Int32) → (Nat → Int32) → (Nat → Int32) → (Nat → Int32) → (Nat → Int32) → (Nat → Int32) → (Nat → Int32) → (Nat → Int32) → (Nat → Int32) → (Nat → Int32) → (Nat → Int32) → (Nat → Int32) → (Nat → Int32) → (Nat → Int32) → (Nat → Int32) → (Nat → Int32) → (Nat → Int32) → Prop} {s : Nat} {L : List (Nat × List (Nat × Nat))} (hs : s < 20) (hn : nj ≤ 12) (hA : ∀ j, A j < 20) (hB : ∀ j, B j < 20)
    (h : ∀ rs fr ln jt en, rp_Y (pa_cp L ((pa_d (yd_nx A B nj) (yd_tm A B nj sg) 5 s [s / 2] []).map (Prod.mk s))) rs fr ln jt en → J (nI (s + 1)) (nI nj) rs (im_n A) (im_n B) (im_b sg) yps fr ln jt en yst ywt yhl ylk yhd yun yed yrv ymt ynx) :
    ∀ (d c : Nat) (rs : Int32) (fr ln jt en : Nat → Int32), c + d = 32 → rp_Y (pa_cp L (pa_s (fun k => (pa_w (yd_nx A B nj) (yd_tm A B nj sg) 5 k s [s / 2] []).map (Prod.mk s)) c)) rs fr ln jt en → wY_findRoutes_24 pv J (nI s) (d + 1) (nI c) (nI nj) rs (im_n A) (im_n B) (im_b sg) yps fr ln jt en yst ywt yhl ylk yhd yun yed yrv ymt ynx := by
  intro d
  induction d with
  | zero =>
    intro c rs fr ln jt en hc R
    have hc' : c = 32 := hc
    subst hc'
    refine br_t (Int32.le_refl _) (nm_r (nI_1 s) (h rs fr ln jt en ?_))
    rw [← pa_codes, pa_sm]; exact R
  | succ d ih =>
    intro c rs fr ln jt en hc R
    refine br_f (nI_ge (b := 32) (by omega) (by omega)) ?_
    refine yf_follow hs (by omega) hn hA hB R ?_
    intro rs' fr' ln' jt' en' R'
    refine nm_r (nI_1 c) (ih (c + 1) rs' fr' ln' jt' en' (by omega) ?_)
    rw [pa_ss, ← pa_cpa]; exact R'
theorem yf_7 {pv : SY → Prop} (hn : nj ≤ 12) (hA : ∀ j, A j < 20) (hB : ∀ j, B j < 20)
    (h : ∀ rs fr ln jt en, rp_Y (pa_L (yd_nx A B nj) (yd_tm A B nj sg) sg) rs fr ln jt en → pv (nI nj, rs, im_n A, im_n B, im_b sg, yps, fr, ln, jt, en, yst, ywt, yhl, ylk, yhd, yun, yed, yrv, ymt, ynx)) :
    ∀ (d a : Nat) (rs : Int32) (fr ln jt en : Nat → Int32), a + d = 20 → rp_Y (pa_cp [] (pa_M (yd_nx A B nj) (yd_tm A B nj sg) sg a)) rs fr ln jt en → wY_findRoutes_7 pv (d + 1) (nI a) (nI nj) rs (im_n A) (im_n B) (im_b sg) yps fr ln jt en yst ywt yhl ylk yhd yun yed yrv ymt ynx := by
  intro d
  induction d with
  | zero =>
    intro a rs fr ln jt en ha R
    have ha' : a = 20 := ha
    subst ha'
    exact br_t (Int32.le_refl _) (h rs fr ln jt en R)
  | succ d ih =>
    intro a rs fr ln jt en ha R
    refine br_f (nI_ge (b := 20) (by omega) (by omega)) (And.intro (vp_in_nI (by omega) (by omega)) ?_)
    rw [im_bR (i := a) rfl (by omega)]
    refine im_bc ?_ ?_
    · intro e
      refine nm_r (nI_1 a) (ih (a + 1) rs fr ln jt en (by omega) ?_)
      have hM : pa_M (yd_nx A B nj) (yd_tm A B nj sg) sg (a + 1) = pa_M (yd_nx A B nj) (yd_tm A B nj sg) sg a := by
        show pa_M (yd_nx A B nj) (yd_tm A B nj sg) sg a ++ (if sg a = true then _ else []) = _
        rw [if_neg (by rw [e]; decide), List.append_nil]
      rw [hM]; exact R
    · intro e
      refine Exists.intro (32 + 1) ?_
      refine yf_24 (L := pa_cp [] (pa_M (yd_nx A B nj) (yd_tm A B nj sg) sg a)) (by omega) hn hA hB ?_ 32 0 rs fr ln jt en rfl ?_
      · intro rs' fr' ln' jt' en' R'
        refine ih (a + 1) rs' fr' ln' jt' en' (by omega) ?_
        have hM : pa_M (yd_nx A B nj) (yd_tm A B nj sg) sg (a + 1) = pa_M (yd_nx A B nj) (yd_tm A B nj sg) sg a ++ (pa_d (yd_nx A B nj) (yd_tm A B nj sg) 5 a [a / 2] []).map (Prod.mk a) := by
          show pa_M (yd_nx A B nj) (yd_tm A B nj sg) sg a ++ (if sg a = true then _ else []) = _
          rw [if_pos e]
        rw [hM, ← pa_cpa]; exact R'
      · show rp_Y (pa_cp (pa_cp [] (pa_M (yd_nx A B nj) (yd_tm A B nj sg) sg a)) []) rs fr ln jt en
        rw [pa_cpn (pa_cpl _ _)]; exact R
theorem yf_find {pv : SY → Prop} (hn : nj ≤ 12) (hA : ∀ j, A j < 20) (hB : ∀ j, B j < 20)
    (h : ∀ rs fr ln jt en, rp_Y (pa_L (yd_nx A B nj) (yd_tm A B nj sg) sg) rs fr ln jt en → pv (nI nj, rs, im_n A, im_n B, im_b sg, yps, fr, ln, jt, en, yst, ywt, yhl, ylk, yhd, yun, yed, yrv, ymt, ynx)) :
    wpY_findRoutes pv (nI nj, yrs, im_n A, im_n B, im_b sg, yps, yfr, yln, yjt, yen, yst, ywt, yhl, ylk, yhd, yun, yed, yrv, ymt, ynx) := by
  refine Exists.intro (20 + 1) ?_
  refine yf_7 hn hA hB h 20 0 0 yfr yln yjt yen rfl ?_
  exact ⟨rfl, Nat.zero_le _, fun r hr => absurd hr (Nat.not_lt_zero r)⟩
end YFIND
end
section
/-! what holds of the routes; the state of what goes on; the relation -/
section REL
variable {A B : Nat → Nat} {nj : Nat} {sg : Nat → Bool}
def gr_L (A B : Nat → Nat) (nj : Nat) (sg : Nat → Bool) : List (Nat × List (Nat × Nat)) := pa_L (yd_nx A B nj) (yd_tm A B nj sg) sg
theorem rv_len : (gr_L A B nj sg).length ≤ 16 := pa_cpl _ _
theorem rv_all {r : Nat} (hr : r < (gr_L A B nj sg).length) : rl_s (gr_L A B nj sg) r < 20 ∧ sg (rl_s (gr_L A B nj sg) r) = true ∧ pa_V (yd_nx A B nj) (yd_tm A B nj sg) (rl_s (gr_L A B nj sg) r) (rl_p (gr_L A B nj sg) r) := by
  have hm : (gr_L A B nj sg).getD r (0, []) ∈ gr_L A B nj sg := by
    rw [List.getD_eq_getElem?_getD, List.getElem?_eq_getElem hr]
    exact List.getElem_mem hr
  exact pa_Lv hm
theorem rv_n {r : Nat} (hr : r < (gr_L A B nj sg).length) : 1 ≤ rl_n (gr_L A B nj sg) r ∧ rl_n (gr_L A B nj sg) r ≤ 5 :=
  ⟨(rv_all hr).2.2.1, (rv_all hr).2.2.2.1⟩
theorem rv_e {r k : Nat} (hA : ∀ j, A j < 20) (hB : ∀ j, B j < 20) (hr : r < (gr_L A B nj sg).length) (hk : k < rl_n (gr_L A B nj sg) r) : rl_e (gr_L A B nj sg) r k < 20 :=
  yd_20 hA hB (rv_all hr).2.2.2.2.1 hk
theorem rv_jc {r k : Nat} (hr : r < (gr_L A B nj sg).length) (hk : k < rl_n (gr_L A B nj sg) r) : ∃ c, sk_n A B nj (pa_l (rl_s (gr_L A B nj sg) r) (rl_p (gr_L A B nj sg) r) k) c = some (rl_j (gr_L A B nj sg) r k) ∧ rl_e (gr_L A B nj sg) r k = sk_o A B (rl_j (gr_L A B nj sg) r k) (pa_l (rl_s (gr_L A B nj sg) r) (rl_p (gr_L A B nj sg) r) k) := by
  obtain ⟨⟨c, w⟩, _⟩ := (rv_all hr).2.2.2.2.1 k hk
  exact ⟨c, yd_s w⟩
theorem rv_j {r k : Nat} (hr : r < (gr_L A B nj sg).length) (hk : k < rl_n (gr_L A B nj sg) r) : rl_j (gr_L A B nj sg) r k < nj := by
  obtain ⟨c, h, _⟩ := rv_jc hr hk
  exact ((sk_ns nj).mp h).1
theorem rv_at {r k a : Nat} (hr : r < (gr_L A B nj sg).length) (hk : k < rl_n (gr_L A B nj sg) r) : sk_at A B (rl_j (gr_L A B nj sg) r k) a = true ↔ a = pa_l (rl_s (gr_L A B nj sg) r) (rl_p (gr_L A B nj sg) r) k ∨ a = rl_e (gr_L A B nj sg) r k := by
  obtain ⟨c, h, e⟩ := rv_jc hr hk
  rw [e]
  exact sk_ends ((sk_ns nj).mp h).2.1
theorem rv_d {r k i : Nat} (hr : r < (gr_L A B nj sg).length) (hk : k < rl_n (gr_L A B nj sg) r) (hi : i < rl_n (gr_L A B nj sg) r) (e : rl_e (gr_L A B nj sg) r k / 2 = rl_e (gr_L A B nj sg) r i / 2) : k = i := by
  have G := (rv_all hr).2.2.2.2.1
  rcases Nat.lt_trichotomy k i with h | h | h
  · exact absurd e.symm ((G i hi).2.2 k h)
  · exact h
  · exact absurd e ((G k hk).2.2 i h)
theorem rv_s {r k : Nat} (hr : r < (gr_L A B nj sg).length) (hk : k < rl_n (gr_L A B nj sg) r) : rl_e (gr_L A B nj sg) r k / 2 ≠ rl_s (gr_L A B nj sg) r / 2 :=
  ((rv_all hr).2.2.2.2.1 k hk).2.1
theorem rv_t {r k : Nat} (hr : r < (gr_L A B nj sg).length) (hk : k + 1 < rl_n (gr_L A B nj sg) r) : sg (ix_op (rl_e (gr_L A B nj sg) r k)) = false := by
  have h := (rv_all hr).2.2.2.2.2.1 k hk
  exact (Bool.or_eq_false_iff.mp h).1
/-- each end is at one place of a route alone -/
theorem rv_u {r k i a : Nat} (hr : r < (gr_L A B nj sg).length) (hk : k < rl_n (gr_L A B nj sg) r) (hi : i < rl_n (gr_L A B nj sg) r) (h1 : sk_at A B (rl_j (gr_L A B nj sg) r k) a = true) (h2 : sk_at A B (rl_j (gr_L A B nj sg) r i) a = true) : k = i := by
  have key : ∀ k i, k < i → i < rl_n (gr_L A B nj sg) r → sk_at A B (rl_j (gr_L A B nj sg) r k) a = true → sk_at A B (rl_j (gr_L A B nj sg) r i) a = true → False := by
    intro k i hki hi h1 h2
    rw [rv_at hr (by omega)] at h1
    rw [rv_at hr hi] at h2
    have si := rv_s hr hi
    have sk := rv_s hr (show k < rl_n (gr_L A B nj sg) r by omega)
    have dki : ∀ m, m < i → rl_e (gr_L A B nj sg) r m / 2 ≠ rl_e (gr_L A B nj sg) r i / 2 := fun m hm e => by have := rv_d hr (by omega) hi e; omega
    have lk : pa_l (rl_s (gr_L A B nj sg) r) (rl_p (gr_L A B nj sg) r) k = if k = 0 then rl_s (gr_L A B nj sg) r else ix_op (rl_e (gr_L A B nj sg) r (k - 1)) := rfl
    have li : pa_l (rl_s (gr_L A B nj sg) r) (rl_p (gr_L A B nj sg) r) i = if i = 0 then rl_s (gr_L A B nj sg) r else ix_op (rl_e (gr_L A B nj sg) r (i - 1)) := rfl
    rw [if_neg (by omega)] at li
    rw [lk] at h1
    rw [li] at h2
    have o1 := @ix_oph (rl_e (gr_L A B nj sg) r (i - 1))
    have o2 := @ix_oph (rl_e (gr_L A B nj sg) r (k - 1))
    rcases h2 with h2 | h2
    · -- a is the leaving end of place i
      rcases h1 with h1 | h1
      · by_cases z : k = 0
        · rw [if_pos z] at h1
          exact rv_s hr (show i - 1 < rl_n (gr_L A B nj sg) r by omega) (by rw [← o1, ← h2, h1])
        · rw [if_neg z] at h1
          have : rl_e (gr_L A B nj sg) r (k - 1) / 2 = rl_e (gr_L A B nj sg) r (i - 1) / 2 := by rw [← o1, ← o2, ← h1, ← h2]
          have := rv_d hr (by omega) (by omega) this
          omega
      · by_cases z : k = i - 1
        · subst z
          rw [h1] at h2
          exact ix_opn h2.symm
        · have : rl_e (gr_L A B nj sg) r k / 2 = rl_e (gr_L A B nj sg) r (i - 1) / 2 := by rw [← o1, ← h1, ← h2]
          have := rv_d hr (by omega) (by omega) this
          omega
    · rcases h1 with h1 | h1
      · by_cases z : k = 0
        · rw [if_pos z] at h1
          exact si (by rw [← h2, h1])
        · rw [if_neg z] at h1
          exact dki (k - 1) (by omega) (by rw [← o2, ← h1, ← h2])
      · exact dki k hki (by rw [← h1, ← h2])
  rcases Nat.lt_trichotomy k i with h | h | h
  · exact absurd (key k i h hi h1 h2) id
  · exact h
  · exact absurd (key i k h hk h2 h1) id
/-- the position that a joint needs at an end -/
def nd_p (A B : Nat → Nat) (nj j a : Nat) : Nat := if sk_n A B nj a 0 = some j then 0 else 1
theorem nd_p1 {j a : Nat} (hj : j < nj) (h : sk_at A B j a = true) (h2 : sk_c A B nj a ≤ 2) : nd_p A B nj j a = (decide (sk_n A B nj a 1 = some j)).toNat := by
  have hm : sk_c A B (j + 1) a ≤ sk_c A B nj a := sk_cm (by omega)
  rw [sk_cT h] at hm
  have e : sk_n A B nj a (sk_c A B j a) = some j := (sk_ns nj).mpr ⟨hj, h, rfl⟩
  unfold nd_p
  by_cases z : sk_c A B j a = 0
  · rw [z] at e
    rw [if_pos e, decide_eq_false]
    · rfl
    · intro w
      have := ((sk_ns nj).mp w).2.2
      omega
  · have z1 : sk_c A B j a = 1 := by omega
    rw [z1] at e
    rw [if_neg, decide_eq_true e]
    · rfl
    · intro w
      have := ((sk_ns nj).mp w).2.2
      omega
/-- how many needs hold at an end -/
def hs_S (hl f : Nat → Bool) : Nat → Nat
  | 0 => 0
  | n + 1 => hs_S hl f n + (hl n && f n).toNat
def hs_N (A B : Nat → Nat) (nj : Nat) (L : List (Nat × List (Nat × Nat))) (hl : Nat → Bool) (a : Nat) : Nat :=
  if sk_c A B nj a = 2 then hs_S hl (fun i => sk_at A B (rl_j L (i / 5) (i % 5)) a) 80 else 0
theorem hs_s {hl f : Nat → Bool} (n : Nat) : hs_S hl f (n + 1) = hs_S hl f n + (hl n && f n).toNat := rfl
theorem hs_le {hl f : Nat → Bool} : ∀ n, hs_S hl f n ≤ n := by
  intro n
  induction n with
  | zero => exact Nat.le_refl _
  | succ n ih => rw [hs_s]; have := Bool.toNat_le (hl n && f n); omega
theorem hs_c {hl hl' f : Nat → Bool} {n : Nat} (h : ∀ i, i < n → hl' i = hl i) : hs_S hl' f n = hs_S hl f n := by
  induction n with
  | zero => rfl
  | succ n ih => rw [hs_s, hs_s, ih (fun i hi => h i (by omega)), h n (Nat.lt_succ_self n)]
theorem hs_0 {hl f : Nat → Bool} {n : Nat} (h : ∀ i, i < n → hl i = false) : hs_S hl f n = 0 := by
  induction n with
  | zero => rfl
  | succ n ih => rw [hs_s, ih (fun i hi => h i (by omega)), h n (Nat.lt_succ_self n)]; rfl
theorem hs_pos {hl f : Nat → Bool} {n : Nat} : 0 < hs_S hl f n ↔ ∃ i, i < n ∧ hl i = true ∧ f i = true := by
  induction n with
  | zero => exact ⟨fun h => absurd h (Nat.lt_irrefl _), fun ⟨i, h, _⟩ => absurd h (Nat.not_lt_zero i)⟩
  | succ n ih =>
    rw [hs_s]
    constructor
    · intro h
      by_cases z : 0 < hs_S hl f n
      · obtain ⟨i, h1, h2⟩ := ih.mp z; exact ⟨i, by omega, h2⟩
      · refine ⟨n, Nat.lt_succ_self n, ?_⟩
        have : (hl n && f n).toNat ≠ 0 := by omega
        cases e1 : hl n <;> cases e2 : f n <;> rw [e1, e2] at this <;> first | exact ⟨rfl, rfl⟩ | exact absurd rfl this
    · rintro ⟨i, h1, h2, h3⟩
      by_cases z : i = n
      · subst z; rw [h2, h3]; show 0 < hs_S hl f i + 1; omega
      · have := ih.mpr ⟨i, by omega, h2, h3⟩; omega
theorem hs_on {hl f : Nat → Bool} {n i : Nat} (hi : i < n) (h : hl i = false) : hs_S (im_u hl i true) f n = hs_S hl f n + (f i).toNat := by
  induction n with
  | zero => omega
  | succ n ih =>
    rw [hs_s, hs_s]
    by_cases e : i = n
    · subst e
      rw [hs_c (hl := hl) (fun k hk => im_un (by omega)), im_us, h, Bool.true_and, Bool.false_and]; rfl
    · rw [ih (by omega), im_un (by omega)]; omega
theorem hs_off {hl f : Nat → Bool} {n i : Nat} (hi : i < n) (h : hl i = true) : hs_S (im_u hl i false) f n + (f i).toNat = hs_S hl f n := by
  induction n with
  | zero => omega
  | succ n ih =>
    rw [hs_s, hs_s]
    by_cases e : i = n
    · subst e
      rw [hs_c (hl := hl) (fun k hk => im_un (by omega)), im_us, h, Bool.true_and, Bool.false_and]; rfl
    · rw [← ih (by omega), im_un (by omega)]; omega
theorem hs_N0 {L : List (Nat × List (Nat × Nat))} {hl : Nat → Bool} (h : ∀ i, hl i = false) : hs_N A B nj L hl = fun _ => 0 := by
  funext a
  unfold hs_N
  split
  · exact hs_0 (fun i _ => h i)
  · rfl
/-- what goes on: set, waits, positions, holds, locks, heads, routes and progress of trains, progress of the reference's, trains on routes, sets as bits -/
abbrev dg_T : Type := (Nat → Bool) × (Nat → Nat) × (Nat → Nat) × (Nat → Bool) × (Nat → Option Nat) × (Nat → Option Nat) × (Nat → Option Nat) × (Nat → Nat) × (Nat → Nat) × (Nat → Option Nat) × Int32 × Int32
abbrev dg_st (g : dg_T) : Nat → Bool := g.1
abbrev dg_wt (g : dg_T) : Nat → Nat := g.2.1
abbrev dg_ps (g : dg_T) : Nat → Nat := g.2.2.1
abbrev dg_hl (g : dg_T) : Nat → Bool := g.2.2.2.1
abbrev dg_lk (g : dg_T) : Nat → Option Nat := g.2.2.2.2.1
abbrev dg_hd (g : dg_T) : Nat → Option Nat := g.2.2.2.2.2.1
abbrev dg_ro (g : dg_T) : Nat → Option Nat := g.2.2.2.2.2.2.1
abbrev dg_pg (g : dg_T) : Nat → Nat := g.2.2.2.2.2.2.2.1
abbrev dg_en (g : dg_T) : Nat → Nat := g.2.2.2.2.2.2.2.2.1
abbrev dg_to (g : dg_T) : Nat → Option Nat := g.2.2.2.2.2.2.2.2.2.1
abbrev dg_sr (g : dg_T) : Int32 := g.2.2.2.2.2.2.2.2.2.2.1
abbrev dg_oc (g : dg_T) : Int32 := g.2.2.2.2.2.2.2.2.2.2.2
def dn_A (L : List (Nat × List (Nat × Nat))) (st : Nat → Bool) (wt : Nat → Nat) (sr : Int32) : Prop :=
  (∀ r, st r = true → r < L.length) ∧ (∀ r, wt r ≤ 3 ∧ (wt r ≠ 0 → st r = true)) ∧ (∀ x, bt sr x = st x)
def dn_T (hd : Nat → Option Nat) (oc : Int32) : Prop :=
  (∀ t h, hd t = some h → h < 20) ∧ (∀ x, bt oc x = true ↔ ∃ t h, t < 3 ∧ hd t = some h ∧ h / 2 = x) ∧ (∀ t t' h h', t < 3 → t' < 3 → hd t = some h → hd t' = some h' → h / 2 = h' / 2 → t = t')
def dn_R (L : List (Nat × List (Nat × Nat))) (st : Nat → Bool) (wt : Nat → Nat) (hd ro : Nat → Option Nat) (pg en : Nat → Nat) : Prop :=
  (∀ t r, t < 3 → ro t = some r → st r = true ∧ wt r = 0 ∧ 1 ≤ pg t ∧ pg t < rl_n L r ∧ hd t = some (ix_op (rl_e L r (pg t - 1))) ∧ en t = pg t) ∧ (∀ t t' r, t < 3 → t' < 3 → ro t = some r → ro t' = some r → t = t') ∧ (∀ t r, ro t = some r → r < 16)
def dn_O (st : Nat → Bool) (ro to : Nat → Option Nat) : Prop :=
  (∀ r, st r = true → ((∃ x, to r = some x) ↔ ∃ t, t < 3 ∧ ro t = some r)) ∧ (∀ r x, to r = some x → x < 3)
def dn_H (L : List (Nat × List (Nat × Nat))) (st : Nat → Bool) (ro : Nat → Option Nat) (pg : Nat → Nat) (hl : Nat → Bool) : Prop :=
  ∀ r k, k < 5 → (hl (5 * r + k) = true ↔ st r = true ∧ k < rl_n L r ∧ ∀ t, t < 3 → ro t = some r → pg t ≤ k + 1)
def dn_K (L : List (Nat × List (Nat × Nat))) (hl : Nat → Bool) (lk : Nat → Option Nat) : Prop :=
  (∀ s, s < 10 → ∀ r, lk s = some r ↔ ∃ k, k < 5 ∧ hl (5 * r + k) = true ∧ rl_e L r k / 2 = s) ∧ (∀ s r, lk s = some r → r < 16)
def dn_F (L : List (Nat × List (Nat × Nat))) (hd ro : Nat → Option Nat) (pg : Nat → Nat) (hl : Nat → Bool) : Prop :=
  ∀ t h r k, t < 3 → hd t = some h → k < 5 → hl (5 * r + k) = true → h / 2 = rl_e L r k / 2 → ro t = some r ∧ pg t = k + 1
def dn_I (L : List (Nat × List (Nat × Nat))) (st : Nat → Bool) (wt ps : Nat → Nat) (hl : Nat → Bool) (lk hd ro : Nat → Option Nat) (pg en : Nat → Nat) (to : Nat → Option Nat) (sr oc : Int32) : Prop :=
  dn_A L st wt sr ∧ dn_T hd oc ∧ dn_R L st wt hd ro pg en ∧ dn_O st ro to ∧ dn_H L st ro pg hl ∧ dn_K L hl lk ∧ dn_F L hd ro pg hl ∧ (∀ a, ps a ≤ 1)
def dg_I (A B : Nat → Nat) (nj : Nat) (sg : Nat → Bool) (g : dg_T) : Prop :=
  dn_I (gr_L A B nj sg) (dg_st g) (dg_wt g) (dg_ps g) (dg_hl g) (dg_lk g) (dg_hd g) (dg_ro g) (dg_pg g) (dg_en g) (dg_to g) (dg_sr g) (dg_oc g)
/-- the relation at the head of a turn -/
def i_Rel (k : Nat) (u : SX) (v : SY) : Prop :=
  ∃ (nj : Nat) (A B : Nat → Nat) (sg : Nat → Bool) (fd : Bool) (g : dg_T) (xrc xwg : Int32) (xjt xso xlo xrj xre xrs xnd xnp xcf xwe xwc xrt xsz xrg : Nat → Int32) (yrs : Int32) (yfr yln yjt yen yrv ymt ynx : Nat → Int32),
    u = (nI nj, im_bi fd, xrc, dg_sr g, dg_oc g, xwg, im_n A, im_n B, im_n (sk_c A B nj), xjt, im_b sg, im_n (dg_ps g), xso, xlo, xrj, xre, xrs, xnd, xnp, xcf, xwe, xwc, im_n (dg_wt g), im_o (-1) (dg_to g), im_o (-1) (dg_lk g), im_n (hs_N A B nj (gr_L A B nj sg) (dg_hl g)), im_o (-1) (dg_hd g), im_o (-1) (dg_ro g), im_n (dg_pg g), xrt, xsz, xrg) ∧ v = (nI nj, yrs, im_n A, im_n B, im_b sg, im_n (dg_ps g), yfr, yln, yjt, yen, im_b (dg_st g), im_n (dg_wt g), im_b (dg_hl g), im_o (-2) (dg_lk g), im_o (-1) (dg_hd g), im_o (-1) (dg_ro g), im_n (dg_en g), yrv, ymt, ynx) ∧ sk_St A B nj xjt ∧ rp_Y (gr_L A B nj sg) yrs yfr yln yjt yen ∧ (fd = true → rx_F A B nj sg xrc xso xlo xrj xre xrs xnd xnp xcf) ∧ dg_I A B nj sg g
theorem i_up {k : Nat} {u : SX} {v : SY} (h : i_Rel k u v) : i_Rel (k + 3) u v := h
theorem zz_el {P : SX → SY → Prop} {k : Nat} {u : SX} {v : SY}
    (h : ∀ (nj : Nat) (A B : Nat → Nat) (sg : Nat → Bool) (fd : Bool) (g : dg_T) (xrc xwg : Int32) (xjt xso xlo xrj xre xrs xnd xnp xcf xwe xwc xrt xsz xrg : Nat → Int32) (yrs : Int32) (yfr yln yjt yen yrv ymt ynx : Nat → Int32), sk_St A B nj xjt → rp_Y (gr_L A B nj sg) yrs yfr yln yjt yen → (fd = true → rx_F A B nj sg xrc xso xlo xrj xre xrs xnd xnp xcf) → dg_I A B nj sg g → P (nI nj, im_bi fd, xrc, dg_sr g, dg_oc g, xwg, im_n A, im_n B, im_n (sk_c A B nj), xjt, im_b sg, im_n (dg_ps g), xso, xlo, xrj, xre, xrs, xnd, xnp, xcf, xwe, xwc, im_n (dg_wt g), im_o (-1) (dg_to g), im_o (-1) (dg_lk g), im_n (hs_N A B nj (gr_L A B nj sg) (dg_hl g)), im_o (-1) (dg_hd g), im_o (-1) (dg_ro g), im_n (dg_pg g), xrt, xsz, xrg) (nI nj, yrs, im_n A, im_n B, im_b sg, im_n (dg_ps g), yfr, yln, yjt, yen, im_b (dg_st g), im_n (dg_wt g), im_b (dg_hl g), im_o (-2) (dg_lk g), im_o (-1) (dg_hd g), im_o (-1) (dg_ro g), im_n (dg_en g), yrv, ymt, ynx))
    (I : i_Rel k u v) : P u v := by
  obtain ⟨nj, A, B, sg, fd, g, xrc, xwg, xjt, xso, xlo, xrj, xre, xrs, xnd, xnp, xcf, xwe, xwc, xrt, xsz, xrg, yrs, yfr, yln, yjt, yen, yrv, ymt, ynx, e1, e2, h1, h2, h3, h4⟩ := I
  rw [e1, e2]
  exact h nj A B sg fd g xrc xwg xjt xso xlo xrj xre xrs xnd xnp xcf xwe xwc xrt xsz xrg yrs yfr yln yjt yen yrv ymt ynx h1 h2 h3 h4
theorem zz_in {k nj : Nat} {A B : Nat → Nat} {sg : Nat → Bool} {fd : Bool} {g : dg_T} {xrc xwg : Int32} {xjt xso xlo xrj xre xrs xnd xnp xcf xwe xwc xrt xsz xrg : Nat → Int32} {yrs : Int32} {yfr yln yjt yen yrv ymt ynx : Nat → Int32}
    (h1 : sk_St A B nj xjt) (h2 : rp_Y (gr_L A B nj sg) yrs yfr yln yjt yen) (h3 : fd = true → rx_F A B nj sg xrc xso xlo xrj xre xrs xnd xnp xcf) (h4 : dg_I A B nj sg g) : i_Rel k (nI nj, im_bi fd, xrc, dg_sr g, dg_oc g, xwg, im_n A, im_n B, im_n (sk_c A B nj), xjt, im_b sg, im_n (dg_ps g), xso, xlo, xrj, xre, xrs, xnd, xnp, xcf, xwe, xwc, im_n (dg_wt g), im_o (-1) (dg_to g), im_o (-1) (dg_lk g), im_n (hs_N A B nj (gr_L A B nj sg) (dg_hl g)), im_o (-1) (dg_hd g), im_o (-1) (dg_ro g), im_n (dg_pg g), xrt, xsz, xrg) (nI nj, yrs, im_n A, im_n B, im_b sg, im_n (dg_ps g), yfr, yln, yjt, yen, im_b (dg_st g), im_n (dg_wt g), im_b (dg_hl g), im_o (-2) (dg_lk g), im_o (-1) (dg_hd g), im_o (-1) (dg_ro g), im_n (dg_en g), yrv, ymt, ynx) :=
  ⟨nj, A, B, sg, fd, g, xrc, xwg, xjt, xso, xlo, xrj, xre, xrs, xnd, xnp, xcf, xwe, xwc, xrt, xsz, xrg, yrs, yfr, yln, yjt, yen, yrv, ymt, ynx, rfl, rfl, h1, h2, h3, h4⟩
end REL
end
section
/-! the constructors; building: joint, signal -/
section BUILD
variable {xjc xfd xrc xsr xoc xwg : Int32} {xjA xjB xcA xjt xhs xps xso xlo xrj xre xrs xnd xnp xcf xwe xwc xwt xto xlk xnc xhd xro xpg xrt xsz xrg : Nat → Int32}
variable {yjs yrs : Int32} {yon ytw ysg yps yfr yln yjt yen yst ywt yhl ylk yhd yun yed yrv ymt ynx : Nat → Int32}
variable {A B : Nat → Nat} {nj : Nat} {sg : Nat → Bool}
theorem in_x2 {pu : SX → Prop} {hd ro : Nat → Option Nat} (h : pu (xjc, xfd, xrc, xsr, xoc, xwg, xjA, xjB, xcA, xjt, xhs, xps, xso, xlo, xrj, xre, xrs, xnd, xnp, xcf, xwe, xwc, xwt, xto, xlk, xnc, im_o (-1) (im_m 3 (fun _ => none) hd), im_o (-1) (im_m 3 (fun _ => none) ro), xpg, xrt, xsz, xrg)) : ∃ n, wX_init_232 pu xjc xfd xrc xsr xoc xwg n 0 xjA xjB xcA xjt xhs xps xso xlo xrj xre xrs xnd xnp xcf xwe xwc xwt xto xlk xnc (im_o (-1) hd) (im_o (-1) ro) xpg xrt xsz xrg := by
  refine Exists.intro (3 + 1) ?_
  refine lq_run0 (fun n i (s : (Nat → Option Nat) × (Nat → Option Nat)) => wX_init_232 pu xjc xfd xrc xsr xoc xwg n (nI i) xjA xjB xcA xjt xhs xps xso xlo xrj xre xrs xnd xnp xcf xwe xwc xwt xto xlk xnc (im_o (-1) s.1) (im_o (-1) s.2) xpg xrt xsz xrg) 3 (fun i => (im_m i (fun _ => none) hd, im_m i (fun _ => none) ro)) ?_ ?_
  · intro n
    exact br_t (Int32.le_refl _) h
  · intro n i hi hw
    refine br_f (nI_ge (b := 3) hi (by omega)) (And.intro (vp_in_nI hi (by omega)) ?_)
    refine nm_r (e' := im_o (-1) (im_m (i + 1) (fun _ => none) hd)) (by rw [im_oS (i := i) (v := none) rfl (by omega) im_bym, im_ms rfl]) ?_
    refine And.intro (vp_in_nI hi (by omega)) ?_
    refine nm_r (e' := im_o (-1) (im_m (i + 1) (fun _ => none) ro)) (by rw [im_oS (i := i) (v := none) rfl (by omega) im_bym, im_ms rfl]) ?_
    exact nm_r (nI_1 i) hw
theorem in_x1 {pu : SX → Prop} {lk hd ro : Nat → Option Nat} (h : pu (xjc, xfd, xrc, xsr, xoc, xwg, xjA, xjB, xcA, xjt, xhs, xps, xso, xlo, xrj, xre, xrs, xnd, xnp, xcf, xwe, xwc, xwt, xto, im_o (-1) (im_m 10 (fun _ => none) lk), xnc, im_o (-1) (im_m 3 (fun _ => none) hd), im_o (-1) (im_m 3 (fun _ => none) ro), xpg, xrt, xsz, xrg)) : ∃ n, wX_init_211 pu xjc xfd xrc xsr xoc xwg n 0 xjA xjB xcA xjt xhs xps xso xlo xrj xre xrs xnd xnp xcf xwe xwc xwt xto (im_o (-1) lk) xnc (im_o (-1) hd) (im_o (-1) ro) xpg xrt xsz xrg := by
  refine Exists.intro (10 + 1) ?_
  refine lq_run0 (fun n i (s : Nat → Option Nat) => wX_init_211 pu xjc xfd xrc xsr xoc xwg n (nI i) xjA xjB xcA xjt xhs xps xso xlo xrj xre xrs xnd xnp xcf xwe xwc xwt xto (im_o (-1) s) xnc (im_o (-1) hd) (im_o (-1) ro) xpg xrt xsz xrg) 10 (fun i => im_m i (fun _ => none) lk) ?_ ?_
  · intro n
    exact br_t (Int32.le_refl _) (in_x2 h)
  · intro n i hi hw
    refine br_f (nI_ge (b := 10) hi (by omega)) (And.intro (vp_in_nI hi (by omega)) ?_)
    refine nm_r (e' := im_o (-1) (im_m (i + 1) (fun _ => none) lk)) (by rw [im_oS (i := i) (v := none) rfl (by omega) im_bym, im_ms rfl]) ?_
    exact nm_r (nI_1 i) hw
theorem in_y2 {pv : SY → Prop} {hd ro : Nat → Option Nat} (h : pv (yjs, yrs, yon, ytw, ysg, yps, yfr, yln, yjt, yen, yst, ywt, yhl, ylk, im_o (-1) (im_m 3 (fun _ => none) hd), im_o (-1) (im_m 3 (fun _ => none) ro), yed, yrv, ymt, ynx)) : ∃ n, wY_init_179 pv yjs yrs n 0 yon ytw ysg yps yfr yln yjt yen yst ywt yhl ylk (im_o (-1) hd) (im_o (-1) ro) yed yrv ymt ynx := by
  refine Exists.intro (3 + 1) ?_
  refine lq_run0 (fun n i (s : (Nat → Option Nat) × (Nat → Option Nat)) => wY_init_179 pv yjs yrs n (nI i) yon ytw ysg yps yfr yln yjt yen yst ywt yhl ylk (im_o (-1) s.1) (im_o (-1) s.2) yed yrv ymt ynx) 3 (fun i => (im_m i (fun _ => none) hd, im_m i (fun _ => none) ro)) ?_ ?_
  · intro n
    exact br_t (Int32.le_refl _) h
  · intro n i hi hw
    refine br_f (nI_ge (b := 3) hi (by omega)) (And.intro (vp_in_nI hi (by omega)) ?_)
    refine nm_r (e' := im_o (-1) (im_m (i + 1) (fun _ => none) hd)) ((im_oS (i := i) (v := none) rfl (by omega) rfl).trans (congrArg (im_o (-1)) (im_ms rfl))) ?_
    refine And.intro (vp_in_nI hi (by omega)) ?_
    refine nm_r (e' := im_o (-1) (im_m (i + 1) (fun _ => none) ro)) ((im_oS (i := i) (v := none) rfl (by omega) rfl).trans (congrArg (im_o (-1)) (im_ms rfl))) ?_
    exact nm_r (nI_1 i) hw
theorem in_y1 {pv : SY → Prop} {lk hd ro : Nat → Option Nat} (h : pv (yjs, yrs, yon, ytw, ysg, yps, yfr, yln, yjt, yen, yst, ywt, yhl, im_o (-2) (im_m 10 (fun _ => none) lk), im_o (-1) (im_m 3 (fun _ => none) hd), im_o (-1) (im_m 3 (fun _ => none) ro), yed, yrv, ymt, ynx)) : ∃ n, wY_init_157 pv yjs yrs n 0 yon ytw ysg yps yfr yln yjt yen yst ywt yhl (im_o (-2) lk) (im_o (-1) hd) (im_o (-1) ro) yed yrv ymt ynx := by
  refine Exists.intro (10 + 1) ?_
  refine lq_run0 (fun n i (s : Nat → Option Nat) => wY_init_157 pv yjs yrs n (nI i) yon ytw ysg yps yfr yln yjt yen yst ywt yhl (im_o (-2) s) (im_o (-1) hd) (im_o (-1) ro) yed yrv ymt ynx) 10 (fun i => im_m i (fun _ => none) lk) ?_ ?_
  · intro n
    exact br_t (Int32.le_refl _) (in_y2 h)
  · intro n i hi hw
    refine br_f (nI_ge (b := 10) hi (by omega)) (And.intro (vp_in_nI hi (by omega)) ?_)
    refine nm_r (e' := im_o (-2) (im_m (i + 1) (fun _ => none) lk)) ((im_oS (i := i) (v := none) rfl (by omega) rfl).trans (congrArg (im_o (-2)) (im_ms rfl))) ?_
    exact nm_r (nI_1 i) hw
def in_g : dg_T := (fun _ => false, fun _ => 0, fun _ => 0, fun _ => false, im_m 10 (fun _ => none) (fun _ => some 0), im_m 3 (fun _ => none) (fun _ => some 0), im_m 3 (fun _ => none) (fun _ => some 0), fun _ => 0, fun _ => 0, fun _ => some 0, 0, 0)
theorem in_m {e i : Nat} {h : Nat} (z : im_m e (fun _ => none) (fun _ => some 0) i = some h) : e ≤ i ∧ h = 0 := by
  unfold im_m at z
  by_cases l : i < e
  · rw [if_pos l] at z; cases z
  · rw [if_neg l] at z; cases z; exact ⟨by omega, rfl⟩
theorem in_I : dg_I (fun _ => 0) (fun _ => 0) 0 (fun _ => false) in_g := by
  refine ⟨⟨?_, ?_, ?_⟩, ⟨?_, ?_, ?_⟩, ⟨?_, ?_, ?_⟩, ⟨?_, ?_⟩, ?_, ⟨?_, ?_⟩, ?_, ?_⟩
  · intro r h; cases h
  · intro r; exact ⟨by show 0 ≤ 3; omega, fun h => absurd rfl h⟩
  · intro x; exact b_0 x
  · intro t h z; have := in_m z; omega
  · intro x
    constructor
    · intro z; rw [show dg_oc in_g = 0 from rfl, b_0] at z; cases z
    · rintro ⟨t, h, ht, z, _⟩; have := in_m z; omega
  · intro t t' h h' ht _ z; have := in_m z; omega
  · intro t r ht z; have := in_m z; omega
  · intro t t' r ht _ z; have := in_m z; omega
  · intro t r z; have := in_m z; omega
  · intro r h; cases h
  · intro r x z; cases z; omega
  · intro r k _
    exact ⟨(fun z => by cases z), (fun z => by cases z.1)⟩
  · intro s hs r
    constructor
    · intro z; have := in_m z; omega
    · rintro ⟨k, _, z, _⟩; cases z
  · intro s r z; have := in_m z; omega
  · intro t h r k _ _ _ z; cases z
  · intro a; exact Nat.zero_le _
theorem in_L {A B : Nat → Nat} {nj : Nat} : gr_L A B nj (fun _ => false) = [] := by
  unfold gr_L pa_L pa_M
  rw [pa_s0 (fun i _ => if_neg Bool.false_ne_true)]
  rfl
theorem i_vc0 : wpX_init (fun u => wpY_init (fun v => i_Rel 0 u v)) := by
  refine in_x1 (lk := fun _ => some 0) (hd := fun _ => some 0) (ro := fun _ => some 0) ?_
  refine in_y1 (lk := fun _ => some 0) (hd := fun _ => some 0) (ro := fun _ => some 0) ?_
  have key := zz_in (k := 0) (nj := 0) (A := fun _ => 0) (B := fun _ => 0) (sg := fun _ => false) (fd := false) (g := in_g) (xrc := 0) (xwg := 0) (xjt := fun _ => 0) (xso := fun _ => 0) (xlo := fun _ => 0) (xrj := fun _ => 0) (xre := fun _ => 0) (xrs := fun _ => 0) (xnd := fun _ => 0) (xnp := fun _ => 0) (xcf := fun _ => 0) (xwe := fun _ => 0) (xwc := fun _ => 0) (xrt := fun _ => 0) (xsz := fun _ => 0) (xrg := fun _ => 0) (yrs := 0) (yfr := fun _ => 0) (yln := fun _ => 0) (yjt := fun _ => 0) (yen := fun _ => 0) (yrv := fun _ => 0) (ymt := fun _ => 0) (ynx := fun _ => 0) ?_ ?_ ?_ in_I
  · rw [hs_N0 (hl := dg_hl in_g) (fun i => rfl)] at key
    exact key
  · exact ⟨by omega, fun _ => by show 0 < 20; omega, fun _ => by show 0 < 20; omega, fun j hj => absurd hj (Nat.not_lt_zero j), fun a => Nat.zero_le _, fun a k j hj => by cases hj⟩
  · rw [in_L]
    exact ⟨rfl, Nat.zero_le _, fun r hr => absurd hr (Nat.not_lt_zero r)⟩
  · intro z; cases z
/-- quiet -/
def dq_Q (st : Nat → Bool) (hd : Nat → Option Nat) : Prop := (∀ t, t < 3 → hd t = none) ∧ (∀ r, r < 16 → st r = false)
theorem dq_iff {L : List (Nat × List (Nat × Nat))} {st : Nat → Bool} {wt : Nat → Nat} {hd : Nat → Option Nat} {sr oc : Int32} (hL : L.length ≤ 16) (a : dn_A L st wt sr) (t : dn_T hd oc) : (sr = 0 ∧ oc = 0) ↔ dq_Q st hd := by
  obtain ⟨a1, a2, a3⟩ := a
  obtain ⟨t1, t2, t3⟩ := t
  constructor
  · rintro ⟨e1, e2⟩
    refine ⟨fun t ht => ?_, fun r hr => ?_⟩
    · cases e : hd t with
      | none => rfl
      | some h =>
        have := (t2 (h / 2)).mpr ⟨t, h, ht, e, rfl⟩
        rw [e2, b_0] at this; cases this
    · rw [← a3, e1, b_0]
  · rintro ⟨q1, q2⟩
    refine ⟨ib_z.mpr (fun i hi => ?_), ib_z.mpr (fun i hi => ?_)⟩
    · rw [a3]
      cases e : st i with
      | false => rfl
      | true => have := a1 i e; rw [q2 i (by omega)] at e; cases e
    · apply Bool.eq_false_iff.mpr
      intro z
      obtain ⟨t, h, ht, e, _⟩ := (t2 i).mp z
      rw [q1 t ht] at e; cases e
theorem dq_new {L L' : List (Nat × List (Nat × Nat))} {st : Nat → Bool} {wt ps ps' : Nat → Nat} {hl : Nat → Bool} {lk hd ro : Nat → Option Nat} {pg en : Nat → Nat} {to : Nat → Option Nat} {sr oc : Int32} (hL : L.length ≤ 16) (q : dq_Q st hd) (hp : ∀ a, ps' a ≤ 1) (I : dn_I L st wt ps hl lk hd ro pg en to sr oc) : dn_I L' st wt ps' hl lk hd ro pg en to sr oc ∧ ∀ i, hl i = false := by
  obtain ⟨⟨a1, a2, a3⟩, T, ⟨r1, r2, r3⟩, ⟨o1, o2⟩, H, ⟨k1, k2⟩, F, p⟩ := I
  have s0 : ∀ r, st r = false := by
    intro r
    cases e : st r with
    | false => rfl
    | true => have := a1 r e; rw [q.2 r (by omega)] at e; cases e
  have ro0 : ∀ t r, t < 3 → ro t = some r → False := by
    intro t r ht e
    have := (r1 t r ht e).1
    rw [s0] at this; cases this
  have h0 : ∀ i, hl i = false := by
    intro i
    have e : i = 5 * (i / 5) + i % 5 := by omega
    cases z : hl i with
    | false => rfl
    | true =>
      rw [e] at z
      have := ((H (i / 5) (i % 5) (by omega)).mp z).1
      rw [s0] at this; cases this
  refine ⟨⟨⟨?_, a2, a3⟩, T, ⟨?_, r2, r3⟩, ⟨o1, o2⟩, ?_, ⟨?_, k2⟩, ?_, hp⟩, h0⟩
  · intro r e; rw [s0] at e; cases e
  · intro t r ht e; exact absurd (ro0 t r ht e) id
  · intro r k hk
    rw [h0, s0]
    exact ⟨(fun z => by cases z), (fun z => by cases z.1)⟩
  · intro s hs r
    rw [k1 s hs r]
    constructor
    · rintro ⟨k, _, z, _⟩; rw [h0] at z; cases z
    · rintro ⟨k, _, z, _⟩; rw [h0] at z; cases z
  · intro t h r k _ _ _ z; rw [h0] at z; cases z
/-- signal, each side -/
theorem bs_x {post : Int32 → SX → Prop} {a : Nat} {b : Bool} (ha : a < 20) (h0 : (sg a = b ∨ ¬ (xsr = 0 ∧ xoc = 0)) → post 0 (xjc, xfd, xrc, xsr, xoc, xwg, xjA, xjB, xcA, xjt, im_b sg, xps, xso, xlo, xrj, xre, xrs, xnd, xnp, xcf, xwe, xwc, xwt, xto, xlk, xnc, xhd, xro, xpg, xrt, xsz, xrg)) (h1 : ¬ sg a = b → (xsr = 0 ∧ xoc = 0) → post 1 (xjc, im_bi false, xrc, xsr, xoc, xwg, xjA, xjB, xcA, xjt, im_b (im_u sg a b), xps, xso, xlo, xrj, xre, xrs, xnd, xnp, xcf, xwe, xwc, xwt, xto, xlk, xnc, xhd, xro, xpg, xrt, xsz, xrg)) : wpX_signal post (xjc, xfd, xrc, xsr, xoc, xwg, xjA, xjB, xcA, xjt, im_b sg, xps, xso, xlo, xrj, xre, xrs, xnd, xnp, xcf, xwe, xwc, xwt, xto, xlk, xnc, xhd, xro, xpg, xrt, xsz, xrg) (nI a) (im_bi b) := by
  unfold wpX_signal
  refine xs_endM ha ?_
  refine br_f (by decide) (And.intro (vp_in_nI ha (by omega)) ?_)
  rw [im_bR (i := a) rfl (by omega)]
  by_cases e : sg a = b
  · exact br_t (by rw [e]) (h0 (Or.inl e))
  · refine br_f (fun z => e ?_) ?_
    · cases hs : sg a <;> cases b <;> rw [hs] at z <;> first | rfl | exact absurd z (by decide)
    · refine xs_quiet ?_ ?_
      · intro q
        refine br_f (by decide) (And.intro (vp_in_nI ha (by omega)) ?_)
        exact nm_r (im_bS rfl (by omega) (im_boB b)) (h1 e q)
      · intro q
        exact br_t rfl (h0 (Or.inr q))
theorem bs_y {post : Int32 → SY → Prop} {a : Nat} {b : Bool} {hd : Nat → Option Nat} {st : Nat → Bool} (ha : a < 20) (hn : nj ≤ 12) (hA : ∀ j, A j < 20) (hB : ∀ j, B j < 20) (hb : ∀ t h, hd t = some h → h < 20) (h0 : (sg a = b ∨ ¬ dq_Q st hd) → post 0 (nI nj, yrs, im_n A, im_n B, im_b sg, yps, yfr, yln, yjt, yen, im_b st, ywt, yhl, ylk, im_o (-1) hd, yun, yed, yrv, ymt, ynx)) (h1 : ¬ sg a = b → dq_Q st hd → ∀ rs fr ln jt en, rp_Y (gr_L A B nj (im_u sg a b)) rs fr ln jt en → post 1 (nI nj, rs, im_n A, im_n B, im_b (im_u sg a b), yps, fr, ln, jt, en, im_b st, ywt, yhl, ylk, im_o (-1) hd, yun, yed, yrv, ymt, ynx)) : wpY_signal post (nI nj, yrs, im_n A, im_n B, im_b sg, yps, yfr, yln, yjt, yen, im_b st, ywt, yhl, ylk, im_o (-1) hd, yun, yed, yrv, ymt, ynx) (nI a) (im_bi b) := by
  unfold wpY_signal
  refine ys_inM (N := 19) (by omega) (by omega) ?_
  refine br_f (by decide) (And.intro (vp_in_nI ha (by omega)) ?_)
  rw [im_bR (i := a) rfl (by omega)]
  by_cases e : sg a = b
  · exact br_t (by rw [e]) (h0 (Or.inl e))
  · refine br_f (fun z => e ?_) ?_
    · cases hs : sg a <;> cases b <;> rw [hs] at z <;> first | rfl | exact absurd z (by decide)
    · refine ys_busy hb ?_ ?_
      · intro q
        refine br_t rfl (And.intro (vp_in_nI ha (by omega)) ?_)
        refine nm_r (im_bS rfl (by omega) (im_boB b)) ?_
        exact yf_find hn hA hB (h1 e q)
      · intro q
        exact br_f (by decide) (h0 (Or.inr q))
theorem i_vc_signal {k : Nat} {u : SX} {v : SY} (I : i_Rel k u v) (hk : k + 3 ≤ 1536) (v1 : Int32) (v2 : Int32) : wpX_signal (fun r u' => wpY_signal (fun r' v' => r' = r ∧ i_Rel (k + 3) u' v') v v1 (lw_bz v2)) u v1 (lw_bz v2) := by
  refine zz_el (P := fun u v => wpX_signal (fun r u' => wpY_signal (fun r' v' => r' = r ∧ i_Rel (k + 3) u' v') v v1 (lw_bz v2)) u v1 (lw_bz v2)) ?_ I
  intro nj A B sg fd g xrc xwg xjt xso xlo xrj xre xrs xnd xnp xcf xwe xwc xrt xsz xrg yrs yfr yln yjt yen yrv ymt ynx h1 h2 h3 h4
  have K0 := zz_in (k := k + 3) (xwg := xwg) (xwe := xwe) (xwc := xwc) (xrt := xrt) (xsz := xsz) (xrg := xrg) (yrv := yrv) (ymt := ymt) (ynx := ynx) h1 h2 h3 h4
  rcases pk_ix v1 (n := 20) (by omega) with hv | hv | ⟨a, ha, rfl⟩
  · unfold wpX_signal
    refine xs_endL hv (br_t rfl ?_)
    unfold wpY_signal
    exact ys_inL hv (br_t rfl ⟨rfl, K0⟩)
  · unfold wpX_signal
    refine xs_endG hv (br_t rfl ?_)
    unfold wpY_signal
    exact ys_inG (N := 19) (by omega) hv (br_t rfl ⟨rfl, K0⟩)
  · have eb : lw_bz v2 = im_bi (decide (¬ v2 = 0)) := by
      unfold lw_bz im_bi
      by_cases z : v2 = 0
      · rw [if_pos z, if_neg (by simp [z])]
      · rw [if_neg z, if_pos (by simp [z])]
    rw [eb]
    have hq := dq_iff rv_len h4.1 h4.2.1
    refine bs_x ha ?_ ?_
    · intro z
      refine bs_y ha h1.1 h1.2.1 h1.2.2.1 h4.2.1.1 (fun _ => ⟨rfl, K0⟩) ?_
      intro e q
      rcases z with z | z
      · exact absurd z e
      · exact absurd (hq.mpr q) z
    · intro e q
      refine bs_y ha h1.1 h1.2.1 h1.2.2.1 h4.2.1.1 ?_ ?_
      · rintro (z | z)
        · exact absurd z e
        · exact absurd (hq.mp q) z
      · intro _ q2 rs fr ln jt en R
        obtain ⟨I2, z0⟩ := dq_new (L' := gr_L A B nj (im_u sg a (decide (¬ v2 = 0)))) rv_len q2 h4.2.2.2.2.2.2.2 h4
        refine ⟨rfl, ?_⟩
        have eN : hs_N A B nj (gr_L A B nj sg) (dg_hl g) = hs_N A B nj (gr_L A B nj (im_u sg a (decide (¬ v2 = 0)))) (dg_hl g) := by rw [hs_N0 z0, hs_N0 z0]
        rw [eN]
        exact zz_in h1 R (fun z => by cases z) I2
end BUILD
end
section
/-! joint -/
section JOINT
variable {xjc xfd xrc xsr xoc xwg : Int32} {xjA xjB xcA xjt xhs xps xso xlo xrj xre xrs xnd xnp xcf xwe xwc xwt xto xlk xnc xhd xro xpg xrt xsz xrg : Nat → Int32}
variable {yjs yrs : Int32} {yon ytw ysg yps yfr yln yjt yen yst ywt yhl ylk yhd yun yed yrv ymt ynx : Nat → Int32}
variable {A B : Nat → Nat} {nj : Nat} {sg : Nat → Bool}
def jn_K (A B : Nat → Nat) (nj : Nat) (q : Prop) (a b : Nat) : Prop :=
  nj < 12 ∧ a / 2 ≠ b / 2 ∧ q ∧ sk_c A B nj a ≠ 2 ∧ sk_c A B nj b ≠ 2 ∧ ¬ ∃ j, j < nj ∧ sk_at A B j a = true ∧ sk_o A B j a = b
theorem bj_120 {post : Int32 → SX → Prop} {ps : Nat → Nat} (h : post 1 (xjc, im_bi false, xrc, xsr, xoc, xwg, xjA, xjB, xcA, xjt, xhs, im_n (im_m 20 (fun _ => 0) ps), xso, xlo, xrj, xre, xrs, xnd, xnp, xcf, xwe, xwc, xwt, xto, xlk, xnc, xhd, xro, xpg, xrt, xsz, xrg)) : ∃ n, wX_joint_120 post xjc xfd xrc xsr xoc xwg n 0 xjA xjB xcA xjt xhs (im_n ps) xso xlo xrj xre xrs xnd xnp xcf xwe xwc xwt xto xlk xnc xhd xro xpg xrt xsz xrg := by
  refine Exists.intro (20 + 1) ?_
  refine lq_run0 (fun n i (s : Nat → Nat) => wX_joint_120 post xjc xfd xrc xsr xoc xwg n (nI i) xjA xjB xcA xjt xhs (im_n s) xso xlo xrj xre xrs xnd xnp xcf xwe xwc xwt xto xlk xnc xhd xro xpg xrt xsz xrg) 20 (fun i => im_m i (fun _ => 0) ps) ?_ ?_
  · intro n
    exact br_t (Int32.le_refl _) h
  · intro n i hi hw
    refine br_f (nI_ge (b := 20) hi (by omega)) (And.intro (vp_in_nI hi (by omega)) ?_)
    refine nm_r (e' := im_n (im_m (i + 1) (fun _ => 0) ps)) ((im_nS (i := i) (v := 0) rfl (by omega) im_by0).trans (congrArg im_n (im_ms rfl))) ?_
    exact nm_r (nI_1 i) hw
theorem bj_x {post : Int32 → SX → Prop} {a b : Nat} {ps : Nat → Nat} (ha : a < 20) (hb : b < 20) (S : sk_St A B nj xjt)
    (h0 : ¬ jn_K A B nj (xsr = 0 ∧ xoc = 0) a b → post 0 (nI nj, xfd, xrc, xsr, xoc, xwg, im_n A, im_n B, im_n (sk_c A B nj), xjt, xhs, im_n ps, xso, xlo, xrj, xre, xrs, xnd, xnp, xcf, xwe, xwc, xwt, xto, xlk, xnc, xhd, xro, xpg, xrt, xsz, xrg))
    (h1 : jn_K A B nj (xsr = 0 ∧ xoc = 0) a b → post 1 (nI (nj + 1), im_bi false, xrc, xsr, xoc, xwg, im_n (im_u A nj a), im_n (im_u B nj b), im_n (sk_c (im_u A nj a) (im_u B nj b) (nj + 1)), upd (upd xjt (2 * a + sk_c A B nj a) (nI nj)) (2 * b + sk_c A B nj b) (nI nj), xhs, im_n (im_m 20 (fun _ => 0) ps), xso, xlo, xrj, xre, xrs, xnd, xnp, xcf, xwe, xwc, xwt, xto, xlk, xnc, xhd, xro, xpg, xrt, xsz, xrg)) :
    wpX_joint post (nI nj, xfd, xrc, xsr, xoc, xwg, im_n A, im_n B, im_n (sk_c A B nj), xjt, xhs, im_n ps, xso, xlo, xrj, xre, xrs, xnd, xnp, xcf, xwe, xwc, xwt, xto, xlk, xnc, xhd, xro, xpg, xrt, xsz, xrg) (nI a) (nI b) := by
  have Sk := S
  obtain ⟨s1, s2, s3, s4, s5, s6⟩ := Sk
  have va : vp_in (nI a) 20 := vp_in_nI ha (by omega)
  have vb : vp_in (nI b) 20 := vp_in_nI hb (by omega)
  have ca2 := s5 a
  have cb2 := s5 b
  refine pk_le 12 nj ?_ ?_
  · intro z; exact h0 (fun k => by have := k.1; omega)
  · intro z
    refine xs_endM ha (br_f (by decide) ?_)
    refine xs_endM hb (br_f (by decide) (And.intro ix_20 (And.intro ix_20 ?_)))
    rw [ix_h (a := a) (by omega), ix_h (a := b) (by omega)]
    refine pk_eq (a / 2) (b / 2) (fun e => h0 (fun k => k.2.1 e)) ?_
    intro hab
    refine xs_quiet ?_ ?_
    · intro q
      refine br_f (by decide) (And.intro va ?_)
      rw [im_nR (i := a) rfl (by omega)]
      refine pk_eq (sk_c A B nj a) 2 (fun e => h0 (fun k => k.2.2.2.1 e)) ?_
      intro ca
      refine And.intro vb ?_
      rw [im_nR (i := b) rfl (by omega)]
      refine pk_eq (sk_c A B nj b) 2 (fun e => h0 (fun k => k.2.2.2.2.1 e)) ?_
      intro cb
      refine xs_joined ha hb S ?_ ?_
      · intro hj
        have hne : b ≠ a := fun e => hab (by rw [e])
        have vj : vp_in (nI nj) 12 := vp_in_nI z (by omega)
        have cj : (nI nj).toNatClampNeg = nj := nI_clamp (by omega)
        have N := sk_new S z ha hb hab ca cb
        refine br_t rfl (nm_r (nI_1 nj) (And.intro vj ?_))
        refine nm_r (im_nS rfl (by omega) (im_by (by omega))) ?_
        refine And.intro vj (nm_r (im_nS rfl (by omega) (im_by (by omega))) ?_)
        refine xs_hang ha (by omega) (by omega) ?_
        have ecb : im_u (sk_c A B nj) a (sk_c A B nj a + 1) b = sk_c A B nj b := im_un hne
        refine xs_hang hb (by omega) (by rw [ecb]; omega) ?_
        rw [ecb, N.2]
        exact bj_120 (h1 ⟨z, hab, q, ca, cb, hj⟩)
      · intro hj
        exact br_f (by decide) (h0 (fun k => k.2.2.2.2.2 hj))
    · intro q
      exact br_t rfl (h0 (fun k => q k.2.2.1))
theorem bj_159 {post : Int32 → SY → Prop} {ps : Nat → Nat} (hn : nj ≤ 12) (hA : ∀ j, A j < 20) (hB : ∀ j, B j < 20) (h : ∀ rs fr ln jt en, rp_Y (gr_L A B nj sg) rs fr ln jt en → post 1 (nI nj, rs, im_n A, im_n B, im_b sg, im_n (im_m 20 (fun _ => 0) ps), fr, ln, jt, en, yst, ywt, yhl, ylk, yhd, yun, yed, yrv, ymt, ynx)) : ∃ n, wY_joint_159 post (nI nj) yrs n 0 (im_n A) (im_n B) (im_b sg) (im_n ps) yfr yln yjt yen yst ywt yhl ylk yhd yun yed yrv ymt ynx := by
  refine Exists.intro (20 + 1) ?_
  refine lq_run0 (fun n i (s : Nat → Nat) => wY_joint_159 post (nI nj) yrs n (nI i) (im_n A) (im_n B) (im_b sg) (im_n s) yfr yln yjt yen yst ywt yhl ylk yhd yun yed yrv ymt ynx) 20 (fun i => im_m i (fun _ => 0) ps) ?_ ?_
  · intro n
    refine br_t (Int32.le_refl _) ?_
    exact yf_find hn hA hB h
  · intro n i hi hw
    refine br_f (nI_ge (b := 20) hi (by omega)) (And.intro (vp_in_nI hi (by omega)) ?_)
    refine nm_r (e' := im_n (im_m (i + 1) (fun _ => 0) ps)) ((im_nS (i := i) (v := 0) rfl (by omega) rfl).trans (congrArg im_n (im_ms rfl))) ?_
    exact nm_r (nI_1 i) hw
theorem jn_P {a b j : Nat} (hab : a ≠ b) : (sk_at A B j a = true ∧ sk_o A B j a = b) ↔ (A j = a ∧ B j = b) ∨ (A j = b ∧ B j = a) := by
  rw [sk_atI]
  unfold sk_o
  by_cases e : A j = a
  · rw [if_pos e]
    constructor
    · rintro ⟨_, h⟩; exact Or.inl ⟨e, h⟩
    · rintro (⟨_, h⟩ | ⟨h, _⟩)
      · exact ⟨Or.inl e, h⟩
      · exact absurd (e.symm.trans h) hab
  · rw [if_neg e]
    constructor
    · rintro ⟨h1 | h1, h2⟩
      · exact absurd h1 e
      · exact Or.inr ⟨h2, h1⟩
    · rintro (⟨h, _⟩ | ⟨h1, h2⟩)
      · exact absurd h e
      · exact ⟨Or.inr h2, h1⟩
theorem bj_71 {post : Int32 → SY → Prop} {a b : Nat} {ps : Nat → Nat} (ha : a < 20) (hb : b < 20) (hab : a ≠ b) (hn : nj < 12) (hA : ∀ j, A j < 20) (hB : ∀ j, B j < 20)
    (h0 : (∃ j, j < nj ∧ sk_at A B j a = true ∧ sk_o A B j a = b) → post 0 (nI nj, yrs, im_n A, im_n B, im_b sg, im_n ps, yfr, yln, yjt, yen, yst, ywt, yhl, ylk, yhd, yun, yed, yrv, ymt, ynx))
    (h1 : (¬ ∃ j, j < nj ∧ sk_at A B j a = true ∧ sk_o A B j a = b) → ∀ rs fr ln jt en, rp_Y (gr_L (im_u A nj a) (im_u B nj b) (nj + 1) sg) rs fr ln jt en → post 1 (nI (nj + 1), rs, im_n (im_u A nj a), im_n (im_u B nj b), im_b sg, im_n (im_m 20 (fun _ => 0) ps), fr, ln, jt, en, yst, ywt, yhl, ylk, yhd, yun, yed, yrv, ymt, ynx)) :
    ∃ n, wY_joint_71 post (nI a) (nI b) (nI nj) yrs (im_n A) (im_n B) (im_b sg) (im_n ps) yfr yln yjt yen yst ywt yhl ylk yhd yun yed yrv ymt ynx n 0 := by
  refine Exists.intro (nj + 1) ?_
  refine lq_find0 (fun n i => wY_joint_71 post (nI a) (nI b) (nI nj) yrs (im_n A) (im_n B) (im_b sg) (im_n ps) yfr yln yjt yen yst ywt yhl ylk yhd yun yed yrv ymt ynx n (nI i)) nj (fun j => (A j = a ∧ B j = b) ∨ (A j = b ∧ B j = a)) ?_ ?_ ?_
  · intro n hno
    have vj : vp_in (nI nj) 12 := vp_in_nI hn (by omega)
    refine br_t (Int32.le_refl _) (And.intro vj ?_)
    refine nm_r (im_nS (v := a) rfl (by omega) rfl) (And.intro vj ?_)
    refine nm_r (im_nS (v := b) rfl (by omega) rfl) ?_
    refine nm_r (nI_1 nj) ?_
    refine bj_159 (by omega) ?_ ?_ (h1 ?_)
    · intro j; rw [im_ue]; split
      · exact ha
      · exact hA j
    · intro j; rw [im_ue]; split
      · exact hb
      · exact hB j
    · rintro ⟨j, hj, hj2⟩
      exact hno j hj ((jn_P hab).mp hj2)
  · intro n i hi hp hw
    have hAi := hA i
    have hBi := hB i
    have vi : vp_in (nI i) 12 := vp_in_nI (by omega) (by omega)
    have k99 : wY_joint_99 post (wY_joint_71 post (nI a) (nI b) (nI nj) yrs (im_n A) (im_n B) (im_b sg) (im_n ps) yfr yln yjt yen yst ywt yhl ylk yhd yun yed yrv ymt ynx n) (nI a) (nI b) (nI i) (nI nj) yrs (im_n A) (im_n B) (im_b sg) (im_n ps) yfr yln yjt yen yst ywt yhl ylk yhd yun yed yrv ymt ynx := by
      refine And.intro vi ?_
      rw [im_nR (i := i) rfl (by omega)]
      refine pk_eq (A i) b ?_ ?_
      · intro e
        refine And.intro vi ?_
        rw [im_nR (i := i) rfl (by omega)]
        refine pk_eq (B i) a ?_ ?_
        · intro e2; exact absurd (Or.inr ⟨e, e2⟩) hp
        · intro _; exact nm_r (nI_1 i) hw
      · intro _; exact nm_r (nI_1 i) hw
    refine br_f (nI_ge hi (by omega)) (And.intro vi ?_)
    rw [im_nR (i := i) rfl (by omega)]
    refine pk_eq (A i) a ?_ (fun _ => k99)
    intro e
    refine And.intro vi ?_
    rw [im_nR (i := i) rfl (by omega)]
    refine pk_eq (B i) b ?_ (fun _ => k99)
    intro e2; exact absurd (Or.inl ⟨e, e2⟩) hp
  · intro n i hi _ hp
    have hAi := hA i
    have hBi := hB i
    have vi : vp_in (nI i) 12 := vp_in_nI (by omega) (by omega)
    have hh := h0 ⟨i, hi, (jn_P hab).mpr hp⟩
    have k99 : ¬ (A i = a ∧ B i = b) → wY_joint_99 post (wY_joint_71 post (nI a) (nI b) (nI nj) yrs (im_n A) (im_n B) (im_b sg) (im_n ps) yfr yln yjt yen yst ywt yhl ylk yhd yun yed yrv ymt ynx n) (nI a) (nI b) (nI i) (nI nj) yrs (im_n A) (im_n B) (im_b sg) (im_n ps) yfr yln yjt yen yst ywt yhl ylk yhd yun yed yrv ymt ynx := by
      intro hno
      have hq := hp.resolve_left hno
      refine And.intro vi ?_
      rw [im_nR (i := i) rfl (by omega)]
      refine pk_eq (A i) b ?_ (fun e => absurd hq.1 e)
      intro e
      refine And.intro vi ?_
      rw [im_nR (i := i) rfl (by omega)]
      exact pk_eq (B i) a (fun _ => hh) (fun e => absurd hq.2 e)
    refine br_f (nI_ge hi (by omega)) (And.intro vi ?_)
    rw [im_nR (i := i) rfl (by omega)]
    refine pk_eq (A i) a ?_ (fun e => k99 (fun z => e z.1))
    intro e
    refine And.intro vi ?_
    rw [im_nR (i := i) rfl (by omega)]
    exact pk_eq (B i) b (fun _ => hh) (fun e2 => k99 (fun z => e2 z.2))
theorem bj_y {post : Int32 → SY → Prop} {a b : Nat} {ps : Nat → Nat} {hd : Nat → Option Nat} {st : Nat → Bool} (ha : a < 20) (hb : b < 20) (hn : nj ≤ 12) (hA : ∀ j, A j < 20) (hB : ∀ j, B j < 20) (h2 : ∀ a, sk_c A B nj a ≤ 2) (hh : ∀ t h, hd t = some h → h < 20)
    (h0 : ¬ jn_K A B nj (dq_Q st hd) a b → post 0 (nI nj, yrs, im_n A, im_n B, im_b sg, im_n ps, yfr, yln, yjt, yen, im_b st, ywt, yhl, ylk, im_o (-1) hd, yun, yed, yrv, ymt, ynx))
    (h1 : jn_K A B nj (dq_Q st hd) a b → ∀ rs fr ln jt en, rp_Y (gr_L (im_u A nj a) (im_u B nj b) (nj + 1) sg) rs fr ln jt en → post 1 (nI (nj + 1), rs, im_n (im_u A nj a), im_n (im_u B nj b), im_b sg, im_n (im_m 20 (fun _ => 0) ps), fr, ln, jt, en, im_b st, ywt, yhl, ylk, im_o (-1) hd, yun, yed, yrv, ymt, ynx)) :
    wpY_joint post (nI nj, yrs, im_n A, im_n B, im_b sg, im_n ps, yfr, yln, yjt, yen, im_b st, ywt, yhl, ylk, im_o (-1) hd, yun, yed, yrv, ymt, ynx) (nI a) (nI b) := by
  have ca2 := h2 a
  have cb2 := h2 b
  refine pk_eq nj 12 ?_ ?_
  · intro z; exact h0 (fun k => by have := k.1; omega)
  · intro z
    refine ys_inM (N := 19) (by omega) (by omega) (br_f (by decide) ?_)
    refine ys_inM (N := 19) (by omega) (by omega) (br_f (by decide) (And.intro ix_20 (And.intro ix_20 ?_)))
    rw [ix_h (a := a) (by omega), ix_h (a := b) (by omega)]
    refine pk_eq (a / 2) (b / 2) (fun e => h0 (fun k => k.2.1 e)) ?_
    intro hab
    refine ys_busy hh ?_ ?_
    · intro q
      refine br_t rfl ?_
      refine ys_jointsAt ha hn hA hB ?_
      refine pk_eq (sk_c A B nj a) 2 (fun e => h0 (fun k => k.2.2.2.1 e)) ?_
      intro ca
      refine ys_jointsAt hb hn hA hB ?_
      refine pk_eq (sk_c A B nj b) 2 (fun e => h0 (fun k => k.2.2.2.2.1 e)) ?_
      intro cb
      exact bj_71 ha hb (fun e => hab (by rw [e])) (by omega) hA hB (fun hj => h0 (fun k => k.2.2.2.2.2 hj)) (fun hj => h1 ⟨by omega, hab, q, ca, cb, hj⟩)
    · intro q
      exact br_f (by decide) (h0 (fun k => q k.2.2.1))
theorem i_vc_joint {k : Nat} {u : SX} {v : SY} (I : i_Rel k u v) (hk : k + 3 ≤ 1536) (v1 : Int32) (v2 : Int32) : wpX_joint (fun r u' => wpY_joint (fun r' v' => r' = r ∧ i_Rel (k + 3) u' v') v v1 v2) u v1 v2 := by
  refine zz_el (P := fun u v => wpX_joint (fun r u' => wpY_joint (fun r' v' => r' = r ∧ i_Rel (k + 3) u' v') v v1 v2) u v1 v2) ?_ I
  intro nj A B sg fd g xrc xwg xjt xso xlo xrj xre xrs xnd xnp xcf xwe xwc xrt xsz xrg yrs yfr yln yjt yen yrv ymt ynx h1 h2 h3 h4
  have K0 := zz_in (k := k + 3) (xwg := xwg) (xwe := xwe) (xwc := xwc) (xrt := xrt) (xsz := xsz) (xrg := xrg) (yrv := yrv) (ymt := ymt) (ynx := ynx) h1 h2 h3 h4
  have hnj := h1.1
  -- out of range
  have bad1 : (v1 < 0 ∨ nI 20 ≤ v1) → wpX_joint (fun r u' => wpY_joint (fun r' v' => r' = r ∧ i_Rel (k + 3) u' v') (nI nj, yrs, im_n A, im_n B, im_b sg, im_n (dg_ps g), yfr, yln, yjt, yen, im_b (dg_st g), im_n (dg_wt g), im_b (dg_hl g), im_o (-2) (dg_lk g), im_o (-1) (dg_hd g), im_o (-1) (dg_ro g), im_n (dg_en g), yrv, ymt, ynx) v1 v2) (nI nj, im_bi fd, xrc, dg_sr g, dg_oc g, xwg, im_n A, im_n B, im_n (sk_c A B nj), xjt, im_b sg, im_n (dg_ps g), xso, xlo, xrj, xre, xrs, xnd, xnp, xcf, xwe, xwc, im_n (dg_wt g), im_o (-1) (dg_to g), im_o (-1) (dg_lk g), im_n (hs_N A B nj (gr_L A B nj sg) (dg_hl g)), im_o (-1) (dg_hd g), im_o (-1) (dg_ro g), im_n (dg_pg g), xrt, xsz, xrg) v1 v2 := by
    intro hv
    have Y0 : wpY_joint (fun r' v' => r' = 0 ∧ i_Rel (k + 3) (nI nj, im_bi fd, xrc, dg_sr g, dg_oc g, xwg, im_n A, im_n B, im_n (sk_c A B nj), xjt, im_b sg, im_n (dg_ps g), xso, xlo, xrj, xre, xrs, xnd, xnp, xcf, xwe, xwc, im_n (dg_wt g), im_o (-1) (dg_to g), im_o (-1) (dg_lk g), im_n (hs_N A B nj (gr_L A B nj sg) (dg_hl g)), im_o (-1) (dg_hd g), im_o (-1) (dg_ro g), im_n (dg_pg g), xrt, xsz, xrg) v') (nI nj, yrs, im_n A, im_n B, im_b sg, im_n (dg_ps g), yfr, yln, yjt, yen, im_b (dg_st g), im_n (dg_wt g), im_b (dg_hl g), im_o (-2) (dg_lk g), im_o (-1) (dg_hd g), im_o (-1) (dg_ro g), im_n (dg_en g), yrv, ymt, ynx) v1 v2 := by
      refine br_c (fun _ => ⟨rfl, K0⟩) (fun _ => ?_)
      rcases hv with hv | hv
      · exact ys_inL hv (br_t rfl ⟨rfl, K0⟩)
      · exact ys_inG (N := 19) (by omega) hv (br_t rfl ⟨rfl, K0⟩)
    refine br_c (fun _ => Y0) (fun _ => ?_)
    rcases hv with hv | hv
    · exact xs_endL hv (br_t rfl Y0)
    · exact xs_endG hv (br_t rfl Y0)
  rcases pk_ix v1 (n := 20) (by omega) with hv | hv | ⟨a, ha, rfl⟩
  · exact bad1 (Or.inl hv)
  · exact bad1 (Or.inr hv)
  have bad2 : (v2 < 0 ∨ nI 20 ≤ v2) → wpX_joint (fun r u' => wpY_joint (fun r' v' => r' = r ∧ i_Rel (k + 3) u' v') (nI nj, yrs, im_n A, im_n B, im_b sg, im_n (dg_ps g), yfr, yln, yjt, yen, im_b (dg_st g), im_n (dg_wt g), im_b (dg_hl g), im_o (-2) (dg_lk g), im_o (-1) (dg_hd g), im_o (-1) (dg_ro g), im_n (dg_en g), yrv, ymt, ynx) (nI a) v2) (nI nj, im_bi fd, xrc, dg_sr g, dg_oc g, xwg, im_n A, im_n B, im_n (sk_c A B nj), xjt, im_b sg, im_n (dg_ps g), xso, xlo, xrj, xre, xrs, xnd, xnp, xcf, xwe, xwc, im_n (dg_wt g), im_o (-1) (dg_to g), im_o (-1) (dg_lk g), im_n (hs_N A B nj (gr_L A B nj sg) (dg_hl g)), im_o (-1) (dg_hd g), im_o (-1) (dg_ro g), im_n (dg_pg g), xrt, xsz, xrg) (nI a) v2 := by
    intro hv
    have Y0 : wpY_joint (fun r' v' => r' = 0 ∧ i_Rel (k + 3) (nI nj, im_bi fd, xrc, dg_sr g, dg_oc g, xwg, im_n A, im_n B, im_n (sk_c A B nj), xjt, im_b sg, im_n (dg_ps g), xso, xlo, xrj, xre, xrs, xnd, xnp, xcf, xwe, xwc, im_n (dg_wt g), im_o (-1) (dg_to g), im_o (-1) (dg_lk g), im_n (hs_N A B nj (gr_L A B nj sg) (dg_hl g)), im_o (-1) (dg_hd g), im_o (-1) (dg_ro g), im_n (dg_pg g), xrt, xsz, xrg) v') (nI nj, yrs, im_n A, im_n B, im_b sg, im_n (dg_ps g), yfr, yln, yjt, yen, im_b (dg_st g), im_n (dg_wt g), im_b (dg_hl g), im_o (-2) (dg_lk g), im_o (-1) (dg_hd g), im_o (-1) (dg_ro g), im_n (dg_en g), yrv, ymt, ynx) (nI a) v2 := by
      refine br_c (fun _ => ⟨rfl, K0⟩) (fun _ => ?_)
      refine ys_inM (N := 19) (by omega) (by omega) (br_f (by decide) ?_)
      rcases hv with hv | hv
      · exact ys_inL hv (br_t rfl ⟨rfl, K0⟩)
      · exact ys_inG (N := 19) (by omega) hv (br_t rfl ⟨rfl, K0⟩)
    refine br_c (fun _ => Y0) (fun _ => ?_)
    refine xs_endM ha (br_f (by decide) ?_)
    rcases hv with hv | hv
    · exact xs_endL hv (br_t rfl Y0)
    · exact xs_endG hv (br_t rfl Y0)
  rcases pk_ix v2 (n := 20) (by omega) with hv | hv | ⟨b, hb, rfl⟩
  · exact bad2 (Or.inl hv)
  · exact bad2 (Or.inr hv)
  have hq := dq_iff rv_len h4.1 h4.2.1
  have hK : jn_K A B nj (dg_sr g = 0 ∧ dg_oc g = 0) a b ↔ jn_K A B nj (dq_Q (dg_st g) (dg_hd g)) a b := by
    unfold jn_K; rw [hq]
  refine bj_x ha hb h1 ?_ ?_
  · intro z
    refine bj_y ha hb h1.1 h1.2.1 h1.2.2.1 h1.2.2.2.2.1 h4.2.1.1 (fun _ => ⟨rfl, K0⟩) ?_
    intro q; exact absurd (hK.mpr q) z
  · intro z
    refine bj_y ha hb h1.1 h1.2.1 h1.2.2.1 h1.2.2.2.2.1 h4.2.1.1 ?_ ?_
    · intro q; exact absurd (hK.mp z) q
    · intro q rs fr ln jt en R
      obtain ⟨q1, q2, q3, q4, q5, q6⟩ := q
      have N := sk_new h1 q1 ha hb q2 q4 q5
      obtain ⟨I2, z0⟩ := dq_new (L' := gr_L (im_u A nj a) (im_u B nj b) (nj + 1) sg) (ps' := im_m 20 (fun _ => 0) (dg_ps g)) rv_len q3 (by
        intro x; unfold im_m; split
        · exact Nat.zero_le _
        · exact h4.2.2.2.2.2.2.2 x) h4
      refine ⟨rfl, ?_⟩
      have eN : hs_N A B nj (gr_L A B nj sg) (dg_hl g) = hs_N (im_u A nj a) (im_u B nj b) (nj + 1) (gr_L (im_u A nj a) (im_u B nj b) (nj + 1) sg) (dg_hl g) := by rw [hs_N0 z0, hs_N0 z0]
      rw [eN]
      exact zz_in (g := (dg_st g, dg_wt g, im_m 20 (fun _ => 0) (dg_ps g), dg_hl g, dg_lk g, dg_hd g, dg_ro g, dg_pg g, dg_en g, dg_to g, dg_sr g, dg_oc g)) N.1 R (fun z => by cases z) I2
end JOINT
end
section
/-! trains put and turned; plain answers -/
section TRAINS
variable {xjc xfd xrc xsr xoc xwg : Int32} {xjA xjB xcA xjt xhs xps xso xlo xrj xre xrs xnd xnp xcf xwe xwc xwt xto xlk xnc xhd xro xpg xrt xsz xrg : Nat → Int32}
variable {yjs yrs : Int32} {yon ytw ysg yps yfr yln yjt yen yst ywt yhl ylk yhd yun yed yrv ymt ynx : Nat → Int32}
variable {A B : Nat → Nat} {nj : Nat} {sg : Nat → Bool} {post : Int32 → Prop}
def oc_P (hd : Nat → Option Nat) (s : Nat) : Prop := ∃ t h, t < 3 ∧ hd t = some h ∧ h / 2 = s
theorem xs_occ {s : Nat} (hs : s < 32) (h0 : bt xoc s = false → post 0) (h1 : bt xoc s = true → post 1) : wpX_isOccupied post (xjc, xfd, xrc, xsr, xoc, xwg, xjA, xjB, xcA, xjt, xhs, xps, xso, xlo, xrj, xre, xrs, xnd, xnp, xcf, xwe, xwc, xwt, xto, xlk, xnc, xhd, xro, xpg, xrt, xsz, xrg) (nI s) := by
  unfold wpX_isOccupied; dsimp only
  rw [ib_get _ hs]
  exact im_bc h0 h1
theorem ys_occ {s : Nat} {hd : Nat → Option Nat} (hs : s < 2 ^ 31) (hb : ∀ t h, hd t = some h → h < 20) (h0 : ¬ oc_P hd s → post 0) (h1 : oc_P hd s → post 1) : wpY_isOccupied post (yjs, yrs, yon, ytw, ysg, yps, yfr, yln, yjt, yen, yst, ywt, yhl, ylk, im_o (-1) hd, yun, yed, yrv, ymt, ynx) (nI s) := by
  refine Exists.intro (3 + 1) ?_
  refine lq_find0 (fun n i => wY_isOccupied_2 post (nI s) yjs yrs yon ytw ysg yps yfr yln yjt yen yst ywt yhl ylk (im_o (-1) hd) yun yed yrv ymt ynx n (nI i)) 3 (fun t => ∃ h, hd t = some h ∧ h / 2 = s) ?_ ?_ ?_
  · intro n hn
    refine br_t (Int32.le_refl _) (h0 ?_)
    rintro ⟨t, h, ht, e⟩
    exact hn t ht ⟨h, e⟩
  · intro n i hi hp hw
    have vi : vp_in (nI i) 3 := vp_in_nI hi (by omega)
    refine br_f (nI_ge (b := 3) hi (by omega)) (And.intro vi ?_)
    rw [im_oR (i := i) rfl (by omega)]
    cases e : hd i with
    | none => exact br_t im_m1 (nm_r (nI_1 i) hw)
    | some h =>
      have h20 := hb i h e
      refine br_f (nI_pos (by omega)) (And.intro vi (And.intro ix_20 ?_))
      rw [im_oss, ix_h (by omega)]
      refine pk_eq (h / 2) s ?_ ?_
      · intro z; exact absurd ⟨h, e, z⟩ hp
      · intro _; exact nm_r (nI_1 i) hw
  · intro n i hi _ hp
    obtain ⟨h, e, z⟩ := hp
    have h20 := hb i h e
    have vi : vp_in (nI i) 3 := vp_in_nI hi (by omega)
    refine br_f (nI_ge (b := 3) hi (by omega)) (And.intro vi ?_)
    rw [im_oR (i := i) rfl (by omega), e]
    refine br_f (nI_pos (by omega)) (And.intro vi (And.intro ix_20 ?_))
    rw [im_oss, ix_h (by omega), z]
    exact br_t rfl (h1 ⟨i, h, hi, e, z⟩)
theorem dp_put {L : List (Nat × List (Nat × Nat))} {st : Nat → Bool} {wt ps : Nat → Nat} {hl : Nat → Bool} {lk hd ro : Nat → Option Nat} {pg en : Nat → Nat} {to : Nat → Option Nat} {sr oc : Int32} {t a : Nat} (I : dn_I L st wt ps hl lk hd ro pg en to sr oc) (ht : t < 3) (ha : a < 20) (h1 : hd t = none) (h2 : ¬ oc_P hd (a / 2)) (h3 : lk (a / 2) = none) :
    dn_I L st wt ps hl lk (im_u hd t (some a)) ro pg en to sr (oc ||| ((1 : Int32) <<< (nI (a / 2) &&& 31))) ∧ ro t = none := by
  obtain ⟨Aa, ⟨t1, t2, t3⟩, ⟨r1, r2, r3⟩, O, H, ⟨k1, k2⟩, F, p⟩ := I
  have rt : ro t = none := by
    cases e : ro t with
    | none => rfl
    | some r => have := (r1 t r ht e).2.2.2.2.1; rw [h1] at this; cases this
  refine ⟨⟨Aa, ⟨?_, ?_, ?_⟩, ⟨?_, r2, r3⟩, O, H, ⟨k1, k2⟩, ?_, p⟩, rt⟩
  · intro x h e
    rw [im_ue] at e
    split at e
    · cases e; exact ha
    · exact t1 x h e
  · intro x
    rw [ib_set _ (by omega), Bool.or_eq_true, decide_eq_true_iff, t2]
    constructor
    · rintro (⟨y, h, y3, e1, e2⟩ | e)
      · refine ⟨y, h, y3, ?_, e2⟩
        rw [im_un]
        · exact e1
        · intro z; rw [z, h1] at e1; cases e1
      · exact ⟨t, a, ht, im_us, e.symm⟩
    · rintro ⟨y, h, y3, e1, e2⟩
      by_cases z : y = t
      · subst z; rw [im_us] at e1; cases e1; exact Or.inr e2.symm
      · rw [im_un z] at e1; exact Or.inl ⟨y, h, y3, e1, e2⟩
  · intro x y h h' hx hy e1 e2 e3
    by_cases z1 : x = t
    · by_cases z2 : y = t
      · rw [z1, z2]
      · subst z1
        rw [im_us] at e1; cases e1
        rw [im_un z2] at e2
        exact absurd ⟨y, h', hy, e2, e3.symm⟩ h2
    · rw [im_un z1] at e1
      by_cases z2 : y = t
      · subst z2
        rw [im_us] at e2; cases e2
        exact absurd ⟨x, h, hx, e1, e3⟩ h2
      · rw [im_un z2] at e2
        exact t3 x y h h' hx hy e1 e2 e3
  · intro x r hx e
    have hne : x ≠ t := by intro z; rw [z, rt] at e; cases e
    rw [im_un hne]
    exact r1 x r hx e
  · intro x h r k hx e1 hk e2 e3
    by_cases z : x = t
    · subst z
      rw [im_us] at e1; cases e1
      have := (k1 (a / 2) (by omega) r).mpr ⟨k, hk, e2, e3.symm⟩
      rw [h3] at this; cases this
    · rw [im_un z] at e1
      exact F x h r k hx e1 hk e2 e3
theorem dp_turn1 {L : List (Nat × List (Nat × Nat))} {st : Nat → Bool} {wt ps : Nat → Nat} {hl : Nat → Bool} {lk hd ro : Nat → Option Nat} {pg en : Nat → Nat} {to : Nat → Option Nat} {sr oc : Int32} {t a : Nat} (I : dn_I L st wt ps hl lk hd ro pg en to sr oc) (ht : t < 3) (h1 : hd t = some a) (h2 : ro t = none) :
    dn_I L st wt ps hl lk (im_u hd t (some (ix_op a))) ro pg en to sr oc := by
  obtain ⟨Aa, ⟨t1, t2, t3⟩, ⟨r1, r2, r3⟩, O, H, K, F, p⟩ := I
  have key : ∀ x h, im_u hd t (some (ix_op a)) x = some h → ∃ h', hd x = some h' ∧ h' / 2 = h / 2 := by
    intro x h e
    by_cases z : x = t
    · subst z; rw [im_us] at e; cases e; exact ⟨a, h1, ix_oph.symm⟩
    · rw [im_un z] at e; exact ⟨h, e, rfl⟩
  refine ⟨Aa, ⟨?_, ?_, ?_⟩, ⟨?_, r2, r3⟩, O, H, K, ?_, p⟩
  · intro x h e
    rw [im_ue] at e
    split at e
    · cases e; exact ix_op20 (t1 t a h1)
    · exact t1 x h e
  · intro x
    rw [t2]
    constructor
    · rintro ⟨y, h, y3, e1, e2⟩
      by_cases z : y = t
      · subst z; rw [h1] at e1; cases e1
        exact ⟨y, ix_op a, y3, im_us, by rw [ix_oph]; exact e2⟩
      · exact ⟨y, h, y3, by rw [im_un z]; exact e1, e2⟩
    · rintro ⟨y, h, y3, e1, e2⟩
      obtain ⟨h', e3, e4⟩ := key y h e1
      exact ⟨y, h', y3, e3, e4.trans e2⟩
  · intro x y h h' hx hy e1 e2 e3
    obtain ⟨g1, f1, f2⟩ := key x h e1
    obtain ⟨g2, f3, f4⟩ := key y h' e2
    exact t3 x y g1 g2 hx hy f1 f3 (by rw [f2, f4, e3])
  · intro x r hx e
    have hne : x ≠ t := by intro z; rw [z, h2] at e; cases e
    rw [im_un hne]
    exact r1 x r hx e
  · intro x h r k hx e1 hk e2 e3
    obtain ⟨g1, f1, f2⟩ := key x h e1
    exact F x g1 r k hx f1 hk e2 (by rw [f2, e3])
theorem dp_turn0 {L : List (Nat × List (Nat × Nat))} {st : Nat → Bool} {wt ps : Nat → Nat} {hl : Nat → Bool} {lk hd ro : Nat → Option Nat} {pg en : Nat → Nat} {to : Nat → Option Nat} {sr oc : Int32} {t a : Nat} (I : dn_I L st wt ps hl lk hd ro pg en to sr oc) (ht : t < 3) (h1 : hd t = some a) (h2 : ro t = none) :
    dn_I L st wt ps hl lk (im_u hd t none) ro pg en to sr (oc &&& (((1 : Int32) <<< (nI (a / 2) &&& 31)) ^^^ (-1))) := by
  obtain ⟨Aa, ⟨t1, t2, t3⟩, ⟨r1, r2, r3⟩, O, H, K, F, p⟩ := I
  have ha := t1 t a h1
  have key : ∀ x h, im_u hd t none x = some h → x ≠ t ∧ hd x = some h := by
    intro x h e
    by_cases z : x = t
    · subst z; rw [im_us] at e; cases e
    · rw [im_un z] at e; exact ⟨z, e⟩
  refine ⟨Aa, ⟨?_, ?_, ?_⟩, ⟨?_, r2, r3⟩, O, H, K, ?_, p⟩
  · intro x h e; exact t1 x h (key x h e).2
  · intro x
    rw [ib_clr _ (by omega), Bool.and_eq_true, t2]
    constructor
    · rintro ⟨⟨y, h, y3, e1, e2⟩, e⟩
      have hne : y ≠ t := by
        intro z; subst z; rw [h1] at e1; cases e1
        rw [decide_eq_true e2.symm] at e; cases e
      exact ⟨y, h, y3, by rw [im_un hne]; exact e1, e2⟩
    · rintro ⟨y, h, y3, e1, e2⟩
      obtain ⟨e3, e4⟩ := key y h e1
      refine ⟨⟨y, h, y3, e4, e2⟩, ?_⟩
      rw [decide_eq_false]
      · rfl
      · intro z; exact e3 (t3 y t h a y3 ht e4 h1 (e2.trans z))
  · intro x y h h' hx hy e1 e2 e3
    exact t3 x y h h' hx hy (key x h e1).2 (key y h' e2).2 e3
  · intro x r hx e
    have hne : x ≠ t := by intro z; rw [z, h2] at e; cases e
    rw [im_un hne]
    exact r1 x r hx e
  · intro x h r k hx e1 hk e2 e3
    exact F x h r k hx (key x h e1).2 hk e2 e3
def pt_K (hd lk : Nat → Option Nat) (t a : Nat) : Prop := hd t = none ∧ ¬ oc_P hd (a / 2) ∧ lk (a / 2) = none
theorem pt_x {post : Int32 → SX → Prop} {hd ro lk : Nat → Option Nat} {t a : Nat} (ht : t < 3) (ha : a < 20) (hb : ∀ t h, hd t = some h → h < 20) (hl : ∀ s r, lk s = some r → r < 16) (ho : ∀ x, bt xoc x = true ↔ oc_P hd x)
    (h0 : ¬ pt_K hd lk t a → post 0 (xjc, xfd, xrc, xsr, xoc, xwg, xjA, xjB, xcA, xjt, xhs, xps, xso, xlo, xrj, xre, xrs, xnd, xnp, xcf, xwe, xwc, xwt, xto, im_o (-1) lk, xnc, im_o (-1) hd, im_o (-1) ro, xpg, xrt, xsz, xrg)) (h1 : pt_K hd lk t a → post 1 (xjc, xfd, xrc, xsr, xoc ||| ((1 : Int32) <<< (nI (a / 2) &&& 31)), xwg, xjA, xjB, xcA, xjt, xhs, xps, xso, xlo, xrj, xre, xrs, xnd, xnp, xcf, xwe, xwc, xwt, xto, im_o (-1) lk, xnc, im_o (-1) (im_u hd t (some a)), im_o (-1) (im_u ro t none), xpg, xrt, xsz, xrg)) :
    wpX_put post (xjc, xfd, xrc, xsr, xoc, xwg, xjA, xjB, xcA, xjt, xhs, xps, xso, xlo, xrj, xre, xrs, xnd, xnp, xcf, xwe, xwc, xwt, xto, im_o (-1) lk, xnc, im_o (-1) hd, im_o (-1) ro, xpg, xrt, xsz, xrg) (nI t) (nI a) := by
  have vt : vp_in (nI t) 3 := vp_in_nI ht (by omega)
  have eh : nI a / 2 = nI (a / 2) := ix_h (by omega)
  have va : vp_in (nI (a / 2)) 10 := vp_in_nI (by omega) (by omega)
  unfold wpX_put
  refine xs_trM ht (br_f (by decide) (And.intro vt ?_))
  rw [im_oR (i := t) rfl (by omega)]
  refine im_og im_m1 (fun r e => by have := hb t r e; omega) ?_ ?_
  · intro ehd
    refine xs_endM ha (br_f (by decide) (And.intro ix_20 ?_))
    rw [eh]
    refine xs_occ (by omega) ?_ ?_
    · intro z
      have hno : ¬ oc_P hd (a / 2) := by rw [← ho, z]; decide
      refine br_t rfl (And.intro ix_20 (And.intro va ?_))
      rw [im_oR (i := a / 2) rfl (by omega)]
      refine im_ol im_m1 (fun r e => by have := hl _ r e; omega) ?_ ?_
      · intro el
        refine And.intro vt ?_
        refine nm_r (im_oS (v := some a) rfl (by omega) (im_by (by omega))) (And.intro vt ?_)
        refine nm_r (im_oS (v := none) rfl (by omega) im_bym) (And.intro ix_20 ?_)
        exact nm_e (h1 ⟨ehd, hno, el⟩)
      · intro r el
        exact h0 (fun k => by rw [k.2.2] at el; cases el)
    · intro z
      exact br_f (by decide) (h0 (fun k => k.2.1 ((ho _).mp z)))
  · intro r ehd
    exact h0 (fun k => by rw [k.1] at ehd; cases ehd)
theorem pt_xb {post : Int32 → SX → Prop} {t : Nat} {x : Int32} (ht : t < 3) (hx : x < 0 ∨ nI 20 ≤ x) (h0 : post 0 (xjc, xfd, xrc, xsr, xoc, xwg, xjA, xjB, xcA, xjt, xhs, xps, xso, xlo, xrj, xre, xrs, xnd, xnp, xcf, xwe, xwc, xwt, xto, xlk, xnc, xhd, xro, xpg, xrt, xsz, xrg)) : wpX_put post (xjc, xfd, xrc, xsr, xoc, xwg, xjA, xjB, xcA, xjt, xhs, xps, xso, xlo, xrj, xre, xrs, xnd, xnp, xcf, xwe, xwc, xwt, xto, xlk, xnc, xhd, xro, xpg, xrt, xsz, xrg) (nI t) x := by
  unfold wpX_put
  refine xs_trM ht (br_f (by decide) (And.intro (vp_in_nI ht (by omega)) ?_))
  refine br_c (fun _ => h0) (fun _ => ?_)
  rcases hx with hx | hx
  · exact xs_endL hx (br_t rfl h0)
  · exact xs_endG hx (br_t rfl h0)
theorem pt_y {post : Int32 → SY → Prop} {hd ro lk : Nat → Option Nat} {t a : Nat} (ht : t < 3) (ha : a < 20) (hb : ∀ t h, hd t = some h → h < 20) (hl : ∀ s r, lk s = some r → r < 16)
    (h0 : ¬ pt_K hd lk t a → post 0 (yjs, yrs, yon, ytw, ysg, yps, yfr, yln, yjt, yen, yst, ywt, yhl, im_o (-2) lk, im_o (-1) hd, im_o (-1) ro, yed, yrv, ymt, ynx)) (h1 : pt_K hd lk t a → post 1 (yjs, yrs, yon, ytw, ysg, yps, yfr, yln, yjt, yen, yst, ywt, yhl, im_o (-2) lk, im_o (-1) (im_u hd t (some a)), im_o (-1) (im_u ro t none), yed, yrv, ymt, ynx)) :
    wpY_put post (yjs, yrs, yon, ytw, ysg, yps, yfr, yln, yjt, yen, yst, ywt, yhl, im_o (-2) lk, im_o (-1) hd, im_o (-1) ro, yed, yrv, ymt, ynx) (nI t) (nI a) := by
  have vt : vp_in (nI t) 3 := vp_in_nI ht (by omega)
  have eh : nI a / 2 = nI (a / 2) := ix_h (by omega)
  have va : vp_in (nI (a / 2)) 10 := vp_in_nI (by omega) (by omega)
  unfold wpY_put
  refine ys_inM (N := 2) (by omega) (by omega) (br_f (by decide) (And.intro vt ?_))
  rw [im_oR (i := t) rfl (by omega)]
  refine im_og im_m1 (fun r e => by have := hb t r e; omega) ?_ ?_
  · intro ehd
    refine ys_inM (N := 19) (by omega) (by omega) (br_f (by decide) (And.intro ix_20 ?_))
    rw [eh]
    refine ys_occ (by omega) hb ?_ ?_
    · intro hno
      refine br_t rfl (And.intro ix_20 (And.intro va ?_))
      rw [im_oR (i := a / 2) rfl (by omega)]
      refine im_ol im_m2 (fun r e => by have := hl _ r e; omega) ?_ ?_
      · intro el
        refine And.intro vt ?_
        refine nm_r (im_oS (v := some a) rfl (by omega) rfl) (And.intro vt ?_)
        exact nm_r (im_oS (v := none) rfl (by omega) rfl) (h1 ⟨ehd, hno, el⟩)
      · intro r el
        exact h0 (fun k => by rw [k.2.2] at el; cases el)
    · intro z
      exact br_f (by decide) (h0 (fun k => k.2.1 z))
  · intro r ehd
    exact h0 (fun k => by rw [k.1] at ehd; cases ehd)
theorem pt_yb {post : Int32 → SY → Prop} {t : Nat} {x : Int32} (ht : t < 3) (hx : x < 0 ∨ nI 20 ≤ x) (h0 : post 0 (yjs, yrs, yon, ytw, ysg, yps, yfr, yln, yjt, yen, yst, ywt, yhl, ylk, yhd, yun, yed, yrv, ymt, ynx)) : wpY_put post (yjs, yrs, yon, ytw, ysg, yps, yfr, yln, yjt, yen, yst, ywt, yhl, ylk, yhd, yun, yed, yrv, ymt, ynx) (nI t) x := by
  unfold wpY_put
  refine ys_inM (N := 2) (by omega) (by omega) (br_f (by decide) (And.intro (vp_in_nI ht (by omega)) ?_))
  refine br_c (fun _ => h0) (fun _ => ?_)
  rcases hx with hx | hx
  · exact ys_inL hx (br_t rfl h0)
  · exact ys_inG (N := 19) (by omega) hx (br_t rfl h0)
theorem i_vc_put {k : Nat} {u : SX} {v : SY} (I : i_Rel k u v) (hk : k + 3 ≤ 1536) (v1 : Int32) (v2 : Int32) : wpX_put (fun r u' => wpY_put (fun r' v' => r' = r ∧ i_Rel (k + 3) u' v') v v1 v2) u v1 v2 := by
  refine zz_el (P := fun u v => wpX_put (fun r u' => wpY_put (fun r' v' => r' = r ∧ i_Rel (k + 3) u' v') v v1 v2) u v1 v2) ?_ I
  intro nj A B sg fd g xrc xwg xjt xso xlo xrj xre xrs xnd xnp xcf xwe xwc xrt xsz xrg yrs yfr yln yjt yen yrv ymt ynx h1 h2 h3 h4
  have K0 := zz_in (k := k + 3) (xwg := xwg) (xwe := xwe) (xwc := xwc) (xrt := xrt) (xsz := xsz) (xrg := xrg) (yrv := yrv) (ymt := ymt) (ynx := ynx) h1 h2 h3 h4
  have hb := h4.2.1.1
  have hlb := h4.2.2.2.2.2.1.2
  rcases pk_ix v1 (n := 3) (by omega) with hv | hv | ⟨t, ht, rfl⟩
  · unfold wpX_put wpY_put
    exact xs_trL hv (br_t rfl (ys_inL hv (br_t rfl ⟨rfl, K0⟩)))
  · unfold wpX_put wpY_put
    exact xs_trG hv (br_t rfl (ys_inG (N := 2) (by omega) hv (br_t rfl ⟨rfl, K0⟩)))
  rcases pk_ix v2 (n := 20) (by omega) with hv | hv | ⟨a, ha, rfl⟩
  · exact pt_xb ht (Or.inl hv) (pt_yb ht (Or.inl hv) ⟨rfl, K0⟩)
  · exact pt_xb ht (Or.inr hv) (pt_yb ht (Or.inr hv) ⟨rfl, K0⟩)
  refine pt_x ht ha hb hlb h4.2.1.2.1 ?_ ?_
  · intro z
    exact pt_y ht ha hb hlb (fun _ => ⟨rfl, K0⟩) (fun y => absurd y z)
  · intro z
    refine pt_y ht ha hb hlb (fun y => absurd z y) (fun _ => ⟨rfl, ?_⟩)
    obtain ⟨I2, rt⟩ := dp_put h4 ht ha z.1 z.2.1 z.2.2
    rw [im_uid rt]
    exact zz_in (g := (dg_st g, dg_wt g, dg_ps g, dg_hl g, dg_lk g, im_u (dg_hd g) t (some a), dg_ro g, dg_pg g, dg_en g, dg_to g, dg_sr g, dg_oc g ||| ((1 : Int32) <<< (nI (a / 2) &&& 31)))) h1 h2 h3 I2
end TRAINS
end
section
/-! turn; position, lock, train; whether a route is there; routes, via -/
section PLAIN
variable {xjc xfd xrc xsr xoc xwg : Int32} {xjA xjB xcA xjt xhs xps xso xlo xrj xre xrs xnd xnp xcf xwe xwc xwt xto xlk xnc xhd xro xpg xrt xsz xrg : Nat → Int32}
variable {yjs yrs : Int32} {yon ytw ysg yps yfr yln yjt yen yst ywt yhl ylk yhd yun yed yrv ymt ynx : Nat → Int32}
variable {A B : Nat → Nat} {nj : Nat} {sg : Nat → Bool}
theorem tu_x {post : Int32 → SX → Prop} {hd ro : Nat → Option Nat} {t w : Nat} (ht : t < 3) (hw : w < 2) (hb : ∀ t h, hd t = some h → h < 20) (hr : ∀ t r, ro t = some r → r < 16)
    (h0 : ¬ ((∃ h, hd t = some h) ∧ ro t = none) → post 0 (xjc, xfd, xrc, xsr, xoc, xwg, xjA, xjB, xcA, xjt, xhs, xps, xso, xlo, xrj, xre, xrs, xnd, xnp, xcf, xwe, xwc, xwt, xto, xlk, xnc, im_o (-1) hd, im_o (-1) ro, xpg, xrt, xsz, xrg)) (h1 : ∀ h, hd t = some h → ro t = none → w = 1 → post 1 (xjc, xfd, xrc, xsr, xoc, xwg, xjA, xjB, xcA, xjt, xhs, xps, xso, xlo, xrj, xre, xrs, xnd, xnp, xcf, xwe, xwc, xwt, xto, xlk, xnc, im_o (-1) (im_u hd t (some (ix_op h))), im_o (-1) ro, xpg, xrt, xsz, xrg)) (h2 : ∀ h, hd t = some h → ro t = none → w = 0 → post 1 (xjc, xfd, xrc, xsr, xoc &&& (((1 : Int32) <<< (nI (h / 2) &&& 31)) ^^^ (-1)), xwg, xjA, xjB, xcA, xjt, xhs, xps, xso, xlo, xrj, xre, xrs, xnd, xnp, xcf, xwe, xwc, xwt, xto, xlk, xnc, im_o (-1) (im_u hd t none), im_o (-1) ro, xpg, xrt, xsz, xrg)) :
    wpX_turn post (xjc, xfd, xrc, xsr, xoc, xwg, xjA, xjB, xcA, xjt, xhs, xps, xso, xlo, xrj, xre, xrs, xnd, xnp, xcf, xwe, xwc, xwt, xto, xlk, xnc, im_o (-1) hd, im_o (-1) ro, xpg, xrt, xsz, xrg) (nI t) (nI w) := by
  have vt : vp_in (nI t) 3 := vp_in_nI ht (by omega)
  unfold wpX_turn
  refine xs_trM ht (br_f (by decide) (And.intro vt ?_))
  rw [im_oR (f := hd) (i := t) rfl (by omega), im_oR (f := ro) (i := t) rfl (by omega)]
  refine im_ol im_m1 (fun r e => by have := hb t r e; omega) ?_ ?_
  · intro e
    refine h0 ?_
    rintro ⟨⟨h, e2⟩, _⟩; rw [e] at e2; cases e2
  · intro h e
    have h20 := hb t h e
    refine And.intro vt ?_
    refine im_og im_m1 (fun r e => by have := hr t r e; omega) ?_ ?_
    · intro er
      refine br_f (nI_pos (by omega)) (br_t (nI_le (b := 1) (by omega) (by omega)) ?_)
      rw [e, im_oss]
      refine pk_eq w 1 ?_ ?_
      · intro z
        refine And.intro vt (And.intro vt ?_)
        refine nm_r (im_oS (v := some (ix_op h)) rfl (by omega) ?_) (h1 h e er z)
        rw [ix_opx h h20]
        have := ix_op20 h20
        exact im_by (by omega)
      · intro z
        refine And.intro vt (And.intro ix_20 ?_)
        rw [ix_h (by omega)]
        refine nm_e (And.intro vt ?_)
        exact nm_r (im_oS (v := none) rfl (by omega) im_bym) (h2 h e er (by omega))
    · intro r er
      refine h0 ?_
      rintro ⟨_, e2⟩; rw [er] at e2; cases e2
theorem tu_y {post : Int32 → SY → Prop} {hd ro : Nat → Option Nat} {t w : Nat} (ht : t < 3) (hw : w < 2) (hb : ∀ t h, hd t = some h → h < 20) (hr : ∀ t r, ro t = some r → r < 16)
    (h0 : ¬ ((∃ h, hd t = some h) ∧ ro t = none) → post 0 (yjs, yrs, yon, ytw, ysg, yps, yfr, yln, yjt, yen, yst, ywt, yhl, ylk, im_o (-1) hd, im_o (-1) ro, yed, yrv, ymt, ynx)) (h1 : ∀ h, hd t = some h → ro t = none → w = 1 → post 1 (yjs, yrs, yon, ytw, ysg, yps, yfr, yln, yjt, yen, yst, ywt, yhl, ylk, im_o (-1) (im_u hd t (some (ix_op h))), im_o (-1) ro, yed, yrv, ymt, ynx)) (h2 : ∀ h, hd t = some h → ro t = none → w = 0 → post 1 (yjs, yrs, yon, ytw, ysg, yps, yfr, yln, yjt, yen, yst, ywt, yhl, ylk, im_o (-1) (im_u hd t none), im_o (-1) ro, yed, yrv, ymt, ynx)) :
    wpY_turn post (yjs, yrs, yon, ytw, ysg, yps, yfr, yln, yjt, yen, yst, ywt, yhl, ylk, im_o (-1) hd, im_o (-1) ro, yed, yrv, ymt, ynx) (nI t) (nI w) := by
  have vt : vp_in (nI t) 3 := vp_in_nI ht (by omega)
  unfold wpY_turn
  refine ys_inM (N := 2) (by omega) (by omega) (br_f (by decide) (And.intro vt ?_))
  rw [im_oR (f := hd) (i := t) rfl (by omega), im_oR (f := ro) (i := t) rfl (by omega)]
  refine im_ol im_m1 (fun r e => by have := hb t r e; omega) ?_ ?_
  · intro e
    refine h0 ?_
    rintro ⟨⟨h, e2⟩, _⟩; rw [e] at e2; cases e2
  · intro h e
    have h20 := hb t h e
    refine And.intro vt ?_
    refine im_og im_m1 (fun r e => by have := hr t r e; omega) ?_ ?_
    · intro er
      refine ys_inM (N := 1) (by omega) (by omega) (br_f (by decide) ?_)
      rw [e, im_oss]
      refine pk_eq w 0 ?_ ?_
      · intro z
        refine And.intro vt ?_
        exact nm_r (im_oS (v := none) rfl (by omega) rfl) (h2 h e er z)
      · intro z
        refine And.intro vt (ys_opp h20 (And.intro vt ?_))
        exact nm_r (im_oS (v := some (ix_op h)) rfl (by omega) rfl) (h1 h e er (by omega))
    · intro r er
      refine h0 ?_
      rintro ⟨_, e2⟩; rw [er] at e2; cases e2
theorem tu_xb {post : Int32 → SX → Prop} {t : Nat} {x : Int32} (ht : t < 3) (hx : x < 0 ∨ nI 2 ≤ x) (h0 : post 0 (xjc, xfd, xrc, xsr, xoc, xwg, xjA, xjB, xcA, xjt, xhs, xps, xso, xlo, xrj, xre, xrs, xnd, xnp, xcf, xwe, xwc, xwt, xto, xlk, xnc, xhd, xro, xpg, xrt, xsz, xrg)) : wpX_turn post (xjc, xfd, xrc, xsr, xoc, xwg, xjA, xjB, xcA, xjt, xhs, xps, xso, xlo, xrj, xre, xrs, xnd, xnp, xcf, xwe, xwc, xwt, xto, xlk, xnc, xhd, xro, xpg, xrt, xsz, xrg) (nI t) x := by
  unfold wpX_turn
  have vt : vp_in (nI t) 3 := vp_in_nI ht (by omega)
  refine xs_trM ht (br_f (by decide) (And.intro vt ?_))
  refine br_c (fun _ => h0) (fun _ => And.intro vt ?_)
  refine br_c (fun _ => h0) (fun _ => ?_)
  refine br_c (fun _ => h0) (fun hn => ?_)
  rcases hx with hx | hx
  · exact absurd hx hn
  · refine br_f ?_ h0
    intro z
    exact absurd (Int32.le_trans hx z) (by decide)
theorem tu_yb {post : Int32 → SY → Prop} {t : Nat} {x : Int32} (ht : t < 3) (hx : x < 0 ∨ nI 2 ≤ x) (h0 : post 0 (yjs, yrs, yon, ytw, ysg, yps, yfr, yln, yjt, yen, yst, ywt, yhl, ylk, yhd, yun, yed, yrv, ymt, ynx)) : wpY_turn post (yjs, yrs, yon, ytw, ysg, yps, yfr, yln, yjt, yen, yst, ywt, yhl, ylk, yhd, yun, yed, yrv, ymt, ynx) (nI t) x := by
  unfold wpY_turn
  have vt : vp_in (nI t) 3 := vp_in_nI ht (by omega)
  refine ys_inM (N := 2) (by omega) (by omega) (br_f (by decide) (And.intro vt ?_))
  refine br_c (fun _ => h0) (fun _ => And.intro vt ?_)
  refine br_c (fun _ => h0) (fun _ => ?_)
  rcases hx with hx | hx
  · exact ys_inL hx (br_t rfl h0)
  · exact ys_inG (N := 1) (by omega) hx (br_t rfl h0)
theorem i_vc_turn {k : Nat} {u : SX} {v : SY} (I : i_Rel k u v) (hk : k + 3 ≤ 1536) (v1 : Int32) (v2 : Int32) : wpX_turn (fun r u' => wpY_turn (fun r' v' => r' = r ∧ i_Rel (k + 3) u' v') v v1 v2) u v1 v2 := by
  refine zz_el (P := fun u v => wpX_turn (fun r u' => wpY_turn (fun r' v' => r' = r ∧ i_Rel (k + 3) u' v') v v1 v2) u v1 v2) ?_ I
  intro nj A B sg fd g xrc xwg xjt xso xlo xrj xre xrs xnd xnp xcf xwe xwc xrt xsz xrg yrs yfr yln yjt yen yrv ymt ynx h1 h2 h3 h4
  have K0 := zz_in (k := k + 3) (xwg := xwg) (xwe := xwe) (xwc := xwc) (xrt := xrt) (xsz := xsz) (xrg := xrg) (yrv := yrv) (ymt := ymt) (ynx := ynx) h1 h2 h3 h4
  have hb := h4.2.1.1
  have hrb := h4.2.2.1.2.2
  rcases pk_ix v1 (n := 3) (by omega) with hv | hv | ⟨t, ht, rfl⟩
  · unfold wpX_turn wpY_turn
    exact xs_trL hv (br_t rfl (ys_inL hv (br_t rfl ⟨rfl, K0⟩)))
  · unfold wpX_turn wpY_turn
    exact xs_trG hv (br_t rfl (ys_inG (N := 2) (by omega) hv (br_t rfl ⟨rfl, K0⟩)))
  rcases pk_ix v2 (n := 2) (by omega) with hv | hv | ⟨w, hw, rfl⟩
  · exact tu_xb ht (Or.inl hv) (tu_yb ht (Or.inl hv) ⟨rfl, K0⟩)
  · exact tu_xb ht (Or.inr hv) (tu_yb ht (Or.inr hv) ⟨rfl, K0⟩)
  refine tu_x ht hw hb hrb ?_ ?_ ?_
  · intro z
    exact tu_y ht hw hb hrb (fun _ => ⟨rfl, K0⟩) (fun h e1 e2 => absurd ⟨⟨h, e1⟩, e2⟩ z) (fun h e1 e2 => absurd ⟨⟨h, e1⟩, e2⟩ z)
  · intro h e1 e2 e3
    refine tu_y ht hw hb hrb (fun z => absurd ⟨⟨h, e1⟩, e2⟩ z) ?_ (fun h _ _ z => by omega)
    intro h' e1' _ _
    rw [e1] at e1'; cases e1'
    exact ⟨rfl, zz_in (g := (dg_st g, dg_wt g, dg_ps g, dg_hl g, dg_lk g, im_u (dg_hd g) t (some (ix_op h)), dg_ro g, dg_pg g, dg_en g, dg_to g, dg_sr g, dg_oc g)) h1 h2 h3 (dp_turn1 h4 ht e1 e2)⟩
  · intro h e1 e2 e3
    refine tu_y ht hw hb hrb (fun z => absurd ⟨⟨h, e1⟩, e2⟩ z) (fun h _ _ z => by omega) ?_
    intro h' e1' _ _
    exact ⟨rfl, zz_in (g := (dg_st g, dg_wt g, dg_ps g, dg_hl g, dg_lk g, im_u (dg_hd g) t none, dg_ro g, dg_pg g, dg_en g, dg_to g, dg_sr g, dg_oc g &&& (((1 : Int32) <<< (nI (h / 2) &&& 31)) ^^^ (-1)))) h1 h2 h3 (dp_turn0 h4 ht e1 e2)⟩
theorem i_vc_position {k : Nat} {u : SX} {v : SY} (I : i_Rel k u v) (hk : k + 3 ≤ 1536) (v1 : Int32) : wpX_position (fun r => wpY_position (fun r' => r' = r ∧ i_Rel (k + 3) u v) v v1) u v1 := by
  refine zz_el (P := fun u v => wpX_position (fun r => wpY_position (fun r' => r' = r ∧ i_Rel (k + 3) u v) v v1) u v1) ?_ I
  intro nj A B sg fd g xrc xwg xjt xso xlo xrj xre xrs xnd xnp xcf xwe xwc xrt xsz xrg yrs yfr yln yjt yen yrv ymt ynx h1 h2 h3 h4
  have K0 := zz_in (k := k + 3) (xwg := xwg) (xwe := xwe) (xwc := xwc) (xrt := xrt) (xsz := xsz) (xrg := xrg) (yrv := yrv) (ymt := ymt) (ynx := ynx) h1 h2 h3 h4
  unfold wpX_position wpY_position
  rcases pk_ix v1 (n := 20) (by omega) with hv | hv | ⟨a, ha, rfl⟩
  · exact xs_endL hv (br_t rfl (ys_inL hv (br_t rfl ⟨rfl, K0⟩)))
  · exact xs_endG hv (br_t rfl (ys_inG (N := 19) (by omega) hv (br_t rfl ⟨rfl, K0⟩)))
  have va : vp_in (nI a) 20 := vp_in_nI ha (by omega)
  have c2 := h1.2.2.2.2.1 a
  refine xs_endM ha (br_f (by decide) (And.intro va ?_))
  rw [im_nR (f := sk_c A B nj) (i := a) rfl (by omega)]
  refine pk_le 2 (sk_c A B nj a) ?_ ?_
  · intro z
    refine And.intro va ?_
    refine ys_inM (N := 19) (by omega) (by omega) (br_f (by decide) ?_)
    refine ys_jointsAt ha h1.1 h1.2.1 h1.2.2.1 ?_
    exact pk_eq (sk_c A B nj a) 2 (fun _ => And.intro va ⟨rfl, K0⟩) (fun e => by omega)
  · intro z
    refine ys_inM (N := 19) (by omega) (by omega) (br_f (by decide) ?_)
    refine ys_jointsAt ha h1.1 h1.2.1 h1.2.2.1 ?_
    exact pk_eq (sk_c A B nj a) 2 (fun e => by omega) (fun _ => ⟨rfl, K0⟩)
theorem i_vc_lock {k : Nat} {u : SX} {v : SY} (I : i_Rel k u v) (hk : k + 3 ≤ 1536) (v1 : Int32) : wpX_lock (fun r => wpY_lock (fun r' => r' = r ∧ i_Rel (k + 3) u v) v v1) u v1 := by
  refine zz_el (P := fun u v => wpX_lock (fun r => wpY_lock (fun r' => r' = r ∧ i_Rel (k + 3) u v) v v1) u v1) ?_ I
  intro nj A B sg fd g xrc xwg xjt xso xlo xrj xre xrs xnd xnp xcf xwe xwc xrt xsz xrg yrs yfr yln yjt yen yrv ymt ynx h1 h2 h3 h4
  have K0 := zz_in (k := k + 3) (xwg := xwg) (xwe := xwe) (xwc := xwc) (xrt := xrt) (xsz := xsz) (xrg := xrg) (yrv := yrv) (ymt := ymt) (ynx := ynx) h1 h2 h3 h4
  rcases pk_ix v1 (n := 10) (by omega) with hv | hv | ⟨s, hs, rfl⟩
  · refine br_t hv ?_
    unfold wpY_lock
    exact ys_inL hv (br_t rfl ⟨rfl, K0⟩)
  · refine br_c (fun hn => absurd hv ?_) (fun _ => ?_)
    · intro z; exact absurd (Int32.lt_of_le_of_lt z hn) (by decide)
    · refine br_f (Int32.not_lt.mpr hv) ?_
      unfold wpY_lock
      exact ys_inG (N := 9) (by omega) hv (br_t rfl ⟨rfl, K0⟩)
  have vs : vp_in (nI s) 10 := vp_in_nI hs (by omega)
  refine br_f (nI_pos (by omega)) (br_t (nI_lt (b := 10) hs (by omega)) (And.intro vs ?_))
  rw [im_oR (f := dg_lk g) (i := s) rfl (by omega)]
  have Y0 : ∀ r : Int32, im_oi (-2) (dg_lk g s) = r → wpY_lock (fun r' => r' = r ∧ i_Rel (k + 3) (nI nj, im_bi fd, xrc, dg_sr g, dg_oc g, xwg, im_n A, im_n B, im_n (sk_c A B nj), xjt, im_b sg, im_n (dg_ps g), xso, xlo, xrj, xre, xrs, xnd, xnp, xcf, xwe, xwc, im_n (dg_wt g), im_o (-1) (dg_to g), im_o (-1) (dg_lk g), im_n (hs_N A B nj (gr_L A B nj sg) (dg_hl g)), im_o (-1) (dg_hd g), im_o (-1) (dg_ro g), im_n (dg_pg g), xrt, xsz, xrg) (nI nj, yrs, im_n A, im_n B, im_b sg, im_n (dg_ps g), yfr, yln, yjt, yen, im_b (dg_st g), im_n (dg_wt g), im_b (dg_hl g), im_o (-2) (dg_lk g), im_o (-1) (dg_hd g), im_o (-1) (dg_ro g), im_n (dg_en g), yrv, ymt, ynx)) (nI nj, yrs, im_n A, im_n B, im_b sg, im_n (dg_ps g), yfr, yln, yjt, yen, im_b (dg_st g), im_n (dg_wt g), im_b (dg_hl g), im_o (-2) (dg_lk g), im_o (-1) (dg_hd g), im_o (-1) (dg_ro g), im_n (dg_en g), yrv, ymt, ynx) (nI s) := by
    intro r e
    unfold wpY_lock
    refine ys_inM (N := 9) (by omega) (by omega) (br_f (by decide) (And.intro vs ⟨?_, K0⟩))
    rw [im_oR (f := dg_lk g) (i := s) rfl (by omega)]; exact e
  refine im_og im_m1 (fun r e => by have := h4.2.2.2.2.2.1.2 s r e; omega) ?_ ?_
  · intro e; exact Y0 _ (by rw [e]; rfl)
  · intro r e; exact And.intro vs (Y0 _ (by rw [e]; rfl))
theorem i_vc_train {k : Nat} {u : SX} {v : SY} (I : i_Rel k u v) (hk : k + 3 ≤ 1536) (v1 : Int32) : wpX_train (fun r => wpY_train (fun r' => r' = r ∧ i_Rel (k + 3) u v) v v1) u v1 := by
  refine zz_el (P := fun u v => wpX_train (fun r => wpY_train (fun r' => r' = r ∧ i_Rel (k + 3) u v) v v1) u v1) ?_ I
  intro nj A B sg fd g xrc xwg xjt xso xlo xrj xre xrs xnd xnp xcf xwe xwc xrt xsz xrg yrs yfr yln yjt yen yrv ymt ynx h1 h2 h3 h4
  have K0 := zz_in (k := k + 3) (xwg := xwg) (xwe := xwe) (xwc := xwc) (xrt := xrt) (xsz := xsz) (xrg := xrg) (yrv := yrv) (ymt := ymt) (ynx := ynx) h1 h2 h3 h4
  unfold wpX_train
  rcases pk_ix v1 (n := 3) (by omega) with hv | hv | ⟨t, ht, rfl⟩
  · unfold wpY_train
    exact xs_trL hv (br_t rfl (ys_inL hv (br_t rfl ⟨rfl, K0⟩)))
  · unfold wpY_train
    exact xs_trG hv (br_t rfl (ys_inG (N := 2) (by omega) hv (br_t rfl ⟨rfl, K0⟩)))
  have vt : vp_in (nI t) 3 := vp_in_nI ht (by omega)
  have Y0 : ∀ r : Int32, (∀ h, dg_hd g t = some h → nI h + 100 * (im_oi (-1) (dg_ro g t) + 1) = r) → (dg_hd g t = none → -2 = r) → wpY_train (fun r' => r' = r ∧ i_Rel (k + 3) (nI nj, im_bi fd, xrc, dg_sr g, dg_oc g, xwg, im_n A, im_n B, im_n (sk_c A B nj), xjt, im_b sg, im_n (dg_ps g), xso, xlo, xrj, xre, xrs, xnd, xnp, xcf, xwe, xwc, im_n (dg_wt g), im_o (-1) (dg_to g), im_o (-1) (dg_lk g), im_n (hs_N A B nj (gr_L A B nj sg) (dg_hl g)), im_o (-1) (dg_hd g), im_o (-1) (dg_ro g), im_n (dg_pg g), xrt, xsz, xrg) (nI nj, yrs, im_n A, im_n B, im_b sg, im_n (dg_ps g), yfr, yln, yjt, yen, im_b (dg_st g), im_n (dg_wt g), im_b (dg_hl g), im_o (-2) (dg_lk g), im_o (-1) (dg_hd g), im_o (-1) (dg_ro g), im_n (dg_en g), yrv, ymt, ynx)) (nI nj, yrs, im_n A, im_n B, im_b sg, im_n (dg_ps g), yfr, yln, yjt, yen, im_b (dg_st g), im_n (dg_wt g), im_b (dg_hl g), im_o (-2) (dg_lk g), im_o (-1) (dg_hd g), im_o (-1) (dg_ro g), im_n (dg_en g), yrv, ymt, ynx) (nI t) := by
    intro r e1 e2
    unfold wpY_train
    refine ys_inM (N := 2) (by omega) (by omega) (br_f (by decide) (And.intro vt ?_))
    rw [im_oR (f := dg_hd g) (i := t) rfl (by omega), im_oR (f := dg_ro g) (i := t) rfl (by omega)]
    refine im_og im_m1 (fun r e => by have := h4.2.1.1 t r e; omega) (fun e => ⟨e2 e, K0⟩) ?_
    intro h e
    refine And.intro vt (And.intro vt ⟨?_, K0⟩)
    rw [e]; exact e1 h e
  refine xs_trM ht (br_f (by decide) (And.intro vt ?_))
  rw [im_oR (f := dg_hd g) (i := t) rfl (by omega), im_oR (f := dg_ro g) (i := t) rfl (by omega)]
  refine im_og im_m1 (fun r e => by have := h4.2.1.1 t r e; omega) ?_ ?_
  · intro e
    exact Y0 _ (fun h e2 => by rw [e] at e2; cases e2) (fun _ => rfl)
  · intro h e
    refine And.intro vt (And.intro vt ?_)
    refine im_og im_m1 (fun r e => by have := h4.2.2.1.2.2 t r e; omega) ?_ ?_
    · intro er
      refine Y0 _ (fun h' e2 => ?_) (fun e2 => by rw [e] at e2; cases e2)
      rw [e] at e2; cases e2
      rw [er, e]; rfl
    · intro r er
      refine And.intro vt (Y0 _ (fun h' e2 => ?_) (fun e2 => by rw [e] at e2; cases e2))
      rw [e] at e2; cases e2
      rw [e]; rfl
theorem rx_get {rc : Int32} {so lo rj re rs nd np cf : Nat → Int32} {r : Nat} (R : rx_F A B nj sg rc so lo rj re rs nd np cf) (hr : r < (gr_L A B nj sg).length) : so r = nI (rl_s (gr_L A B nj sg) r) ∧ lo r = nI (rl_n (gr_L A B nj sg) r) ∧ (∀ k, k < rl_n (gr_L A B nj sg) r → rj (5 * r + k) = nI (rl_j (gr_L A B nj sg) r k) ∧ re (5 * r + k) = nI (rl_e (gr_L A B nj sg) r k)) ∧ rp_x A B nj (rl_n (gr_L A B nj sg) r) (rl_s (gr_L A B nj sg) r) (rl_p (gr_L A B nj sg) r) r rs nd np := by
  have h := R.1.2.2 r hr
  exact ⟨h.1.2.1, h.1.2.2.1, h.1.2.2.2, h.2⟩
theorem ry_get {L : List (Nat × List (Nat × Nat))} {rs : Int32} {fr ln jt en : Nat → Int32} {r : Nat} (R : rp_Y L rs fr ln jt en) (hr : r < L.length) : fr r = nI (rl_s L r) ∧ ln r = nI (rl_n L r) ∧ (∀ k, k < rl_n L r → jt (5 * r + k) = nI (rl_j L r k) ∧ en (5 * r + k) = nI (rl_e L r k)) := by
  have h := R.2.2 r hr
  exact ⟨h.2.1, h.2.2.1, h.2.2.2⟩
/-- whether a number is a route's -/
theorem xq_is {post : Int32 → SX → Prop} {fd : Bool} {x : Int32} (S : sk_St A B nj xjt) (F : fd = true → rx_F A B nj sg xrc xso xlo xrj xre xrs xnd xnp xcf)
    (h0 : ∀ (we wc : Nat → Int32) (rc : Int32) (so lo rj re rs nd np cf : Nat → Int32), rx_F A B nj sg rc so lo rj re rs nd np cf → (x < 0 ∨ nI (gr_L A B nj sg).length ≤ x) → post 0 (xjc, im_bi true, rc, xsr, xoc, xwg, im_n A, im_n B, im_n (sk_c A B nj), xjt, im_b sg, xps, so, lo, rj, re, rs, nd, np, cf, we, wc, xwt, xto, xlk, xnc, xhd, xro, xpg, xrt, xsz, xrg))
    (h1 : ∀ (we wc : Nat → Int32) (rc : Int32) (so lo rj re rs nd np cf : Nat → Int32), rx_F A B nj sg rc so lo rj re rs nd np cf → ∀ r, r < (gr_L A B nj sg).length → x = nI r → post 1 (xjc, im_bi true, rc, xsr, xoc, xwg, im_n A, im_n B, im_n (sk_c A B nj), xjt, im_b sg, xps, so, lo, rj, re, rs, nd, np, cf, we, wc, xwt, xto, xlk, xnc, xhd, xro, xpg, xrt, xsz, xrg)) :
    wpX_isRoute post (xjc, im_bi fd, xrc, xsr, xoc, xwg, im_n A, im_n B, im_n (sk_c A B nj), xjt, im_b sg, xps, xso, xlo, xrj, xre, xrs, xnd, xnp, xcf, xwe, xwc, xwt, xto, xlk, xnc, xhd, xro, xpg, xrt, xsz, xrg) x := by
  unfold wpX_isRoute
  refine xr_find S F ?_
  intro we wc rc so lo rj re rs nd np cf R
  have hl := @rv_len A B nj sg
  have e : rc = nI (gr_L A B nj sg).length := R.1.1
  refine br_c (fun z => h0 _ _ _ _ _ _ _ _ _ _ _ R (Or.inl z)) (fun z => ?_)
  refine br_c (fun y => h0 _ _ _ _ _ _ _ _ _ _ _ R (Or.inr (e ▸ y))) (fun y => ?_)
  rcases pk_ix x (n := (gr_L A B nj sg).length) (by omega) with hv | hv | ⟨r, hr, rfl⟩
  · exact absurd hv z
  · exact absurd (e ▸ hv) y
  · exact h1 _ _ _ _ _ _ _ _ _ _ _ R r hr rfl
theorem yq_is {post : Int32 → Prop} {n : Nat} {x : Int32} (hn : n ≤ 16) (h0 : (x < 0 ∨ nI n ≤ x) → post 0) (h1 : ∀ r, r < n → x = nI r → post 1) : wpY_isRoute post (yjs, nI n, yon, ytw, ysg, yps, yfr, yln, yjt, yen, yst, ywt, yhl, ylk, yhd, yun, yed, yrv, ymt, ynx) x := by
  unfold wpY_isRoute
  rcases pk_ix x (n := n) (by omega) with hv | hv | ⟨r, hr, rfl⟩
  · exact ys_inL hv ⟨narrow_b0, h0 (Or.inl hv)⟩
  · by_cases hz : n = 0
    · subst hz
      refine br_c (fun z => ⟨narrow_b0, h0 (Or.inl z)⟩) (fun z => br_t ?_ ⟨narrow_b0, h0 (Or.inr hv)⟩)
      have : (0 : Int32) ≤ x := Int32.not_lt.mp z
      exact Int32.lt_of_lt_of_le (by decide) this
    · obtain ⟨m, rfl⟩ : ∃ m, n = m + 1 := ⟨n - 1, by omega⟩
      dsimp only
      rw [nI_pred]
      exact ys_inG (by omega) hv ⟨narrow_b0, h0 (Or.inr hv)⟩
  · obtain ⟨m, rfl⟩ : ∃ m, n = m + 1 := ⟨n - 1, by omega⟩
    dsimp only
    rw [nI_pred]
    exact ys_inM (by omega) (by omega) ⟨narrow_b1, h1 r hr rfl⟩
theorem i_vc_routes {k : Nat} {u : SX} {v : SY} (I : i_Rel k u v) (hk : k + 3 ≤ 1536) : wpX_routes (fun r u' => wpY_routes (fun r' => r' = r ∧ i_Rel (k + 3) u' v) v) u := by
  refine zz_el (P := fun u v => wpX_routes (fun r u' => wpY_routes (fun r' => r' = r ∧ i_Rel (k + 3) u' v) v) u) ?_ I
  intro nj A B sg fd g xrc xwg xjt xso xlo xrj xre xrs xnd xnp xcf xwe xwc xrt xsz xrg yrs yfr yln yjt yen yrv ymt ynx h1 h2 h3 h4
  unfold wpX_routes
  refine xr_find h1 h3 ?_
  intro we wc rc so lo rj re rs nd np cf R
  exact ⟨h2.1.trans R.1.1.symm, zz_in h1 h2 (fun _ => R) h4⟩
theorem i_vc_via {k : Nat} {u : SX} {v : SY} (I : i_Rel k u v) (hk : k + 3 ≤ 1536) (v1 : Int32) (v2 : Int32) : wpX_via (fun r u' => wpY_via (fun r' => r' = r ∧ i_Rel (k + 3) u' v) v v1 v2) u v1 v2 := by
  refine zz_el (P := fun u v => wpX_via (fun r u' => wpY_via (fun r' => r' = r ∧ i_Rel (k + 3) u' v) v v1 v2) u v1 v2) ?_ I
  intro nj A B sg fd g xrc xwg xjt xso xlo xrj xre xrs xnd xnp xcf xwe xwc xrt xsz xrg yrs yfr yln yjt yen yrv ymt ynx h1 h2 h3 h4
  have h2' := h2
  obtain ⟨y1, y2, y3⟩ := h2'
  subst y1
  unfold wpX_via
  refine xq_is h1 h3 ?_ ?_
  · intro we wc rc so lo rj re rs nd np cf R hx
    have K0 := zz_in (k := k + 3) (fd := true) (xwg := xwg) (xwe := we) (xwc := wc) (xrt := xrt) (xsz := xsz) (xrg := xrg) (yrv := yrv) (ymt := ymt) (ynx := ynx) h1 h2 (fun _ => R) h4
    refine br_t rfl ?_
    unfold wpY_via
    refine yq_is rv_len (fun _ => br_t rfl ⟨rfl, K0⟩) ?_
    intro r hr e
    subst e
    rcases hx with hx | hx
    · exact absurd hx (nI_pos (by omega))
    · exact absurd hx (nI_ge hr (by omega))
  · intro we wc rc so lo rj re rs nd np cf R r hr e
    have K0 := zz_in (k := k + 3) (fd := true) (xwg := xwg) (xwe := we) (xwc := wc) (xrt := xrt) (xsz := xsz) (xrg := xrg) (yrv := yrv) (ymt := ymt) (ynx := ynx) h1 h2 (fun _ => R) h4
    subst e
    have hr16 : r < 16 := by omega
    have vr : vp_in (nI r) 16 := vp_in_nI hr16 (by omega)
    have cr : (nI r).toNatClampNeg = r := nI_clamp (by omega)
    have hn := rv_n hr
    obtain ⟨p1, p2, p3, _⟩ := rx_get R hr
    obtain ⟨q1, q2, q3⟩ := ry_get h2 hr
    have Y0 : ∀ a : Int32, wpY_in (fun r_24 => (r_24 = 0 → -2 = a) ∧ (¬ r_24 = 0 → vp_in (5 * nI r + v2) 80 ∧ yjt (5 * nI r + v2).toNatClampNeg = a)) (nI nj, nI (gr_L A B nj sg).length, im_n A, im_n B, im_b sg, im_n (dg_ps g), yfr, yln, yjt, yen, im_b (dg_st g), im_n (dg_wt g), im_b (dg_hl g), im_o (-2) (dg_lk g), im_o (-1) (dg_hd g), im_o (-1) (dg_ro g), im_n (dg_en g), yrv, ymt, ynx) v2 0 (nI (rl_n (gr_L A B nj sg) r - 1)) → wpY_via (fun r' => r' = a ∧ i_Rel (k + 3) (nI nj, im_bi true, rc, dg_sr g, dg_oc g, xwg, im_n A, im_n B, im_n (sk_c A B nj), xjt, im_b sg, im_n (dg_ps g), so, lo, rj, re, rs, nd, np, cf, we, wc, im_n (dg_wt g), im_o (-1) (dg_to g), im_o (-1) (dg_lk g), im_n (hs_N A B nj (gr_L A B nj sg) (dg_hl g)), im_o (-1) (dg_hd g), im_o (-1) (dg_ro g), im_n (dg_pg g), xrt, xsz, xrg) (nI nj, nI (gr_L A B nj sg).length, im_n A, im_n B, im_b sg, im_n (dg_ps g), yfr, yln, yjt, yen, im_b (dg_st g), im_n (dg_wt g), im_b (dg_hl g), im_o (-2) (dg_lk g), im_o (-1) (dg_hd g), im_o (-1) (dg_ro g), im_n (dg_en g), yrv, ymt, ynx)) (nI nj, nI (gr_L A B nj sg).length, im_n A, im_n B, im_b sg, im_n (dg_ps g), yfr, yln, yjt, yen, im_b (dg_st g), im_n (dg_wt g), im_b (dg_hl g), im_o (-2) (dg_lk g), im_o (-1) (dg_hd g), im_o (-1) (dg_ro g), im_n (dg_en g), yrv, ymt, ynx) (nI r) v2 := by
      intro a hY
      unfold wpY_via
      refine yq_is rv_len (fun z => ?_) (fun r' _ _ => ?_)
      · rcases z with z | z
        · exact absurd z (nI_pos (by omega))
        · exact absurd z (nI_ge hr (by omega))
      · refine br_f (by decide) (And.intro vr ?_)
        rw [cr, q2]
        have e1 : nI (rl_n (gr_L A B nj sg) r) - 1 = nI (rl_n (gr_L A B nj sg) r - 1) := pk_sub hn.1
        rw [e1]
        refine br_c (fun z => ?_) (fun z => ?_)
        · exact ⟨fun _ => ⟨(hY.1 z).1 rfl, K0⟩, fun n => absurd rfl n⟩
        · refine br_c (fun y => ?_) (fun y => ?_)
          · exact ⟨fun _ => ⟨(((hY.2 z).1 y)).1 rfl, K0⟩, fun n => absurd rfl n⟩
          · have := ((hY.2 z).2 y).2 (by decide)
            exact ⟨fun n => absurd n (by decide), fun _ => ⟨this.1, this.2, K0⟩⟩
    refine br_f (by decide) ?_
    rcases pk_ix v2 (n := rl_n (gr_L A B nj sg) r) (by omega) with hv | hv | ⟨i, hi, rfl⟩
    · exact br_t hv (Y0 _ (ys_inL hv (br_t rfl rfl)))
    · refine br_c (fun _ => Y0 _ ?_) (fun _ => And.intro vr ?_)
      · refine ys_inG (by omega) ?_ (br_t rfl rfl)
        rw [Nat.sub_add_cancel hn.1]; exact hv
      · rw [cr, p2]
        refine br_f (Int32.not_lt.mpr hv) (Y0 _ ?_)
        refine ys_inG (by omega) ?_ (br_t rfl rfl)
        rw [Nat.sub_add_cancel hn.1]; exact hv
    · have e5 : 5 * nI r + nI i = nI (5 * r + i) := ix_5 r i
      have v5 : vp_in (5 * nI r + nI i) 80 := by rw [e5]; exact vp_in_nI (by omega) (by omega)
      have c5 : (5 * nI r + nI i).toNatClampNeg = 5 * r + i := by rw [e5]; exact nI_clamp (by omega)
      refine br_f (nI_pos (by omega)) (And.intro vr ?_)
      rw [cr, p2]
      refine br_t (nI_lt hi (by omega)) (And.intro v5 (Y0 _ ?_))
      refine ys_inM (by omega) (by omega) (br_f (by decide) (And.intro v5 ?_))
      rw [c5, (p3 i hi).1, (q3 i hi).1]
end PLAIN
end
section
/-! why a route may not be set: component and reference -/
section WHY
variable {xjc xfd xrc xsr xoc xwg : Int32} {xjA xjB xcA xjt xhs xps xso xlo xrj xre xrs xnd xnp xcf xwe xwc xwt xto xlk xnc xhd xro xpg xrt xsz xrg : Nat → Int32}
variable {yjs yrs : Int32} {yon ytw ysg yps yfr yln yjt yen yst ywt yhl ylk yhd yun yed yrv ymt ynx : Nat → Int32}
variable {A B : Nat → Nat} {nj : Nat} {sg : Nat → Bool} {post : Int32 → Prop}
theorem rb_rs {rc : Int32} {so lo rj re rs nd np cf : Nat → Int32} {r : Nat} (R : rx_F A B nj sg rc so lo rj re rs nd np cf) (hr : r < (gr_L A B nj sg).length) (x : Nat) : bt (rs r) x = true ↔ ∃ k, k < rl_n (gr_L A B nj sg) r ∧ rl_e (gr_L A B nj sg) r k / 2 = x :=
  (rx_get R hr).2.2.2.1 x
theorem rb_nd {rc : Int32} {so lo rj re rs nd np cf : Nat → Int32} {r : Nat} (R : rx_F A B nj sg rc so lo rj re rs nd np cf) (hr : r < (gr_L A B nj sg).length) (a : Nat) : bt (nd r) a = true ↔ ∃ k, k < rl_n (gr_L A B nj sg) r ∧ sk_at A B (rl_j (gr_L A B nj sg) r k) a = true ∧ 2 ≤ sk_c A B nj a := by
  rw [(rx_get R hr).2.2.2.2.1 a]
  constructor
  · rintro ⟨k, hk, e, c⟩; exact ⟨k, hk, (rv_at hr hk).mpr e, c⟩
  · rintro ⟨k, hk, e, c⟩; exact ⟨k, hk, (rv_at hr hk).mp e, c⟩
theorem rb_np {rc : Int32} {so lo rj re rs nd np cf : Nat → Int32} {r k a : Nat} (R : rx_F A B nj sg rc so lo rj re rs nd np cf) (hr : r < (gr_L A B nj sg).length) (h2 : ∀ a, sk_c A B nj a ≤ 2) (hk : k < rl_n (gr_L A B nj sg) r) (h : sk_at A B (rl_j (gr_L A B nj sg) r k) a = true) (hc : 2 ≤ sk_c A B nj a) : (bt (np r) a).toNat = nd_p A B nj (rl_j (gr_L A B nj sg) r k) a := by
  rw [nd_p1 (rv_j hr hk) h (h2 a)]
  congr 1
  rw [Bool.eq_iff_iff, decide_eq_true_iff, (rx_get R hr).2.2.2.2.2 a]
  constructor
  · rintro ⟨i, hi, e, _, z⟩
    have := rv_u hr hi hk ((rv_at hr hi).mpr e) h
    subst this
    exact z
  · intro z
    exact ⟨k, hk, (rv_at hr hk).mp h, hc, z⟩
def wn_2 (L : List (Nat × List (Nat × Nat))) (hd : Nat → Option Nat) (r : Nat) : Prop := ∃ k, k < rl_n L r ∧ oc_P hd (rl_e L r k / 2)
def wn_3 (L : List (Nat × List (Nat × Nat))) (lk : Nat → Option Nat) (r : Nat) : Prop := ∃ k, k < rl_n L r ∧ lk (rl_e L r k / 2) ≠ none
def fa_P (A B : Nat → Nat) (L : List (Nat × List (Nat × Nat))) (hd : Nat → Option Nat) (hl : Nat → Bool) (a : Nat) : Prop := oc_P hd (a / 2) ∨ ∃ i, i < 80 ∧ hl i = true ∧ sk_at A B (rl_j L (i / 5) (i % 5)) a = true
def wn_4 (A B : Nat → Nat) (nj : Nat) (L : List (Nat × List (Nat × Nat))) (ps : Nat → Nat) (hd : Nat → Option Nat) (hl : Nat → Bool) (r : Nat) : Prop :=
  ∃ k a, k < rl_n L r ∧ sk_at A B (rl_j L r k) a = true ∧ 2 ≤ sk_c A B nj a ∧ ps a ≠ nd_p A B nj (rl_j L r k) a ∧ fa_P A B L hd hl a
theorem xs_set {r : Nat} (hr : r < 32) (h0 : bt xsr r = false → post 0) (h1 : bt xsr r = true → post 1) : wpX_isSet post (xjc, xfd, xrc, xsr, xoc, xwg, xjA, xjB, xcA, xjt, xhs, xps, xso, xlo, xrj, xre, xrs, xnd, xnp, xcf, xwe, xwc, xwt, xto, xlk, xnc, xhd, xro, xpg, xrt, xsz, xrg) (nI r) := by
  unfold wpX_isSet; dsimp only
  rw [ib_get _ hr]
  exact im_bc h0 h1
theorem xs_locked {lk : Nat → Option Nat} (hb : ∀ s r, lk s = some r → r < 16) (h : ∀ m, (∀ s, bt m s = true ↔ s < 10 ∧ lk s ≠ none) → post m) : wpX_lockedSections post (xjc, xfd, xrc, xsr, xoc, xwg, xjA, xjB, xcA, xjt, xhs, xps, xso, xlo, xrj, xre, xrs, xnd, xnp, xcf, xwe, xwc, xwt, xto, im_o (-1) lk, xnc, xhd, xro, xpg, xrt, xsz, xrg) := by
  have loop : ∀ (d s : Nat) (m : Int32), s + d = 10 → (∀ x, bt m x = true ↔ x < s ∧ lk x ≠ none) → wX_lockedSections_4 post xjc xfd xrc xsr xoc xwg xjA xjB xcA xjt xhs xps xso xlo xrj xre xrs xnd xnp xcf xwe xwc xwt xto (im_o (-1) lk) xnc xhd xro xpg xrt xsz xrg (d + 1) m (nI s) := by
    intro d
    induction d with
    | zero =>
      intro s m hs hm
      have hs' : s = 10 := hs
      subst hs'
      exact br_t (Int32.le_refl _) (h m hm)
    | succ d ih =>
      intro s m hs hm
      refine br_f (nI_ge (b := 10) (by omega) (by omega)) (And.intro (vp_in_nI (by omega) (by omega)) ?_)
      rw [im_oR (i := s) rfl (by omega)]
      refine im_ol im_m1 (fun r e => by have := hb s r e; omega) ?_ ?_
      · intro e
        refine nm_r (nI_1 s) (ih (s + 1) m (by omega) ?_)
        intro x; rw [hm x]
        constructor
        · rintro ⟨a, b⟩; exact ⟨by omega, b⟩
        · rintro ⟨a, b⟩
          refine ⟨?_, b⟩
          by_cases z : x = s
          · subst z; exact absurd e b
          · omega
      · intro r e
        refine nm_e (nm_r (nI_1 s) (ih (s + 1) _ (by omega) ?_))
        intro x
        rw [ib_set _ (by omega), Bool.or_eq_true, decide_eq_true_iff, hm x]
        constructor
        · rintro (⟨a, b⟩ | a)
          · exact ⟨by omega, b⟩
          · subst a; exact ⟨by omega, by rw [e]; exact Option.some_ne_none r⟩
        · rintro ⟨a, b⟩
          by_cases z : x = s
          · exact Or.inr z
          · exact Or.inl ⟨by omega, b⟩
  refine Exists.intro (10 + 1) (loop 10 0 0 rfl ?_)
  intro x
  rw [b_0]
  exact ⟨(fun z => by cases z), fun z => absurd z.1 (Nat.not_lt_zero x)⟩
def mt_P (nd np : Nat → Int32) (ps : Nat → Nat) (r a : Nat) : Prop := bt (nd r) a = true ∧ (bt (np r) a).toNat ≠ ps a
theorem xs_must {ps : Nat → Nat} {r a : Nat} (hr : r < 16) (ha : a < 20) (hp : ps a ≤ 1) (h0 : ¬ mt_P xnd xnp ps r a → post 0) (h1 : mt_P xnd xnp ps r a → post 1) : wpX_mustTurn post (xjc, xfd, xrc, xsr, xoc, xwg, xjA, xjB, xcA, xjt, xhs, im_n ps, xso, xlo, xrj, xre, xrs, xnd, xnp, xcf, xwe, xwc, xwt, xto, xlk, xnc, xhd, xro, xpg, xrt, xsz, xrg) (nI r) (nI a) := by
  have vr : vp_in (nI r) 16 := vp_in_nI hr (by omega)
  have va : vp_in (nI a) 20 := vp_in_nI ha (by omega)
  have cr : (nI r).toNatClampNeg = r := nI_clamp (by omega)
  refine And.intro vr ?_
  rw [cr, ib_get _ (by omega)]
  refine im_bc (fun e => h0 (fun z => by rw [z.1] at e; cases e)) ?_
  intro e
  refine And.intro vr (And.intro va ?_)
  rw [ib_get _ (by omega), im_nR (i := a) rfl (by omega), im_bn]
  have ht := Bool.toNat_le (bt (xnp r) a)
  refine pk_eq (bt (xnp r) a).toNat (ps a) (fun z => h0 (fun w => w.2 z)) (fun z => h1 ⟨e, z⟩)
theorem xs_fast {N : Nat → Nat} {hd : Nat → Option Nat} {a : Nat} (ha : a < 20) (hN : N a < 128) (ho : ∀ x, bt xoc x = true ↔ oc_P hd x) (h0 : ¬ (oc_P hd (a / 2) ∨ 0 < N a) → post 0) (h1 : (oc_P hd (a / 2) ∨ 0 < N a) → post 1) : wpX_isFast post (xjc, xfd, xrc, xsr, xoc, xwg, xjA, xjB, xcA, xjt, xhs, xps, xso, xlo, xrj, xre, xrs, xnd, xnp, xcf, xwe, xwc, xwt, xto, xlk, im_n N, xhd, xro, xpg, xrt, xsz, xrg) (nI a) := by
  refine And.intro ix_20 ?_
  rw [ix_h (by omega)]
  refine xs_occ (by omega) ?_ ?_
  · intro z
    refine br_t rfl (And.intro (vp_in_nI ha (by omega)) ?_)
    rw [im_nR (i := a) rfl (by omega)]
    refine pk_le (N a) 0 ?_ ?_
    · intro e
      refine h0 ?_
      rintro (y | y)
      · rw [(ho _).mpr y] at z; cases z
      · omega
    · intro e; exact h1 (Or.inr e)
  · intro z
    exact br_f (by decide) (h1 (Or.inl ((ho _).mp z)))
theorem wn_4x {ps : Nat → Nat} {hd : Nat → Option Nat} {hl : Nat → Bool} {rc : Int32} {so lo rj re rs nd np cf : Nat → Int32} {r : Nat} (R : rx_F A B nj sg rc so lo rj re rs nd np cf) (hr : r < (gr_L A B nj sg).length) (hA : ∀ j, A j < 20) (hB : ∀ j, B j < 20) (h2 : ∀ a, sk_c A B nj a ≤ 2) :
    (∃ a, a < 20 ∧ mt_P nd np ps r a ∧ (oc_P hd (a / 2) ∨ 0 < hs_N A B nj (gr_L A B nj sg) hl a)) ↔ wn_4 A B nj (gr_L A B nj sg) ps hd hl r := by
  have hN : ∀ a, 2 ≤ sk_c A B nj a → ((oc_P hd (a / 2) ∨ 0 < hs_N A B nj (gr_L A B nj sg) hl a) ↔ fa_P A B (gr_L A B nj sg) hd hl a) := by
    intro a hc
    unfold hs_N fa_P
    rw [if_pos (by have := h2 a; omega), hs_pos]
  constructor
  · rintro ⟨a, ha, ⟨m1, m2⟩, f⟩
    obtain ⟨k, hk, e, c⟩ := (rb_nd R hr a).mp m1
    rw [rb_np R hr h2 hk e c] at m2
    exact ⟨k, a, hk, e, c, fun z => m2 z.symm, (hN a c).mp f⟩
  · rintro ⟨k, a, hk, e, c, m, f⟩
    have ha : a < 20 := by
      rcases sk_atI.mp e with z | z
      · rw [← z]; exact hA _
      · rw [← z]; exact hB _
    refine ⟨a, ha, ⟨(rb_nd R hr a).mpr ⟨k, hk, e, c⟩, ?_⟩, (hN a c).mpr f⟩
    rw [rb_np R hr h2 hk e c]
    exact fun z => m z.symm
theorem wx_why {st : Nat → Bool} {ps : Nat → Nat} {hl : Nat → Bool} {lk hd : Nat → Option Nat} {r : Nat} (S : sk_St A B nj xjt) (R : rx_F A B nj sg xrc xso xlo xrj xre xrs xnd xnp xcf) (hr : r < (gr_L A B nj sg).length) (hs : ∀ x, bt xsr x = st x) (ho : ∀ x, bt xoc x = true ↔ oc_P hd x) (hlb : ∀ s r, lk s = some r → r < 16) (hp : ∀ a, ps a ≤ 1)
    (h1 : st r = true → post 1) (h2 : st r = false → wn_2 (gr_L A B nj sg) hd r → post 2) (h3 : st r = false → ¬ wn_2 (gr_L A B nj sg) hd r → wn_3 (gr_L A B nj sg) lk r → post 3)
    (h4 : st r = false → ¬ wn_2 (gr_L A B nj sg) hd r → ¬ wn_3 (gr_L A B nj sg) lk r → wn_4 A B nj (gr_L A B nj sg) ps hd hl r → post 4)
    (h0 : st r = false → ¬ wn_2 (gr_L A B nj sg) hd r → ¬ wn_3 (gr_L A B nj sg) lk r → ¬ wn_4 A B nj (gr_L A B nj sg) ps hd hl r → post 0) :
    wpX_whyNot post (xjc, xfd, xrc, xsr, xoc, xwg, xjA, xjB, xcA, xjt, xhs, im_n ps, xso, xlo, xrj, xre, xrs, xnd, xnp, xcf, xwe, xwc, xwt, xto, im_o (-1) lk, im_n (hs_N A B nj (gr_L A B nj sg) hl), xhd, xro, xpg, xrt, xsz, xrg) (nI r) := by
  have hl16 := @rv_len A B nj sg
  have vr : vp_in (nI r) 16 := vp_in_nI (by omega) (by omega)
  have cr : (nI r).toNatClampNeg = r := nI_clamp (by omega)
  have e20 : ∀ k, k < rl_n (gr_L A B nj sg) r → rl_e (gr_L A B nj sg) r k < 20 := fun k hk => rv_e S.2.1 S.2.2.1 hr hk
  unfold wpX_whyNot
  refine xs_set (by omega) ?_ (fun z => br_f (by decide) (h1 (by rw [← hs]; exact z)))
  intro z
  have hst : st r = false := by rw [← hs]; exact z
  refine br_t rfl (And.intro vr ?_)
  rw [cr]
  refine br_c ?_ ?_
  · intro z2
    have n2 : ¬ wn_2 (gr_L A B nj sg) hd r := by
      rintro ⟨k, hk, e⟩
      have := ib_and0.mp z2 (rl_e (gr_L A B nj sg) r k / 2) (by have := e20 k hk; omega)
      rw [(rb_rs R hr _).mpr ⟨k, hk, rfl⟩, (ho _).mpr e] at this
      cases this
    refine And.intro vr ?_
    refine xs_locked hlb ?_
    intro m hm
    refine br_c ?_ ?_
    · intro z3
      have n3 : ¬ wn_3 (gr_L A B nj sg) lk r := by
        rintro ⟨k, hk, e⟩
        have k20 := e20 k hk
        have := ib_and0.mp z3 (rl_e (gr_L A B nj sg) r k / 2) (by omega)
        rw [(rb_rs R hr _).mpr ⟨k, hk, rfl⟩, (hm _).mpr ⟨by omega, e⟩] at this
        cases this
      refine Exists.intro (20 + 1) ?_
      have hx := wn_4x (ps := ps) (hd := hd) (hl := hl) R hr S.2.1 S.2.2.1 S.2.2.2.2.1
      have hNb : ∀ a, hs_N A B nj (gr_L A B nj sg) hl a < 128 := by
        intro a; unfold hs_N
        split
        · have := hs_le (hl := hl) (f := fun i => sk_at A B (rl_j (gr_L A B nj sg) (i / 5) (i % 5)) a) 80; omega
        · omega
      refine lq_find0 (fun n i => wX_whyNot_44 post (nI r) xjc xfd xrc xsr xoc xwg xjA xjB xcA xjt xhs (im_n ps) xso xlo xrj xre xrs xnd xnp xcf xwe xwc xwt xto (im_o (-1) lk) (im_n (hs_N A B nj (gr_L A B nj sg) hl)) xhd xro xpg xrt xsz xrg n (nI i)) 20 (fun a => mt_P xnd xnp ps r a ∧ (oc_P hd (a / 2) ∨ 0 < hs_N A B nj (gr_L A B nj sg) hl a)) ?_ ?_ ?_
      · intro n hn
        refine br_t (Int32.le_refl _) (h0 hst n2 n3 ?_)
        intro w
        obtain ⟨a, ha, w⟩ := hx.mpr w
        exact hn a ha w
      · intro n i hi hn hw
        refine br_f (nI_ge (b := 20) hi (by omega)) ?_
        refine xs_must (by omega) hi (hp i) (fun _ => br_t rfl (nm_r (nI_1 i) hw)) ?_
        intro m1
        refine br_f (by decide) ?_
        exact xs_fast hi (hNb i) ho (fun _ => br_t rfl (nm_r (nI_1 i) hw)) (fun f => absurd ⟨m1, f⟩ hn)
      · intro n i hi _ hn
        refine br_f (nI_ge (b := 20) hi (by omega)) ?_
        refine xs_must (by omega) hi (hp i) (fun w => absurd hn.1 w) ?_
        intro m1
        refine br_f (by decide) ?_
        exact xs_fast hi (hNb i) ho (fun w => absurd hn.2 w) (fun f => br_f (by decide) (h4 hst n2 n3 (hx.mp ⟨i, hi, hn⟩)))
    · intro z3
      refine h3 hst n2 ?_
      apply Classical.byContradiction
      intro w
      apply z3
      rw [ib_and0]
      intro i hi
      apply Bool.eq_false_iff.mpr
      intro y
      rw [Bool.and_eq_true] at y
      obtain ⟨k, hk, e⟩ := (rb_rs R hr i).mp y.1
      exact w ⟨k, hk, by rw [e]; exact ((hm i).mp y.2).2⟩
  · intro z2
    refine h2 hst ?_
    apply Classical.byContradiction
    intro w
    apply z2
    rw [ib_and0]
    intro i hi
    apply Bool.eq_false_iff.mpr
    intro y
    rw [Bool.and_eq_true] at y
    obtain ⟨k, hk, e⟩ := (rb_rs R hr i).mp y.1
    exact w ⟨k, hk, by rw [e]; exact (ho i).mp y.2⟩
/-! the reference -/
def ne_v (A B : Nat → Nat) (nj j a : Nat) : Int32 := if 2 ≤ sk_c A B nj a then nI (nd_p A B nj j a) else -1
def en_of (A B : Nat → Nat) (j e : Nat) : Nat := if e = 0 then A j else B j
theorem en_20 (hA : ∀ j, A j < 20) (hB : ∀ j, B j < 20) (j e : Nat) : en_of A B j e < 20 := by
  unfold en_of; split
  · exact hA j
  · exact hB j
theorem en_at {j a : Nat} : sk_at A B j a = true ↔ ∃ e, e < 2 ∧ en_of A B j e = a := by
  rw [sk_atI]
  constructor
  · rintro (h | h)
    · exact ⟨0, by omega, h⟩
    · exact ⟨1, by omega, h⟩
  · rintro ⟨e, he, h⟩
    by_cases z : e = 0
    · subst z; exact Or.inl h
    · have : e = 1 := by omega
      subst this; exact Or.inr h
theorem ys_endOf {j e : Nat} (hj : j < 12) (he : e < 2) (h : post (nI (en_of A B j e))) : wpY_endOf post (yjs, yrs, im_n A, im_n B, ysg, yps, yfr, yln, yjt, yen, yst, ywt, yhl, ylk, yhd, yun, yed, yrv, ymt, ynx) (nI j) (nI e) := by
  have vj : vp_in (nI j) 12 := vp_in_nI hj (by omega)
  unfold wpY_endOf; dsimp only
  rw [im_nR (f := A) (i := j) rfl (by omega), im_nR (f := B) (i := j) rfl (by omega)]
  unfold en_of at h
  refine pk_eq e 0 ?_ ?_
  · intro z; rw [if_pos z] at h; exact And.intro vj h
  · intro z; rw [if_neg z] at h; exact And.intro vj h
theorem ys_needed {j e : Nat} (hj : j < 12) (he : e < 2) (hn : nj ≤ 12) (hA : ∀ j, A j < 20) (hB : ∀ j, B j < 20) (h2 : ∀ a, sk_c A B nj a ≤ 2) (h : post (ne_v A B nj j (en_of A B j e))) : wpY_needed post (nI nj, yrs, im_n A, im_n B, ysg, yps, yfr, yln, yjt, yen, yst, ywt, yhl, ylk, yhd, yun, yed, yrv, ymt, ynx) (nI j) (nI e) := by
  have vj : vp_in (nI j) 12 := vp_in_nI hj (by omega)
  have key : wY_needed_19 post (nI j) (nI (en_of A B j e)) (nI nj) yrs (im_n A) (im_n B) ysg yps yfr yln yjt yen yst ywt yhl ylk yhd yun yed yrv ymt ynx := by
    have ha := en_20 hA hB j e
    refine ys_jointsAt ha hn hA hB ?_
    have c2 := h2 (en_of A B j e)
    unfold ne_v at h
    refine pk_le 2 (sk_c A B nj (en_of A B j e)) ?_ ?_
    · intro z
      rw [if_pos z] at h
      refine ys_jointAt (k := 0) ha (by omega) hn hA hB ?_
      unfold nd_p at h
      by_cases w : sk_n A B nj (en_of A B j e) 0 = some j
      · rw [if_pos w] at h
        rw [w]
        exact br_t rfl h
      · rw [if_neg w] at h
        refine br_f ?_ h
        intro y
        rw [im_oe im_m1 (fun q hq => by have := ((sk_ns nj).mp hq).1; omega) (by omega)] at y
        exact w y
    · intro z
      rw [if_neg (by omega)] at h
      exact h
  unfold wpY_needed; dsimp only
  rw [im_nR (f := A) (i := j) rfl (by omega), im_nR (f := B) (i := j) rfl (by omega)]
  unfold en_of at key
  refine pk_eq e 0 ?_ ?_
  · intro z; rw [if_pos z] at key; exact And.intro vj key
  · intro z; rw [if_neg z] at key; exact And.intro vj key
theorem ys_fast {L : List (Nat × List (Nat × Nat))} {hd : Nat → Option Nat} {hl : Nat → Bool} {a : Nat} (ha : a < 20) (hA : ∀ j, A j < 20) (hB : ∀ j, B j < 20) (hb : ∀ t h, hd t = some h → h < 20) (hj : ∀ i, i < 80 → hl i = true → yjt i = nI (rl_j L (i / 5) (i % 5)) ∧ rl_j L (i / 5) (i % 5) < 12) (h0 : ¬ fa_P A B L hd hl a → post 0) (h1 : fa_P A B L hd hl a → post 1) : wpY_isFast post (yjs, yrs, im_n A, im_n B, ysg, yps, yfr, yln, yjt, yen, yst, ywt, im_b hl, ylk, im_o (-1) hd, yun, yed, yrv, ymt, ynx) (nI a) := by
  refine And.intro ix_20 ?_
  rw [ix_h (by omega)]
  refine ys_occ (by omega) hb ?_ (fun z => br_f (by decide) (h1 (Or.inl z)))
  intro no
  refine br_t rfl (Exists.intro (80 + 1) ?_)
  refine lq_find0 (fun n i => wY_isFast_14 post (nI a) yjs yrs (im_n A) (im_n B) ysg yps yfr yln yjt yen yst ywt (im_b hl) ylk (im_o (-1) hd) yun yed yrv ymt ynx n (nI i)) 80 (fun i => hl i = true ∧ sk_at A B (rl_j L (i / 5) (i % 5)) a = true) ?_ ?_ ?_
  · intro n hn
    refine br_t (Int32.le_refl _) (h0 ?_)
    rintro (z | ⟨i, hi, z⟩)
    · exact no z
    · exact hn i hi z
  · intro n i hi hp hw
    have vi : vp_in (nI i) 80 := vp_in_nI hi (by omega)
    have ci : (nI i).toNatClampNeg = i := nI_clamp (by omega)
    refine br_f (nI_ge (b := 80) hi (by omega)) (And.intro vi ?_)
    rw [im_bR (i := i) rfl (by omega)]
    refine im_bc (fun _ => nm_r (nI_1 i) hw) ?_
    intro e
    obtain ⟨e1, e2⟩ := hj i hi e
    have vj : vp_in (nI (rl_j L (i / 5) (i % 5))) 12 := vp_in_nI e2 (by omega)
    have hAi := hA (rl_j L (i / 5) (i % 5))
    have hBi := hB (rl_j L (i / 5) (i % 5))
    refine And.intro vi ?_
    rw [ci, e1]
    refine And.intro vj ?_
    rw [im_nR (f := A) (i := rl_j L (i / 5) (i % 5)) rfl (by omega), im_nR (f := B) (i := rl_j L (i / 5) (i % 5)) rfl (by omega)]
    refine pk_eq (A (rl_j L (i / 5) (i % 5))) a (fun z => absurd ⟨e, sk_atI.mpr (Or.inl z)⟩ hp) ?_
    intro _
    refine And.intro vi (And.intro vj ?_)
    exact pk_eq (B (rl_j L (i / 5) (i % 5))) a (fun z => absurd ⟨e, sk_atI.mpr (Or.inr z)⟩ hp) (fun _ => nm_r (nI_1 i) hw)
  · intro n i hi _ hp
    have vi : vp_in (nI i) 80 := vp_in_nI hi (by omega)
    have ci : (nI i).toNatClampNeg = i := nI_clamp (by omega)
    refine br_f (nI_ge (b := 80) hi (by omega)) (And.intro vi ?_)
    rw [im_bR (i := i) rfl (by omega), hp.1]
    refine br_f (by decide) ?_
    obtain ⟨e1, e2⟩ := hj i hi hp.1
    have vj : vp_in (nI (rl_j L (i / 5) (i % 5))) 12 := vp_in_nI e2 (by omega)
    have hAi := hA (rl_j L (i / 5) (i % 5))
    have hBi := hB (rl_j L (i / 5) (i % 5))
    have hh := h1 (Or.inr ⟨i, hi, hp⟩)
    refine And.intro vi ?_
    rw [ci, e1]
    refine And.intro vj ?_
    rw [im_nR (f := A) (i := rl_j L (i / 5) (i % 5)) rfl (by omega), im_nR (f := B) (i := rl_j L (i / 5) (i % 5)) rfl (by omega)]
    refine pk_eq (A (rl_j L (i / 5) (i % 5))) a (fun _ => hh) ?_
    intro z1
    refine And.intro vi (And.intro vj ?_)
    refine pk_eq (B (rl_j L (i / 5) (i % 5))) a (fun _ => hh) ?_
    intro z2
    rcases sk_atI.mp hp.2 with z | z
    · exact absurd z z1
    · exact absurd z z2
def sx_P (A B : Nat → Nat) (nj : Nat) (L : List (Nat × List (Nat × Nat))) (ps : Nat → Nat) (hd : Nat → Option Nat) (hl : Nat → Bool) (r k e : Nat) : Prop :=
  2 ≤ sk_c A B nj (en_of A B (rl_j L r k) e) ∧ ps (en_of A B (rl_j L r k) e) ≠ nd_p A B nj (rl_j L r k) (en_of A B (rl_j L r k) e) ∧ fa_P A B L hd hl (en_of A B (rl_j L r k) e)
theorem nd_p01 {j a : Nat} : nd_p A B nj j a ≤ 1 := by unfold nd_p; split <;> omega
theorem ys_st20 {J : Int32 → Prop} {L : List (Nat × List (Nat × Nat))} {ps : Nat → Nat} {hd : Nat → Option Nat} {hl : Nat → Bool} {x1 : Int32} {r k : Nat} (hn : nj ≤ 12) (hA : ∀ j, A j < 20) (hB : ∀ j, B j < 20) (h2 : ∀ a, sk_c A B nj a ≤ 2) (hp : ∀ a, ps a ≤ 1) (hb : ∀ t h, hd t = some h → h < 20) (hj : ∀ i, i < 80 → hl i = true → yjt i = nI (rl_j L (i / 5) (i % 5)) ∧ rl_j L (i / 5) (i % 5) < 12) (h5 : 5 * r + k < 80) (hjk : yjt (5 * r + k) = nI (rl_j L r k)) (hjb : rl_j L r k < 12)
    (h0 : (¬ ∃ e, e < 2 ∧ sx_P A B nj L ps hd hl r k e) → J (nI (5 * r + k + 1))) (h1 : (∃ e, e < 2 ∧ sx_P A B nj L ps hd hl r k e) → post 1) :
    ∃ n, wY_isStuck_20 post J x1 (nI (5 * r + k)) (nI nj) yrs (im_n A) (im_n B) ysg (im_n ps) yfr yln yjt yen yst ywt (im_b hl) ylk (im_o (-1) hd) yun yed yrv ymt ynx n 0 := by
  have v5 : vp_in (nI (5 * r + k)) 80 := vp_in_nI h5 (by omega)
  have c5 : (nI (5 * r + k)).toNatClampNeg = 5 * r + k := nI_clamp (by omega)
  refine Exists.intro (2 + 1) ?_
  have step : ∀ (n e : Nat), e < 2 → (sx_P A B nj L ps hd hl r k e → post 1) → (¬ sx_P A B nj L ps hd hl r k e → wY_isStuck_20 post J x1 (nI (5 * r + k)) (nI nj) yrs (im_n A) (im_n B) ysg (im_n ps) yfr yln yjt yen yst ywt (im_b hl) ylk (im_o (-1) hd) yun yed yrv ymt ynx n (nI (e + 1))) → wY_isStuck_20 post J x1 (nI (5 * r + k)) (nI nj) yrs (im_n A) (im_n B) ysg (im_n ps) yfr yln yjt yen yst ywt (im_b hl) ylk (im_o (-1) hd) yun yed yrv ymt ynx (n + 1) (nI e) := by
    intro n e he p1 p0
    have ha := en_20 hA hB (rl_j L r k) e
    refine br_f (nI_ge (b := 2) he (by omega)) (And.intro v5 ?_)
    rw [c5, hjk]
    refine ys_needed hjb he hn hA hB h2 (And.intro v5 ?_)
    refine ys_endOf hjb he ?_
    unfold ne_v
    by_cases z : 2 ≤ sk_c A B nj (en_of A B (rl_j L r k) e)
    · rw [if_pos z]
      have q1 := @nd_p01 A B nj (rl_j L r k) (en_of A B (rl_j L r k) e)
      have q2 := hp (en_of A B (rl_j L r k) e)
      refine br_f (nI_pos (by omega)) (And.intro (vp_in_nI ha (by omega)) ?_)
      rw [im_nR (i := en_of A B (rl_j L r k) e) rfl (by omega)]
      refine pk_eq (ps (en_of A B (rl_j L r k) e)) (nd_p A B nj (rl_j L r k) (en_of A B (rl_j L r k) e)) ?_ ?_
      · intro y; exact nm_r (nI_1 e) (p0 (fun w => w.2.1 y))
      · intro y
        refine ys_fast (L := L) ha hA hB hb hj ?_ ?_
        · intro f; exact br_t rfl (nm_r (nI_1 e) (p0 (fun w => f w.2.2)))
        · intro f; exact br_f (by decide) (p1 ⟨z, y, f⟩)
    · rw [if_neg z]
      exact br_t im_m1 (nm_r (nI_1 e) (p0 (fun w => z w.1)))
  refine lq_find0 (fun n i => wY_isStuck_20 post J x1 (nI (5 * r + k)) (nI nj) yrs (im_n A) (im_n B) ysg (im_n ps) yfr yln yjt yen yst ywt (im_b hl) ylk (im_o (-1) hd) yun yed yrv ymt ynx n (nI i)) 2 (fun e => sx_P A B nj L ps hd hl r k e) ?_ ?_ ?_
  · intro n hno
    refine br_t (Int32.le_refl _) (nm_r (nI_1 _) (h0 ?_))
    rintro ⟨e, he, z⟩; exact hno e he z
  · intro n i hi hno hw
    exact step n i hi (fun z => absurd z hno) (fun _ => hw)
  · intro n i hi _ hz
    exact step n i hi (fun z => h1 ⟨i, hi, z⟩) (fun z => absurd hz z)
theorem wn_4y {L : List (Nat × List (Nat × Nat))} {ps : Nat → Nat} {hd : Nat → Option Nat} {hl : Nat → Bool} {r : Nat} : wn_4 A B nj L ps hd hl r ↔ ∃ k, k < rl_n L r ∧ ∃ e, e < 2 ∧ sx_P A B nj L ps hd hl r k e := by
  constructor
  · rintro ⟨k, a, hk, e, c, m, f⟩
    obtain ⟨x, hx, ex⟩ := en_at.mp e
    subst ex
    exact ⟨k, hk, x, hx, c, m, f⟩
  · rintro ⟨k, hk, x, hx, c, m, f⟩
    exact ⟨k, _, hk, en_at.mpr ⟨x, hx, rfl⟩, c, m, f⟩
theorem ys_stuck {L : List (Nat × List (Nat × Nat))} {ps : Nat → Nat} {hd : Nat → Option Nat} {hl : Nat → Bool} {r : Nat} (hn : nj ≤ 12) (hA : ∀ j, A j < 20) (hB : ∀ j, B j < 20) (h2 : ∀ a, sk_c A B nj a ≤ 2) (hp : ∀ a, ps a ≤ 1) (hb : ∀ t h, hd t = some h → h < 20) (hj : ∀ i, i < 80 → hl i = true → yjt i = nI (rl_j L (i / 5) (i % 5)) ∧ rl_j L (i / 5) (i % 5) < 12) (hr : r < 16) (hl5 : rl_n L r ≤ 5) (hln : yln r = nI (rl_n L r)) (hjk : ∀ k, k < rl_n L r → yjt (5 * r + k) = nI (rl_j L r k) ∧ rl_j L r k < 12)
    (h0 : ¬ wn_4 A B nj L ps hd hl r → post 0) (h1 : wn_4 A B nj L ps hd hl r → post 1) :
    wpY_isStuck post (nI nj, yrs, im_n A, im_n B, ysg, im_n ps, yfr, yln, yjt, yen, yst, ywt, im_b hl, ylk, im_o (-1) hd, yun, yed, yrv, ymt, ynx) (nI r) := by
  have vr : vp_in (nI r) 16 := vp_in_nI hr (by omega)
  have cr : (nI r).toNatClampNeg = r := nI_clamp (by omega)
  have e5 : 5 * nI r + nI (rl_n L r) = nI (5 * r + rl_n L r) := ix_5 _ _
  refine nm_r (ix_5m r) (Exists.intro (rl_n L r + 1) ?_)
  refine lq_find0 (fun n i => wY_isStuck_4 post (nI r) (nI nj) yrs (im_n A) (im_n B) ysg (im_n ps) yfr yln yjt yen yst ywt (im_b hl) ylk (im_o (-1) hd) yun yed yrv ymt ynx n (nI (5 * r + i))) (rl_n L r) (fun k => ∃ e, e < 2 ∧ sx_P A B nj L ps hd hl r k e) ?_ ?_ ?_
  · intro n hno
    refine And.intro vr (br_t ?_ (h0 ?_))
    · rw [cr, hln, e5]; exact Int32.le_refl _
    · intro z
      obtain ⟨k, hk, z⟩ := wn_4y.mp z
      exact hno k hk z
  · intro n i hi hno hw
    refine And.intro vr (br_f ?_ ?_)
    · rw [cr, hln, e5]; exact nI_ge (by omega) (by omega)
    · exact ys_st20 hn hA hB h2 hp hb hj (by omega) (hjk i hi).1 (hjk i hi).2 (fun _ => hw) (fun z => absurd z hno)
  · intro n i hi _ hz
    refine And.intro vr (br_f ?_ ?_)
    · rw [cr, hln, e5]; exact nI_ge (by omega) (by omega)
    · exact ys_st20 hn hA hB h2 hp hb hj (by omega) (hjk i hi).1 (hjk i hi).2 (fun z => absurd hz z) (fun z => h1 (wn_4y.mpr ⟨i, hi, z⟩))
end WHY
end
section
/-! blocked -/
section BLOCKED
variable {xjc xfd xrc xsr xoc xwg : Int32} {xjA xjB xcA xjt xhs xps xso xlo xrj xre xrs xnd xnp xcf xwe xwc xwt xto xlk xnc xhd xro xpg xrt xsz xrg : Nat → Int32}
variable {yjs yrs : Int32} {yon ytw ysg yps yfr yln yjt yen yst ywt yhl ylk yhd yun yed yrv ymt ynx : Nat → Int32}
variable {A B : Nat → Nat} {nj : Nat} {sg : Nat → Bool} {post : Int32 → Prop}
theorem hj_of {st : Nat → Bool} {wt : Nat → Nat} {sr : Int32} {ro : Nat → Option Nat} {pg : Nat → Nat} {hl : Nat → Bool} (hn : nj ≤ 12) (a : dn_A (gr_L A B nj sg) st wt sr) (H : dn_H (gr_L A B nj sg) st ro pg hl) (Y : rp_Y (gr_L A B nj sg) yrs yfr yln yjt yen) : ∀ i, i < 80 → hl i = true → yjt i = nI (rl_j (gr_L A B nj sg) (i / 5) (i % 5)) ∧ rl_j (gr_L A B nj sg) (i / 5) (i % 5) < 12 := by
  intro i hi z
  have e : 5 * (i / 5) + i % 5 = i := by omega
  have h := (H (i / 5) (i % 5) (by omega)).mp (by rw [e]; exact z)
  have hr := a.1 _ h.1
  have := ((ry_get Y hr).2.2 _ h.2.1).1
  rw [e] at this
  have hj := rv_j hr h.2.1
  exact ⟨this, by omega⟩
theorem yb_27 {L : List (Nat × List (Nat × Nat))} {ps : Nat → Nat} {lk hd : Nat → Option Nat} {hl : Nat → Bool} {r : Nat} (hn : nj ≤ 12) (hA : ∀ j, A j < 20) (hB : ∀ j, B j < 20) (hc : ∀ a, sk_c A B nj a ≤ 2) (hp : ∀ a, ps a ≤ 1) (hb : ∀ t h, hd t = some h → h < 20) (hlb : ∀ s r, lk s = some r → r < 16) (hj : ∀ i, i < 80 → hl i = true → yjt i = nI (rl_j L (i / 5) (i % 5)) ∧ rl_j L (i / 5) (i % 5) < 12) (hr : r < 16) (hl5 : rl_n L r ≤ 5) (hln : yln r = nI (rl_n L r)) (hjk : ∀ k, k < rl_n L r → yjt (5 * r + k) = nI (rl_j L r k) ∧ rl_j L r k < 12) (hek : ∀ k, k < rl_n L r → yen (5 * r + k) = nI (rl_e L r k) ∧ rl_e L r k < 20)
    (h2 : wn_2 L hd r → post 2) (h3 : ¬ wn_2 L hd r → wn_3 L lk r → post 3) (h4 : ¬ wn_2 L hd r → ¬ wn_3 L lk r → wn_4 A B nj L ps hd hl r → post 4) (h0 : ¬ wn_2 L hd r → ¬ wn_3 L lk r → ¬ wn_4 A B nj L ps hd hl r → post 0) :
    ∀ (d k : Nat) (f : Bool), k + d = rl_n L r → (f = true ↔ ∃ i, i < k ∧ lk (rl_e L r i / 2) ≠ none) → (∀ i, i < k → ¬ oc_P hd (rl_e L r i / 2)) → wY_blocked_27 post (nI r) (nI nj) yrs (im_n A) (im_n B) ysg (im_n ps) yfr yln yjt yen yst ywt (im_b hl) (im_o (-2) lk) (im_o (-1) hd) yun yed yrv ymt ynx (d + 1) (im_bi f) (nI (5 * r + k)) := by
  have vr : vp_in (nI r) 16 := vp_in_nI hr (by omega)
  have cr : (nI r).toNatClampNeg = r := nI_clamp (by omega)
  have e5 : 5 * nI r + nI (rl_n L r) = nI (5 * r + rl_n L r) := ix_5 _ _
  intro d
  induction d with
  | zero =>
    intro k f hk hf ho
    have hk' : k = rl_n L r := hk
    have n2 : ¬ wn_2 L hd r := by
      rintro ⟨i, hi, z⟩; exact ho i (by omega) z
    refine And.intro vr (br_t ?_ ?_)
    · rw [cr, hln, e5, hk']; exact Int32.le_refl _
    · refine im_bc ?_ ?_
      · intro z
        have n3 : ¬ wn_3 L lk r := by
          rintro ⟨i, hi, w⟩
          rw [hf.mpr ⟨i, by omega, w⟩] at z; cases z
        refine ys_stuck hn hA hB hc hp hb hj hr hl5 hln hjk ?_ ?_
        · intro w; exact br_t rfl (h0 n2 n3 w)
        · intro w; exact br_f (by decide) (h4 n2 n3 w)
      · intro z
        obtain ⟨i, hi, w⟩ := hf.mp z
        exact h3 n2 ⟨i, by omega, w⟩
  | succ d ih =>
    intro k f hk hf ho
    obtain ⟨e1, e2⟩ := hek k (by omega)
    have v5 : vp_in (nI (5 * r + k)) 80 := vp_in_nI (by omega) (by omega)
    have c5 : (nI (5 * r + k)).toNatClampNeg = 5 * r + k := nI_clamp (by omega)
    have ve : vp_in (nI (rl_e L r k / 2)) 10 := vp_in_nI (by omega) (by omega)
    refine And.intro vr (br_f ?_ (And.intro v5 (And.intro ix_20 ?_)))
    · rw [cr, hln, e5]; exact nI_ge (by omega) (by omega)
    rw [c5, e1, ix_h (by omega)]
    refine ys_occ (by omega) hb ?_ ?_
    · intro no
      have ho' : ∀ i, i < k + 1 → ¬ oc_P hd (rl_e L r i / 2) := by
        intro i hi
        by_cases z : i = k
        · subst z; exact no
        · exact ho i (by omega)
      refine br_t rfl (And.intro v5 (And.intro ix_20 (And.intro ve ?_)))
      rw [im_oR (i := rl_e L r k / 2) rfl (by omega)]
      refine im_ol im_m2 (fun q e => by have := hlb _ q e; omega) ?_ ?_
      · intro z
        refine nm_r (nI_1 (5 * r + k)) (ih (k + 1) f (by omega) ?_ ho')
        rw [hf]
        constructor
        · rintro ⟨i, hi, w⟩; exact ⟨i, by omega, w⟩
        · rintro ⟨i, hi, w⟩
          by_cases y : i = k
          · subst y; exact absurd z w
          · exact ⟨i, by omega, w⟩
      · intro q z
        refine nm_r (nI_1 (5 * r + k)) (ih (k + 1) true (by omega) ?_ ho')
        exact ⟨fun _ => ⟨k, by omega, by rw [z]; exact Option.some_ne_none q⟩, fun _ => rfl⟩
    · intro z
      exact br_f (by decide) (h2 ⟨k, by omega, z⟩)
theorem wb_out {g : dg_T} {r : Nat} (S : sk_St A B nj xjt) (Y : rp_Y (gr_L A B nj sg) yrs yfr yln yjt yen) (R : rx_F A B nj sg xrc xso xlo xrj xre xrs xnd xnp xcf) (I : dg_I A B nj sg g) (hr : r < (gr_L A B nj sg).length) :
    ∃ v : Int32, (∀ post : Int32 → Prop, post v → wpX_whyNot post (nI nj, xfd, xrc, dg_sr g, dg_oc g, xwg, im_n A, im_n B, im_n (sk_c A B nj), xjt, im_b sg, im_n (dg_ps g), xso, xlo, xrj, xre, xrs, xnd, xnp, xcf, xwe, xwc, im_n (dg_wt g), im_o (-1) (dg_to g), im_o (-1) (dg_lk g), im_n (hs_N A B nj (gr_L A B nj sg) (dg_hl g)), im_o (-1) (dg_hd g), im_o (-1) (dg_ro g), im_n (dg_pg g), xrt, xsz, xrg) (nI r)) ∧ (∀ post : Int32 → Prop, post v → wpY_blocked post (nI nj, yrs, im_n A, im_n B, im_b sg, im_n (dg_ps g), yfr, yln, yjt, yen, im_b (dg_st g), im_n (dg_wt g), im_b (dg_hl g), im_o (-2) (dg_lk g), im_o (-1) (dg_hd g), im_o (-1) (dg_ro g), im_n (dg_en g), yrv, ymt, ynx) (nI r)) ∧ (v = 0 → dg_st g r = false ∧ ¬ wn_2 (gr_L A B nj sg) (dg_hd g) r ∧ ¬ wn_3 (gr_L A B nj sg) (dg_lk g) r) := by
  have hl16 := @rv_len A B nj sg
  obtain ⟨a1, t1, r1, o1, H, K, F, p⟩ := I
  have hj := hj_of S.1 a1 H Y
  obtain ⟨y1, y2, y3⟩ := ry_get Y hr
  have hn := rv_n hr
  have vr : vp_in (nI r) 16 := vp_in_nI (by omega) (by omega)
  have hj2 : ∀ k, k < rl_n (gr_L A B nj sg) r → yjt (5 * r + k) = nI (rl_j (gr_L A B nj sg) r k) ∧ rl_j (gr_L A B nj sg) r k < 12 := fun k hk => ⟨(y3 k hk).1, Nat.lt_of_lt_of_le (rv_j hr hk) S.1⟩
  have he2 : ∀ k, k < rl_n (gr_L A B nj sg) r → yen (5 * r + k) = nI (rl_e (gr_L A B nj sg) r k) ∧ rl_e (gr_L A B nj sg) r k < 20 := fun k hk => ⟨(y3 k hk).2, rv_e S.2.1 S.2.2.1 hr hk⟩
  have Ys : ∀ post : Int32 → Prop, (dg_st g r = true → post 1) → (dg_st g r = false → wn_2 (gr_L A B nj sg) (dg_hd g) r → post 2) → (dg_st g r = false → ¬ wn_2 (gr_L A B nj sg) (dg_hd g) r → wn_3 (gr_L A B nj sg) (dg_lk g) r → post 3) → (dg_st g r = false → ¬ wn_2 (gr_L A B nj sg) (dg_hd g) r → ¬ wn_3 (gr_L A B nj sg) (dg_lk g) r → wn_4 A B nj (gr_L A B nj sg) (dg_ps g) (dg_hd g) (dg_hl g) r → post 4) → (dg_st g r = false → ¬ wn_2 (gr_L A B nj sg) (dg_hd g) r → ¬ wn_3 (gr_L A B nj sg) (dg_lk g) r → ¬ wn_4 A B nj (gr_L A B nj sg) (dg_ps g) (dg_hd g) (dg_hl g) r → post 0) → wpY_blocked post (nI nj, yrs, im_n A, im_n B, im_b sg, im_n (dg_ps g), yfr, yln, yjt, yen, im_b (dg_st g), im_n (dg_wt g), im_b (dg_hl g), im_o (-2) (dg_lk g), im_o (-1) (dg_hd g), im_o (-1) (dg_ro g), im_n (dg_en g), yrv, ymt, ynx) (nI r) := by
    intro post h1 h2 h3 h4 h0
    have ey : yrs = nI (gr_L A B nj sg).length := Y.1
    rw [ey]
    unfold wpY_blocked
    refine yq_is hl16 (fun z => ?_) (fun _ _ _ => ?_)
    · rcases z with z | z
      · exact absurd z (nI_pos (by omega))
      · exact absurd z (nI_ge hr (by omega))
    · refine br_f (by decide) (And.intro vr ?_)
      rw [im_bR (i := r) rfl (by omega)]
      refine im_bc ?_ h1
      intro z
      refine nm_r (ix_5m r) (Exists.intro (rl_n (gr_L A B nj sg) r + 1) ?_)
      refine yb_27 S.1 S.2.1 S.2.2.1 S.2.2.2.2.1 p t1.1 K.2 hj (by omega) hn.2 y2 hj2 he2 (h2 z) (h3 z) (h4 z) (h0 z) (rl_n (gr_L A B nj sg) r) 0 false (Nat.zero_add _) ?_ ?_
      · exact ⟨(fun z => by cases z), fun ⟨i, hi, _⟩ => absurd hi (Nat.not_lt_zero i)⟩
      · intro i hi; exact absurd hi (Nat.not_lt_zero i)
  have Xs : ∀ post : Int32 → Prop, (dg_st g r = true → post 1) → (dg_st g r = false → wn_2 (gr_L A B nj sg) (dg_hd g) r → post 2) → (dg_st g r = false → ¬ wn_2 (gr_L A B nj sg) (dg_hd g) r → wn_3 (gr_L A B nj sg) (dg_lk g) r → post 3) → (dg_st g r = false → ¬ wn_2 (gr_L A B nj sg) (dg_hd g) r → ¬ wn_3 (gr_L A B nj sg) (dg_lk g) r → wn_4 A B nj (gr_L A B nj sg) (dg_ps g) (dg_hd g) (dg_hl g) r → post 4) → (dg_st g r = false → ¬ wn_2 (gr_L A B nj sg) (dg_hd g) r → ¬ wn_3 (gr_L A B nj sg) (dg_lk g) r → ¬ wn_4 A B nj (gr_L A B nj sg) (dg_ps g) (dg_hd g) (dg_hl g) r → post 0) → wpX_whyNot post (nI nj, xfd, xrc, dg_sr g, dg_oc g, xwg, im_n A, im_n B, im_n (sk_c A B nj), xjt, im_b sg, im_n (dg_ps g), xso, xlo, xrj, xre, xrs, xnd, xnp, xcf, xwe, xwc, im_n (dg_wt g), im_o (-1) (dg_to g), im_o (-1) (dg_lk g), im_n (hs_N A B nj (gr_L A B nj sg) (dg_hl g)), im_o (-1) (dg_hd g), im_o (-1) (dg_ro g), im_n (dg_pg g), xrt, xsz, xrg) (nI r) := by
    intro post h1 h2 h3 h4 h0
    exact wx_why S R hr a1.2.2 t1.2.1 K.2 p h1 h2 h3 h4 h0
  by_cases c1 : dg_st g r = true
  · have nf : ¬ dg_st g r = false := by rw [c1]; decide
    exact ⟨1, fun post h => Xs post (fun _ => h) (fun z => absurd z nf) (fun z => absurd z nf) (fun z => absurd z nf) (fun z => absurd z nf), fun post h => Ys post (fun _ => h) (fun z => absurd z nf) (fun z => absurd z nf) (fun z => absurd z nf) (fun z => absurd z nf), fun z => absurd z (by decide)⟩
  by_cases c2 : wn_2 (gr_L A B nj sg) (dg_hd g) r
  · exact ⟨2, fun post h => Xs post (fun z => absurd z c1) (fun _ _ => h) (fun _ z => absurd c2 z) (fun _ z => absurd c2 z) (fun _ z => absurd c2 z), fun post h => Ys post (fun z => absurd z c1) (fun _ _ => h) (fun _ z => absurd c2 z) (fun _ z => absurd c2 z) (fun _ z => absurd c2 z), fun z => absurd z (by decide)⟩
  by_cases c3 : wn_3 (gr_L A B nj sg) (dg_lk g) r
  · exact ⟨3, fun post h => Xs post (fun z => absurd z c1) (fun _ z => absurd z c2) (fun _ _ _ => h) (fun _ _ z => absurd c3 z) (fun _ _ z => absurd c3 z), fun post h => Ys post (fun z => absurd z c1) (fun _ z => absurd z c2) (fun _ _ _ => h) (fun _ _ z => absurd c3 z) (fun _ _ z => absurd c3 z), fun z => absurd z (by decide)⟩
  by_cases c4 : wn_4 A B nj (gr_L A B nj sg) (dg_ps g) (dg_hd g) (dg_hl g) r
  · exact ⟨4, fun post h => Xs post (fun z => absurd z c1) (fun _ z => absurd z c2) (fun _ _ z => absurd z c3) (fun _ _ _ _ => h) (fun _ _ _ z => absurd c4 z), fun post h => Ys post (fun z => absurd z c1) (fun _ z => absurd z c2) (fun _ _ z => absurd z c3) (fun _ _ _ _ => h) (fun _ _ _ z => absurd c4 z), fun z => absurd z (by decide)⟩
  · exact ⟨0, fun post h => Xs post (fun z => absurd z c1) (fun _ z => absurd z c2) (fun _ _ z => absurd z c3) (fun _ _ _ z => absurd z c4) (fun _ _ _ _ => h), fun post h => Ys post (fun z => absurd z c1) (fun _ z => absurd z c2) (fun _ _ z => absurd z c3) (fun _ _ _ z => absurd z c4) (fun _ _ _ _ => h), fun _ => ⟨Bool.eq_false_iff.mpr c1, c2, c3⟩⟩
theorem i_vc_blocked {k : Nat} {u : SX} {v : SY} (I : i_Rel k u v) (hk : k + 3 ≤ 1536) (v1 : Int32) : wpX_blocked (fun r u' => wpY_blocked (fun r' => r' = r ∧ i_Rel (k + 3) u' v) v v1) u v1 := by
  refine zz_el (P := fun u v => wpX_blocked (fun r u' => wpY_blocked (fun r' => r' = r ∧ i_Rel (k + 3) u' v) v v1) u v1) ?_ I
  intro nj A B sg fd g xrc xwg xjt xso xlo xrj xre xrs xnd xnp xcf xwe xwc xrt xsz xrg yrs yfr yln yjt yen yrv ymt ynx h1 h2 h3 h4
  have hl16 := @rv_len A B nj sg
  unfold wpX_blocked
  refine xq_is h1 h3 ?_ ?_
  · intro we wc rc so lo rj re rs nd np cf R hx
    have K0 := zz_in (k := k + 3) (fd := true) (xwg := xwg) (xwe := we) (xwc := wc) (xrt := xrt) (xsz := xsz) (xrg := xrg) (yrv := yrv) (ymt := ymt) (ynx := ynx) h1 h2 (fun _ => R) h4
    have ey : yrs = nI (gr_L A B nj sg).length := h2.1
    rw [ey] at K0 ⊢
    refine br_t rfl ?_
    unfold wpY_blocked
    refine yq_is hl16 (fun _ => br_t rfl ⟨rfl, K0⟩) ?_
    intro r hr e
    subst e
    rcases hx with hx | hx
    · exact absurd hx (nI_pos (by omega))
    · exact absurd hx (nI_ge hr (by omega))
  · intro we wc rc so lo rj re rs nd np cf R r hr e
    subst e
    obtain ⟨v, f1, f2, _⟩ := wb_out (xfd := im_bi true) (xwg := xwg) (xwe := we) (xwc := wc) (xrt := xrt) (xsz := xsz) (xrg := xrg) (yrv := yrv) (ymt := ymt) (ynx := ynx) h1 h2 R h4 hr
    refine br_f (by decide) (f1 _ (f2 _ ⟨rfl, ?_⟩))
    exact zz_in h1 h2 (fun _ => R) h4
end BLOCKED
end
section
/-! a need held, a need let go -/
section HOLDS
variable {xjc xfd xrc xsr xoc xwg : Int32} {xjA xjB xcA xjt xhs xps xso xlo xrj xre xrs xnd xnp xcf xwe xwc xwt xto xlk xnc xhd xro xpg xrt xsz xrg : Nat → Int32}
variable {A B : Nat → Nat} {nj : Nat} {sg : Nat → Bool}
theorem ho_K {L : List (Nat × List (Nat × Nat))} {hl : Nat → Bool} {lk : Nat → Option Nat} {r k : Nat} (K : dn_K L hl lk) (hr : r < 16) (hk : k < 5) (hn : lk (rl_e L r k / 2) = none) (hs : rl_e L r k / 2 < 10) : dn_K L (im_u hl (5 * r + k) true) (im_u lk (rl_e L r k / 2) (some r)) := by
  obtain ⟨k1, k2⟩ := K
  refine ⟨?_, ?_⟩
  · intro s hs' r'
    by_cases e : s = rl_e L r k / 2
    · subst e
      rw [im_us]
      constructor
      · intro z; cases z; exact ⟨k, hk, im_us, rfl⟩
      · rintro ⟨i, hi, z1, z2⟩
        by_cases y : 5 * r' + i = 5 * r + k
        · have : r' = r := by omega
          rw [this]
        · rw [im_un y] at z1
          have := (k1 _ hs' r').mpr ⟨i, hi, z1, z2⟩
          rw [hn] at this; cases this
    · rw [im_un e, k1 s hs' r']
      constructor
      · rintro ⟨i, hi, z1, z2⟩
        refine ⟨i, hi, ?_, z2⟩
        rw [im_ue]; split
        · rfl
        · exact z1
      · rintro ⟨i, hi, z1, z2⟩
        refine ⟨i, hi, ?_, z2⟩
        by_cases y : 5 * r' + i = 5 * r + k
        · have h1 : r' = r := by omega
          have h2 : i = k := by omega
          subst h1; subst h2
          exact absurd z2.symm e
        · rw [im_un y] at z1; exact z1
  · intro s r' z
    rw [im_ue] at z
    split at z
    · cases z; exact hr
    · exact k2 s r' z
theorem hf_K {L : List (Nat × List (Nat × Nat))} {hl : Nat → Bool} {lk : Nat → Option Nat} {r k : Nat} (K : dn_K L hl lk) (hk : k < 5) (h : hl (5 * r + k) = true) (hu : ∀ i, i < 5 → hl (5 * r + i) = true → rl_e L r i / 2 = rl_e L r k / 2 → i = k) (hs : rl_e L r k / 2 < 10) : dn_K L (im_u hl (5 * r + k) false) (im_u lk (rl_e L r k / 2) none) := by
  obtain ⟨k1, k2⟩ := K
  refine ⟨?_, ?_⟩
  · intro s hs' r'
    by_cases e : s = rl_e L r k / 2
    · subst e
      rw [im_us]
      constructor
      · intro z; cases z
      · rintro ⟨i, hi, z1, z2⟩
        by_cases y : 5 * r' + i = 5 * r + k
        · rw [y, im_us] at z1; cases z1
        · rw [im_un y] at z1
          have a1 := (k1 _ hs' r').mpr ⟨i, hi, z1, z2⟩
          have a2 := (k1 _ hs' r).mpr ⟨k, hk, h, rfl⟩
          rw [a2] at a1; cases a1
          have := hu i hi z1 z2
          omega
    · rw [im_un e, k1 s hs' r']
      constructor
      · rintro ⟨i, hi, z1, z2⟩
        refine ⟨i, hi, ?_, z2⟩
        by_cases y : 5 * r' + i = 5 * r + k
        · have h1 : r' = r := by omega
          have h2 : i = k := by omega
          subst h1; subst h2
          exact absurd z2.symm e
        · rw [im_un y]; exact z1
      · rintro ⟨i, hi, z1, z2⟩
        refine ⟨i, hi, ?_, z2⟩
        by_cases y : 5 * r' + i = 5 * r + k
        · rw [y, im_us] at z1; cases z1
        · rw [im_un y] at z1; exact z1
  · intro s r' z
    rw [im_ue] at z
    split at z
    · cases z
    · exact k2 s r' z
def cn_V (A B : Nat → Nat) (nj j : Nat) (V : Nat → Nat) (N : Nat → Nat) : Nat → Nat := fun a => if sk_at A B j a = true ∧ sk_c A B nj a = 2 then V (N a) else N a
theorem ho_N {L : List (Nat × List (Nat × Nat))} {hl : Nat → Bool} {r k : Nat} (hr : r < 16) (hk : k < 5) (h : hl (5 * r + k) = false) : hs_N A B nj L (im_u hl (5 * r + k) true) = cn_V A B nj (rl_j L r k) (fun n => n + 1) (hs_N A B nj L hl) := by
  funext a
  have e1 : (5 * r + k) / 5 = r := by omega
  have e2 : (5 * r + k) % 5 = k := by omega
  unfold cn_V hs_N
  by_cases c : sk_c A B nj a = 2
  · rw [if_pos c, if_pos c, hs_on (by omega) h, e1, e2]
    cases z : sk_at A B (rl_j L r k) a
    · rw [if_neg (by rintro ⟨w, _⟩; cases w)]; rfl
    · rw [if_pos ⟨rfl, c⟩]; rfl
  · rw [if_neg c, if_neg c, if_neg (fun z => c z.2)]
theorem hf_N {L : List (Nat × List (Nat × Nat))} {hl : Nat → Bool} {r k : Nat} (hr : r < 16) (hk : k < 5) (h : hl (5 * r + k) = true) : hs_N A B nj L (im_u hl (5 * r + k) false) = cn_V A B nj (rl_j L r k) (fun n => n - 1) (hs_N A B nj L hl) ∧ ∀ a, sk_at A B (rl_j L r k) a = true → sk_c A B nj a = 2 → 1 ≤ hs_N A B nj L hl a := by
  have e1 : (5 * r + k) / 5 = r := by omega
  have e2 : (5 * r + k) % 5 = k := by omega
  refine ⟨?_, ?_⟩
  · funext a
    unfold cn_V hs_N
    by_cases c : sk_c A B nj a = 2
    · rw [if_pos c, if_pos c]
      have := hs_off (n := 80) (f := fun i => sk_at A B (rl_j L (i / 5) (i % 5)) a) (by omega) h
      rw [← this]
      simp only [e1, e2]
      cases z : sk_at A B (rl_j L r k) a
      · rw [if_neg (by rintro ⟨w, _⟩; cases w)]; rfl
      · rw [if_pos ⟨rfl, c⟩]; rfl
    · rw [if_neg c, if_neg c, if_neg (fun z => c z.2)]
  · intro a z c
    unfold hs_N
    rw [if_pos c]
    have : 0 < hs_S hl (fun i => sk_at A B (rl_j L (i / 5) (i % 5)) a) 80 := hs_pos.mpr ⟨5 * r + k, by omega, h, by simp only [e1, e2]; exact z⟩
    exact this
theorem hs_Nb {L : List (Nat × List (Nat × Nat))} {hl : Nat → Bool} (a : Nat) : hs_N A B nj L hl a ≤ 80 := by
  unfold hs_N
  split
  · exact hs_le 80
  · omega
theorem xn_need {pu : SX → Prop} {w : Int32} {V N : Nat → Nat} {j : Nat} (hj : j < 12) (hA : ∀ j, A j < 20) (hB : ∀ j, B j < 20) (h2 : ∀ a, sk_c A B nj a ≤ 2) (hab : A j ≠ B j)
    (h1 : ∀ a, sk_at A B j a = true → sk_c A B nj a = 2 → vp_nar .byte (nI (N a) + w).toInt8.toInt32 = nI (V (N a)))
    (h : pu (xjc, xfd, xrc, xsr, xoc, xwg, im_n A, im_n B, im_n (sk_c A B nj), xjt, xhs, xps, xso, xlo, xrj, xre, xrs, xnd, xnp, xcf, xwe, xwc, xwt, xto, xlk, im_n (cn_V A B nj j V N), xhd, xro, xpg, xrt, xsz, xrg)) :
    wpX_countNeeds pu (xjc, xfd, xrc, xsr, xoc, xwg, im_n A, im_n B, im_n (sk_c A B nj), xjt, xhs, xps, xso, xlo, xrj, xre, xrs, xnd, xnp, xcf, xwe, xwc, xwt, xto, xlk, im_n N, xhd, xro, xpg, xrt, xsz, xrg) (nI j) w := by
  have vj : vp_in (nI j) 12 := vp_in_nI hj (by omega)
  have hAj := hA j
  have hBj := hB j
  have atA : sk_at A B j (A j) = true := sk_atI.mpr (Or.inl rfl)
  have atB : sk_at A B j (B j) = true := sk_atI.mpr (Or.inr rfl)
  have vA : vp_in (nI (A j)) 20 := vp_in_nI hAj (by omega)
  have vB : vp_in (nI (B j)) 20 := vp_in_nI hBj (by omega)
  have cA2 := h2 (A j)
  have cB2 := h2 (B j)
  have rA : im_n A (nI j).toNatClampNeg = nI (A j) := im_nR rfl (by omega)
  have rB : im_n B (nI j).toNatClampNeg = nI (B j) := im_nR rfl (by omega)
  have half : ∀ N1 : Nat → Nat, (∀ a, a ≠ A j → N1 a = N a) → (N1 (A j) = if sk_c A B nj (A j) = 2 then V (N (A j)) else N (A j)) → wX_countNeeds_31 pu (nI j) w xjc xfd xrc xsr xoc xwg (im_n A) (im_n B) (im_n (sk_c A B nj)) xjt xhs xps xso xlo xrj xre xrs xnd xnp xcf xwe xwc xwt xto xlk (im_n N1) xhd xro xpg xrt xsz xrg := by
    intro N1 e1 e2
    have eB : N1 (B j) = N (B j) := e1 (B j) (fun z => hab z.symm)
    unfold wX_countNeeds_31
    rw [rB]
    refine And.intro vj (And.intro vB ?_)
    rw [im_nR (f := sk_c A B nj) (i := B j) rfl (by omega)]
    refine pk_eq (sk_c A B nj (B j)) 2 ?_ ?_
    · intro c
      refine And.intro vj (And.intro vB (And.intro vB ?_))
      refine nm_r (e' := im_n (cn_V A B nj j V N)) ?_ h
      refine (im_nS (i := B j) (v := V (N (B j))) rfl (by omega) ?_).trans (congrArg im_n ?_)
      · rw [im_nR (f := N1) (i := B j) rfl (by omega), eB]; exact h1 (B j) atB c
      · funext a
        unfold cn_V
        by_cases z : a = B j
        · subst z; rw [im_us, if_pos ⟨atB, c⟩]
        · rw [im_un z]
          by_cases y : a = A j
          · subst y; rw [e2]
            by_cases x : sk_c A B nj (A j) = 2
            · rw [if_pos x, if_pos ⟨atA, x⟩]
            · rw [if_neg x, if_neg (fun q => x q.2)]
          · rw [e1 a y, if_neg]
            rintro ⟨q, _⟩
            rcases sk_atI.mp q with q | q
            · exact y q.symm
            · exact z q.symm
    · intro c
      have : N1 = cn_V A B nj j V N := by
        funext a
        unfold cn_V
        by_cases z : a = B j
        · subst z; rw [eB, if_neg (fun q => c q.2)]
        · by_cases y : a = A j
          · subst y; rw [e2]
            by_cases x : sk_c A B nj (A j) = 2
            · rw [if_pos x, if_pos ⟨atA, x⟩]
            · rw [if_neg x, if_neg (fun q => x q.2)]
          · rw [e1 a y, if_neg]
            rintro ⟨q, _⟩
            rcases sk_atI.mp q with q | q
            · exact y q.symm
            · exact z q.symm
      rw [this]; exact h
  unfold wpX_countNeeds; dsimp only
  rw [rA]
  refine And.intro vj (And.intro vA ?_)
  rw [im_nR (f := sk_c A B nj) (i := A j) rfl (by omega)]
  refine pk_eq (sk_c A B nj (A j)) 2 ?_ ?_
  · intro c
    refine And.intro vj (And.intro vA (And.intro vA ?_))
    refine nm_r (im_nS (i := A j) (v := V (N (A j))) rfl (by omega) ?_) (half _ (fun a z => im_un z) ?_)
    · rw [im_nR (f := N) (i := A j) rfl (by omega)]; exact h1 (A j) atA c
    · rw [im_us, if_pos c]
  · intro c
    refine half _ (fun a _ => rfl) ?_
    rw [if_neg c]
end HOLDS
end
section
/-! set -/
section SET
variable {xjc xfd xrc xsr xoc xwg : Int32} {xjA xjB xcA xjt xhs xps xso xlo xrj xre xrs xnd xnp xcf xwe xwc xwt xto xlk xnc xhd xro xpg xrt xsz xrg : Nat → Int32}
variable {yjs yrs : Int32} {yon ytw ysg yps yfr yln yjt yen yst ywt yhl ylk yhd yun yed yrv ymt ynx : Nat → Int32}
variable {A B : Nat → Nat} {nj : Nat} {sg : Nat → Bool}
def hl_S (hl : Nat → Bool) (r k : Nat) : Nat → Bool := fun i => if 5 * r ≤ i ∧ i < 5 * r + k then true else hl i
theorem hl_S0 {hl : Nat → Bool} {r : Nat} : hl_S hl r 0 = hl := by
  funext i; unfold hl_S; rw [if_neg (by omega)]
theorem hl_Ss {hl : Nat → Bool} {r k : Nat} : im_u (hl_S hl r k) (5 * r + k) true = hl_S hl r (k + 1) := by
  funext i; unfold hl_S
  by_cases e : i = 5 * r + k
  · subst e; rw [im_us, if_pos (by omega)]
  · rw [im_un e]
    by_cases z : 5 * r ≤ i ∧ i < 5 * r + k
    · rw [if_pos z, if_pos (by omega)]
    · rw [if_neg z, if_neg (by omega)]
def lk_S (L : List (Nat × List (Nat × Nat))) (lk : Nat → Option Nat) (r : Nat) : Nat → Nat → Option Nat
  | 0 => lk
  | k + 1 => im_u (lk_S L lk r k) (rl_e L r k / 2) (some r)
theorem lk_Ss {L : List (Nat × List (Nat × Nat))} {lk : Nat → Option Nat} {r k : Nat} : lk_S L lk r (k + 1) = im_u (lk_S L lk r k) (rl_e L r k / 2) (some r) := rfl
theorem lk_So {L : List (Nat × List (Nat × Nat))} {lk : Nat → Option Nat} {r s : Nat} : ∀ k, (∀ i, i < k → rl_e L r i / 2 ≠ s) → lk_S L lk r k s = lk s := by
  intro k
  induction k with
  | zero => intro _; rfl
  | succ k ih =>
    intro h
    rw [lk_Ss, im_un (fun z => h k (Nat.lt_succ_self k) z.symm)]
    exact ih (fun i hi => h i (by omega))
theorem st_K {hl : Nat → Bool} {lk : Nat → Option Nat} {r : Nat} (hA : ∀ j, A j < 20) (hB : ∀ j, B j < 20) (hr : r < (gr_L A B nj sg).length) (K : dn_K (gr_L A B nj sg) hl lk) (h3 : ¬ wn_3 (gr_L A B nj sg) lk r) : ∀ k, k ≤ rl_n (gr_L A B nj sg) r → dn_K (gr_L A B nj sg) (hl_S hl r k) (lk_S (gr_L A B nj sg) lk r k) := by
  have hl16 := @rv_len A B nj sg
  have hn := rv_n hr
  intro k
  induction k with
  | zero => intro _; rw [hl_S0]; exact K
  | succ k ih =>
    intro hk
    rw [← hl_Ss, lk_Ss]
    refine ho_K (ih (by omega)) (by omega) (by omega) ?_ ?_
    · rw [lk_So k (fun i hi z => by have := rv_d hr (by omega) (by omega) z; omega)]
      cases z : lk (rl_e (gr_L A B nj sg) r k / 2) with
      | none => rfl
      | some q => exact absurd ⟨k, by omega, by rw [z]; exact Option.some_ne_none q⟩ h3
    · have := rv_e hA hB hr (show k < rl_n (gr_L A B nj sg) r by omega); omega
theorem dp_set {st : Nat → Bool} {wt ps ps' : Nat → Nat} {hl : Nat → Bool} {lk hd ro : Nat → Option Nat} {pg en : Nat → Nat} {to : Nat → Option Nat} {sr oc : Int32} {r : Nat} (hA : ∀ j, A j < 20) (hB : ∀ j, B j < 20) (I : dn_I (gr_L A B nj sg) st wt ps hl lk hd ro pg en to sr oc) (hr : r < (gr_L A B nj sg).length) (h1 : st r = false) (h2 : ¬ wn_2 (gr_L A B nj sg) hd r) (h3 : ¬ wn_3 (gr_L A B nj sg) lk r) (hp : ∀ a, ps' a ≤ 1) :
    dn_I (gr_L A B nj sg) (im_u st r true) (im_u wt r 0) ps' (hl_S hl r (rl_n (gr_L A B nj sg) r)) (lk_S (gr_L A B nj sg) lk r (rl_n (gr_L A B nj sg) r)) hd ro pg en (im_u to r none) (sr ||| ((1 : Int32) <<< (nI r &&& 31))) oc := by
  have hl16 := @rv_len A B nj sg
  have hn := rv_n hr
  obtain ⟨⟨a1, a2, a3⟩, T, ⟨r1, r2, r3⟩, ⟨o1, o2⟩, H, K, F, p⟩ := I
  have nr : ∀ t, t < 3 → ro t = some r → False := by
    intro t ht e
    have := (r1 t r ht e).1
    rw [h1] at this; cases this
  have hr0 : ∀ k, k < 5 → hl (5 * r + k) = false := by
    intro k hk
    apply Bool.eq_false_iff.mpr
    intro z
    have := ((H r k hk).mp z).1
    rw [h1] at this; cases this
  have hS : ∀ r' k, k < 5 → r' ≠ r → hl_S hl r (rl_n (gr_L A B nj sg) r) (5 * r' + k) = hl (5 * r' + k) := by
    intro r' k hk e; unfold hl_S; rw [if_neg (by omega)]
  have hSr : ∀ k, k < 5 → (hl_S hl r (rl_n (gr_L A B nj sg) r) (5 * r + k) = true ↔ k < rl_n (gr_L A B nj sg) r) := by
    intro k hk; unfold hl_S
    by_cases z : k < rl_n (gr_L A B nj sg) r
    · rw [if_pos (by omega)]; exact ⟨fun _ => z, fun _ => rfl⟩
    · rw [if_neg (by omega), hr0 k hk]; exact ⟨(fun q => by cases q), fun q => absurd q z⟩
  refine ⟨⟨?_, ?_, ?_⟩, T, ⟨?_, r2, r3⟩, ⟨?_, ?_⟩, ?_, st_K hA hB hr K h3 _ (Nat.le_refl _), ?_, hp⟩
  · intro x z
    by_cases e : x = r
    · subst e; exact hr
    · rw [im_un e] at z; exact a1 x z
  · intro x
    by_cases e : x = r
    · subst e; rw [im_us]; exact ⟨by omega, fun z => absurd rfl z⟩
    · rw [im_un e, im_un e]; exact a2 x
  · intro x
    rw [ib_set _ (by omega), a3]
    by_cases e : x = r
    · subst e; rw [im_us, decide_eq_true rfl, Bool.or_true]
    · rw [im_un e, decide_eq_false e, Bool.or_false]
  · intro t r' ht e
    have e' : r' ≠ r := fun z => nr t ht (z ▸ e)
    rw [im_un e', im_un e']
    exact r1 t r' ht e
  · intro r' z
    by_cases e : r' = r
    · subst e
      rw [im_us]
      exact ⟨(fun ⟨x, q⟩ => by cases q), fun ⟨t, ht, q⟩ => absurd (nr t ht q) id⟩
    · rw [im_un e] at z ⊢
      exact o1 r' z
  · intro r' x z
    rw [im_ue] at z
    split at z
    · cases z
    · exact o2 r' x z
  · intro r' k hk
    by_cases e : r' = r
    · subst e
      rw [hSr k hk, im_us]
      exact ⟨fun z => ⟨rfl, z, fun t ht q => absurd (nr t ht q) id⟩, fun z => z.2.1⟩
    · rw [hS r' k hk e, im_un e]
      exact H r' k hk
  · intro t h r' k ht e1 hk e2 e3
    by_cases e : r' = r
    · subst e
      exact absurd ⟨k, (hSr k hk).mp e2, t, h, ht, e1, e3⟩ h2
    · rw [hS r' k hk e] at e2
      exact F t h r' k ht e1 hk e2 e3
/-- positions that a route needs -/
def ps_T (nd np : Nat → Int32) (r : Nat) (ps : Nat → Nat) : Nat → Nat := fun a => if bt (nd r) a = true then (bt (np r) a).toNat else ps a
theorem sx_46 {post : Int32 → SX → Prop} {ps : Nat → Nat} {r : Nat} (hr : r < 16) (hp : ∀ a, ps a ≤ 1) (h : ∃ n, wX_set_80 post (nI r) n 0 xjc xfd xrc xsr xoc xwg xjA xjB xcA xjt xhs (im_n (im_m 20 (ps_T xnd xnp r ps) ps)) xso xlo xrj xre xrs xnd xnp xcf xwe xwc xwt xto xlk xnc xhd xro xpg xrt xsz xrg) : ∃ n, wX_set_46 post (nI r) xjc xfd xrc xsr xoc xwg n 0 xjA xjB xcA xjt xhs (im_n ps) xso xlo xrj xre xrs xnd xnp xcf xwe xwc xwt xto xlk xnc xhd xro xpg xrt xsz xrg := by
  refine Exists.intro (20 + 1) ?_
  refine lq_run0 (fun n i (s : Nat → Nat) => wX_set_46 post (nI r) xjc xfd xrc xsr xoc xwg n (nI i) xjA xjB xcA xjt xhs (im_n s) xso xlo xrj xre xrs xnd xnp xcf xwe xwc xwt xto xlk xnc xhd xro xpg xrt xsz xrg) 20 (fun i => im_m i (ps_T xnd xnp r ps) ps) ?_ ?_
  · intro n
    exact br_t (Int32.le_refl _) h
  · intro n i hi hw
    have pi := hp i
    have vi : vp_in (nI i) 20 := vp_in_nI hi (by omega)
    have bn := Bool.toNat_le (bt (xnp r) i)
    refine br_f (nI_ge (b := 20) hi (by omega)) ?_
    refine xs_must hr hi (by rw [im_mi]; exact pi) ?_ ?_
    · intro z
      refine br_t rfl (nm_r (nI_1 i) ?_)
      have e : ps_T xnd xnp r ps i = ps i := by
        unfold ps_T
        by_cases y : bt (xnd r) i = true
        · rw [if_pos y]
          apply Classical.byContradiction
          intro w
          exact z ⟨y, by rw [im_mi]; exact w⟩
        · rw [if_neg y]
      have hw' := hw
      rw [im_mk e] at hw'
      exact hw'
    · intro z
      obtain ⟨z1, z2⟩ := z
      rw [im_mi] at z2
      have e : ps_T xnd xnp r ps i = (bt (xnp r) i).toNat := by unfold ps_T; rw [if_pos z1]
      refine br_f (by decide) (And.intro vi (And.intro vi ?_))
      refine nm_r (e' := im_n (im_m (i + 1) (ps_T xnd xnp r ps) ps)) ((im_nS (i := i) (v := (bt (xnp r) i).toNat) rfl (by omega) ?_).trans (congrArg im_n (im_ms e))) (nm_r (nI_1 i) hw)
      rw [im_nR (i := i) rfl (by omega), im_mi]
      have hc : (ps i = 0 ∧ (bt (xnp r) i).toNat = 1) ∨ (ps i = 1 ∧ (bt (xnp r) i).toNat = 0) := by omega
      rcases hc with ⟨c1, c2⟩ | ⟨c1, c2⟩
      · rw [c1, c2]; exact im_by (v := 1) (by omega)
      · rw [c1, c2]; exact im_by (v := 0) (by omega)
theorem sx_80 {post : Int32 → SX → Prop} {hl : Nat → Bool} {lk : Nat → Option Nat} {r : Nat} (S : sk_St A B nj xjt) (R : rx_F A B nj sg xrc xso xlo xrj xre xrs xnd xnp xcf) (hr : r < (gr_L A B nj sg).length) (h0 : ∀ k, k < 5 → hl (5 * r + k) = false)
    (h : post 1 (xjc, xfd, xrc, xsr, xoc, xwg, im_n A, im_n B, im_n (sk_c A B nj), xjt, xhs, xps, xso, xlo, xrj, xre, xrs, xnd, xnp, xcf, xwe, xwc, xwt, xto, im_o (-1) (lk_S (gr_L A B nj sg) lk r (rl_n (gr_L A B nj sg) r)), im_n (hs_N A B nj (gr_L A B nj sg) (hl_S hl r (rl_n (gr_L A B nj sg) r))), xhd, xro, xpg, xrt, xsz, xrg)) :
    ∃ n, wX_set_80 post (nI r) n 0 xjc xfd xrc xsr xoc xwg (im_n A) (im_n B) (im_n (sk_c A B nj)) xjt xhs xps xso xlo xrj xre xrs xnd xnp xcf xwe xwc xwt xto (im_o (-1) lk) (im_n (hs_N A B nj (gr_L A B nj sg) hl)) xhd xro xpg xrt xsz xrg := by
  have hl16 := @rv_len A B nj sg
  have hn := rv_n hr
  have vr : vp_in (nI r) 16 := vp_in_nI (by omega) (by omega)
  have cr : (nI r).toNatClampNeg = r := nI_clamp (by omega)
  obtain ⟨q1, q2, q3, _⟩ := rx_get R hr
  refine Exists.intro (rl_n (gr_L A B nj sg) r + 1) ?_
  have z0 : hl_S hl r 0 = hl := hl_S0
  have z1 : lk_S (gr_L A B nj sg) lk r 0 = lk := rfl
  have run := lq_run0 (fun n k (s : (Nat → Option Nat) × (Nat → Bool)) => wX_set_80 post (nI r) n (nI k) xjc xfd xrc xsr xoc xwg (im_n A) (im_n B) (im_n (sk_c A B nj)) xjt xhs xps xso xlo xrj xre xrs xnd xnp xcf xwe xwc xwt xto (im_o (-1) s.1) (im_n (hs_N A B nj (gr_L A B nj sg) s.2)) xhd xro xpg xrt xsz xrg) (rl_n (gr_L A B nj sg) r) (fun k => (lk_S (gr_L A B nj sg) lk r k, hl_S hl r k)) ?_ ?_
  · dsimp only at run
    rw [z0, z1] at run
    exact run
  · intro n
    dsimp only
    refine And.intro vr (br_t ?_ h)
    rw [cr, q2]; exact Int32.le_refl _
  · intro n k hk hw
    dsimp only at hw ⊢
    have e20 := rv_e S.2.1 S.2.2.1 hr hk
    have hj := rv_j hr hk
    have hnj := S.1
    have e5 : 5 * nI r + nI k = nI (5 * r + k) := ix_5 r k
    have v5 : vp_in (5 * nI r + nI k) 80 := by rw [e5]; exact vp_in_nI (by omega) (by omega)
    have c5 : (5 * nI r + nI k).toNatClampNeg = 5 * r + k := by rw [e5]; exact nI_clamp (by omega)
    refine And.intro vr (br_f ?_ (And.intro v5 (And.intro ix_20 ?_)))
    · rw [cr, q2]; exact nI_ge hk (by omega)
    rw [c5, (q3 k hk).2, ix_h (by omega)]
    refine And.intro (vp_in_nI (by omega) (by omega)) ?_
    refine nm_r (e' := im_o (-1) (lk_S (gr_L A B nj sg) lk r (k + 1))) (im_oS (v := some r) rfl (by omega) (im_by (by omega))) (And.intro v5 ?_)
    rw [(q3 k hk).1]
    refine xn_need (V := fun n => n + 1) (by omega) S.2.1 S.2.2.1 S.2.2.2.2.1 ?_ ?_ ?_
    · intro z
      have := S.2.2.2.1 _ hj
      rw [z] at this
      exact this rfl
    · intro a _ _
      have := @hs_Nb A B nj (gr_L A B nj sg) (hl_S hl r k) a
      rw [nI_1]; exact im_by (by omega)
    · refine nm_r (nI_1 k) ?_
      have hf : hl_S hl r k (5 * r + k) = false := by unfold hl_S; rw [if_neg (by omega)]; exact h0 k (by omega)
      have hw' := hw
      rw [← hl_Ss, ho_N (by omega) (by omega) hf] at hw'
      exact hw'
theorem sx_set {post : Int32 → SX → Prop} {wt ps : Nat → Nat} {hl : Nat → Bool} {lk to : Nat → Option Nat} {r : Nat} {v : Int32} (S : sk_St A B nj xjt) (R : rx_F A B nj sg xrc xso xlo xrj xre xrs xnd xnp xcf) (hr : r < (gr_L A B nj sg).length) (hp : ∀ a, ps a ≤ 1) (h0 : v = 0 → ∀ k, k < 5 → hl (5 * r + k) = false)
    (hv : ∀ post : Int32 → Prop, post v → wpX_whyNot post (xjc, xfd, xrc, xsr, xoc, xwg, im_n A, im_n B, im_n (sk_c A B nj), xjt, xhs, im_n ps, xso, xlo, xrj, xre, xrs, xnd, xnp, xcf, xwe, xwc, im_n wt, im_o (-1) to, im_o (-1) lk, im_n (hs_N A B nj (gr_L A B nj sg) hl), xhd, xro, xpg, xrt, xsz, xrg) (nI r))
    (n0 : ¬ v = 0 → post 0 (xjc, xfd, xrc, xsr, xoc, xwg, im_n A, im_n B, im_n (sk_c A B nj), xjt, xhs, im_n ps, xso, xlo, xrj, xre, xrs, xnd, xnp, xcf, xwe, xwc, im_n wt, im_o (-1) to, im_o (-1) lk, im_n (hs_N A B nj (gr_L A B nj sg) hl), xhd, xro, xpg, xrt, xsz, xrg))
    (n1 : v = 0 → post 1 (xjc, xfd, xrc, xsr ||| ((1 : Int32) <<< (nI r &&& 31)), xoc, xwg, im_n A, im_n B, im_n (sk_c A B nj), xjt, xhs, im_n (im_m 20 (ps_T xnd xnp r ps) ps), xso, xlo, xrj, xre, xrs, xnd, xnp, xcf, xwe, xwc, im_n (im_u wt r 0), im_o (-1) (im_u to r none), im_o (-1) (lk_S (gr_L A B nj sg) lk r (rl_n (gr_L A B nj sg) r)), im_n (hs_N A B nj (gr_L A B nj sg) (hl_S hl r (rl_n (gr_L A B nj sg) r))), xhd, xro, xpg, xrt, xsz, xrg)) :
    wpX_whyNot (fun r_35 => (r_35 = 0 → ∀ sr', sr' = xsr ||| ((1 : Int32) <<< (nI r &&& 31)) → vp_in (nI r) 16 ∧ ∀ wt', wt' = upd (im_n wt) (nI r).toNatClampNeg (vp_nar .byte 0) → vp_in (nI r) 16 ∧ ∀ to', to' = upd (im_o (-1) to) (nI r).toNatClampNeg (vp_nar .byte (-1)) → ∃ n46, wX_set_46 post (nI r) xjc xfd xrc sr' xoc xwg n46 0 (im_n A) (im_n B) (im_n (sk_c A B nj)) xjt xhs (im_n ps) xso xlo xrj xre xrs xnd xnp xcf xwe xwc wt' to' (im_o (-1) lk) (im_n (hs_N A B nj (gr_L A B nj sg) hl)) xhd xro xpg xrt xsz xrg) ∧ (¬ r_35 = 0 → post 0 (xjc, xfd, xrc, xsr, xoc, xwg, im_n A, im_n B, im_n (sk_c A B nj), xjt, xhs, im_n ps, xso, xlo, xrj, xre, xrs, xnd, xnp, xcf, xwe, xwc, im_n wt, im_o (-1) to, im_o (-1) lk, im_n (hs_N A B nj (gr_L A B nj sg) hl), xhd, xro, xpg, xrt, xsz, xrg))) (xjc, xfd, xrc, xsr, xoc, xwg, im_n A, im_n B, im_n (sk_c A B nj), xjt, xhs, im_n ps, xso, xlo, xrj, xre, xrs, xnd, xnp, xcf, xwe, xwc, im_n wt, im_o (-1) to, im_o (-1) lk, im_n (hs_N A B nj (gr_L A B nj sg) hl), xhd, xro, xpg, xrt, xsz, xrg) (nI r) := by
  have hl16 := @rv_len A B nj sg
  have vr : vp_in (nI r) 16 := vp_in_nI (by omega) (by omega)
  refine hv _ (br_c ?_ n0)
  intro z
  refine nm_e (And.intro vr ?_)
  refine nm_r (im_nS (v := 0) rfl (by omega) im_by0) (And.intro vr ?_)
  refine nm_r (im_oS (v := none) rfl (by omega) im_bym) ?_
  exact sx_46 (by omega) hp (sx_80 S R hr (h0 z) (n1 z))
/-- the reference's positions -/
def ps_E (A B : Nat → Nat) (nj j : Nat) (ps : Nat → Nat) (e : Nat) : Nat → Nat := if 2 ≤ sk_c A B nj (en_of A B j e) then im_u ps (en_of A B j e) (nd_p A B nj j (en_of A B j e)) else ps
def ps_Y (A B : Nat → Nat) (nj : Nat) (L : List (Nat × List (Nat × Nat))) (r : Nat) (ps : Nat → Nat) : Nat → Nat → Nat
  | 0 => ps
  | k + 1 => ps_E A B nj (rl_j L r k) (ps_E A B nj (rl_j L r k) (ps_Y A B nj L r ps k) 0) 1
theorem ps_Ea {j a : Nat} {ps : Nat → Nat} : ps_E A B nj j (ps_E A B nj j ps 0) 1 a = if sk_at A B j a = true ∧ 2 ≤ sk_c A B nj a then nd_p A B nj j a else ps a := by
  have e0 : en_of A B j 0 = A j := rfl
  have e1 : en_of A B j 1 = B j := rfl
  have one : ∀ f e, ps_E A B nj j f e a = if en_of A B j e = a ∧ 2 ≤ sk_c A B nj a then nd_p A B nj j a else f a := by
    intro f e
    unfold ps_E
    by_cases c : 2 ≤ sk_c A B nj (en_of A B j e)
    · rw [if_pos c]
      by_cases z : a = en_of A B j e
      · subst z; rw [im_us, if_pos ⟨rfl, c⟩]
      · rw [im_un z, if_neg (fun q => z q.1.symm)]
    · rw [if_neg c, if_neg]
      rintro ⟨q1, q2⟩; rw [q1] at c; exact c q2
  rw [one, one, e0, e1]
  by_cases c : 2 ≤ sk_c A B nj a
  · by_cases z1 : B j = a
    · rw [if_pos ⟨z1, c⟩, if_pos ⟨sk_atI.mpr (Or.inr z1), c⟩]
    · rw [if_neg (fun q => z1 q.1)]
      by_cases z2 : A j = a
      · rw [if_pos ⟨z2, c⟩, if_pos ⟨sk_atI.mpr (Or.inl z2), c⟩]
      · rw [if_neg (fun q => z2 q.1), if_neg]
        rintro ⟨q, _⟩
        rcases sk_atI.mp q with q | q
        · exact z2 q
        · exact z1 q
  · rw [if_neg (fun q => c q.2), if_neg (fun q => c q.2), if_neg (fun q => c q.2)]
theorem ps_Ys {L : List (Nat × List (Nat × Nat))} {r k a : Nat} {ps : Nat → Nat} : ps_Y A B nj L r ps (k + 1) a = if sk_at A B (rl_j L r k) a = true ∧ 2 ≤ sk_c A B nj a then nd_p A B nj (rl_j L r k) a else ps_Y A B nj L r ps k a := ps_Ea
theorem ps_Ye {rc : Int32} {so lo rj re rs nd np cf : Nat → Int32} {r : Nat} {ps : Nat → Nat} (R : rx_F A B nj sg rc so lo rj re rs nd np cf) (hr : r < (gr_L A B nj sg).length) (h2 : ∀ a, sk_c A B nj a ≤ 2) (hA : ∀ j, A j < 20) (hB : ∀ j, B j < 20) : ps_Y A B nj (gr_L A B nj sg) r ps (rl_n (gr_L A B nj sg) r) = im_m 20 (ps_T nd np r ps) ps := by
  have key : ∀ K, K ≤ rl_n (gr_L A B nj sg) r → ∀ a, (∀ k, k < K → sk_at A B (rl_j (gr_L A B nj sg) r k) a = true → 2 ≤ sk_c A B nj a → ps_Y A B nj (gr_L A B nj sg) r ps K a = nd_p A B nj (rl_j (gr_L A B nj sg) r k) a) ∧ ((∀ k, k < K → ¬ (sk_at A B (rl_j (gr_L A B nj sg) r k) a = true ∧ 2 ≤ sk_c A B nj a)) → ps_Y A B nj (gr_L A B nj sg) r ps K a = ps a) := by
    intro K
    induction K with
    | zero => intro _ a; exact ⟨fun k hk => absurd hk (Nat.not_lt_zero k), fun _ => rfl⟩
    | succ K ih =>
      intro hK a
      obtain ⟨i1, i2⟩ := ih (by omega) a
      rw [ps_Ys]
      refine ⟨?_, ?_⟩
      · intro k hk z c
        by_cases e : k = K
        · subst e; rw [if_pos ⟨z, c⟩]
        · rw [if_neg]
          · exact i1 k (by omega) z c
          · rintro ⟨q, _⟩
            exact e (rv_u hr (by omega) (by omega) z q)
      · intro h
        rw [if_neg (h K (Nat.lt_succ_self K))]
        exact i2 (fun k hk => h k (by omega))
  funext a
  obtain ⟨i1, i2⟩ := key _ (Nat.le_refl _) a
  unfold im_m ps_T
  by_cases z : bt (nd r) a = true
  · obtain ⟨k, hk, e, c⟩ := (rb_nd R hr a).mp z
    have ha : a < 20 := by
      rcases sk_atI.mp e with y | y
      · rw [← y]; exact hA _
      · rw [← y]; exact hB _
    rw [if_pos ha, if_pos z, i1 k hk e c, rb_np R hr h2 hk e c]
  · rw [if_neg z, i2 (fun k hk q => z ((rb_nd R hr a).mpr ⟨k, hk, q⟩))]
    split <;> rfl
theorem sy_73 {post : Int32 → SY → Prop} {J : Int32 → (Nat → Int32) → (Nat → Int32) → (Nat → Int32) → (Nat → Int32) → (Nat → Int32) → (Nat → Int32) → (Nat → Int32) → (Nat → Int32) → (Nat → Int32) → (Nat → Int32) → (Nat → Int32) → (Nat → Int32) → (Nat → Int32) → (Nat → Int32) → (Nat → Int32) → (Nat → Int32) → (Nat → Int32) → (Nat → Int32) → Prop} {x1 : Int32} {ps : Nat → Nat} {i j : Nat} (hn : nj ≤ 12) (hA : ∀ j, A j < 20) (hB : ∀ j, B j < 20) (h2 : ∀ a, sk_c A B nj a ≤ 2) (hi : i < 80) (hj : j < 12) (hjt : yjt i = nI j)
    (h : J (nI (i + 1)) (im_n A) (im_n B) ysg (im_n (ps_E A B nj j (ps_E A B nj j ps 0) 1)) yfr yln yjt yen yst ywt yhl ylk yhd yun yed yrv ymt ynx) :
    ∃ n, wY_set_73 post J x1 (nI i) (nI nj) yrs n 0 (im_n A) (im_n B) ysg (im_n ps) yfr yln yjt yen yst ywt yhl ylk yhd yun yed yrv ymt ynx := by
  have vi : vp_in (nI i) 80 := vp_in_nI hi (by omega)
  have ci : (nI i).toNatClampNeg = i := nI_clamp (by omega)
  have step : ∀ (n e : Nat) (f : Nat → Nat), e < 2 → wY_set_73 post J x1 (nI i) (nI nj) yrs n (nI (e + 1)) (im_n A) (im_n B) ysg (im_n (ps_E A B nj j f e)) yfr yln yjt yen yst ywt yhl ylk yhd yun yed yrv ymt ynx → wY_set_73 post J x1 (nI i) (nI nj) yrs (n + 1) (nI e) (im_n A) (im_n B) ysg (im_n f) yfr yln yjt yen yst ywt yhl ylk yhd yun yed yrv ymt ynx := by
    intro n e f he hw
    have ha := en_20 hA hB j e
    refine br_f (nI_ge (b := 2) he (by omega)) (And.intro vi ?_)
    rw [ci, hjt]
    refine ys_needed hj he hn hA hB h2 ?_
    unfold ps_E at hw
    unfold ne_v
    by_cases c : 2 ≤ sk_c A B nj (en_of A B j e)
    · rw [if_pos c] at hw ⊢
      have q1 := @nd_p01 A B nj j (en_of A B j e)
      refine br_f (nI_pos (by omega)) (And.intro vi ?_)
      refine ys_endOf hj he (And.intro (vp_in_nI ha (by omega)) ?_)
      exact nm_r (im_nS rfl (by omega) rfl) (nm_r (nI_1 e) hw)
    · rw [if_neg c] at hw ⊢
      exact br_t im_m1 (nm_r (nI_1 e) hw)
  refine Exists.intro 3 (step 2 0 ps (by omega) (step 1 1 _ (by omega) ?_))
  exact br_t (Int32.le_refl _) (nm_r (nI_1 i) h)
theorem sy_36 {post : Int32 → SY → Prop} {ps : Nat → Nat} {hl : Nat → Bool} {lk : Nat → Option Nat} {r : Nat} (S : sk_St A B nj xjt) (Y : rp_Y (gr_L A B nj sg) yrs yfr yln yjt yen) (hr : r < (gr_L A B nj sg).length)
    (h : post 1 (nI nj, yrs, im_n A, im_n B, ysg, im_n (ps_Y A B nj (gr_L A B nj sg) r ps (rl_n (gr_L A B nj sg) r)), yfr, yln, yjt, yen, yst, ywt, im_b (hl_S hl r (rl_n (gr_L A B nj sg) r)), im_o (-2) (lk_S (gr_L A B nj sg) lk r (rl_n (gr_L A B nj sg) r)), yhd, yun, yed, yrv, ymt, ynx)) :
    ∃ n, wY_set_36 post (nI r) (nI nj) yrs n (nI (5 * r)) (im_n A) (im_n B) ysg (im_n ps) yfr yln yjt yen yst ywt (im_b hl) (im_o (-2) lk) yhd yun yed yrv ymt ynx := by
  have hl16 := @rv_len A B nj sg
  have hn := rv_n hr
  have vr : vp_in (nI r) 16 := vp_in_nI (by omega) (by omega)
  have cr : (nI r).toNatClampNeg = r := nI_clamp (by omega)
  obtain ⟨q1, q2, q3⟩ := ry_get Y hr
  have e5 : 5 * nI r + nI (rl_n (gr_L A B nj sg) r) = nI (5 * r + rl_n (gr_L A B nj sg) r) := ix_5 _ _
  refine Exists.intro (rl_n (gr_L A B nj sg) r + 1) ?_
  have z0 : hl_S hl r 0 = hl := hl_S0
  have z2 : ps_Y A B nj (gr_L A B nj sg) r ps 0 = ps := rfl
  have z1 : lk_S (gr_L A B nj sg) lk r 0 = lk := rfl
  have run := lq_run0 (fun n k (s : (Nat → Option Nat) × (Nat → Bool) × (Nat → Nat)) => wY_set_36 post (nI r) (nI nj) yrs n (nI (5 * r + k)) (im_n A) (im_n B) ysg (im_n s.2.2) yfr yln yjt yen yst ywt (im_b s.2.1) (im_o (-2) s.1) yhd yun yed yrv ymt ynx) (rl_n (gr_L A B nj sg) r) (fun k => (lk_S (gr_L A B nj sg) lk r k, hl_S hl r k, ps_Y A B nj (gr_L A B nj sg) r ps k)) ?_ ?_
  · dsimp only at run
    rw [z0, z1, z2] at run
    exact run
  · intro n
    dsimp only
    refine And.intro vr (br_t ?_ h)
    rw [cr, q2, e5]; exact Int32.le_refl _
  · intro n k hk hw
    dsimp only at hw ⊢
    have e20 := rv_e S.2.1 S.2.2.1 hr hk
    have hj := rv_j hr hk
    have hnj := S.1
    have v5 : vp_in (nI (5 * r + k)) 80 := vp_in_nI (by omega) (by omega)
    have c5 : (nI (5 * r + k)).toNatClampNeg = 5 * r + k := nI_clamp (by omega)
    refine And.intro vr (br_f ?_ (And.intro v5 ?_))
    · rw [cr, q2, e5]; exact nI_ge (by omega) (by omega)
    refine nm_r (e' := im_b (hl_S hl r (k + 1))) ((im_bS (i := 5 * r + k) (v := true) rfl (by omega) im_bo1).trans (congrArg im_b hl_Ss)) (And.intro v5 (And.intro ix_20 ?_))
    rw [c5, (q3 k hk).2, ix_h (by omega)]
    refine And.intro (vp_in_nI (by omega) (by omega)) ?_
    refine nm_r (e' := im_o (-2) (lk_S (gr_L A B nj sg) lk r (k + 1))) (im_oS (v := some r) rfl (by omega) rfl) ?_
    exact sy_73 hnj S.2.1 S.2.2.1 S.2.2.2.2.1 (by omega) (by omega) (q3 k hk).1 hw
theorem i_vc_set {k : Nat} {u : SX} {v : SY} (I : i_Rel k u v) (hk : k + 3 ≤ 1536) (v1 : Int32) : wpX_set (fun r u' => wpY_set (fun r' v' => r' = r ∧ i_Rel (k + 3) u' v') v v1) u v1 := by
  refine zz_el (P := fun u v => wpX_set (fun r u' => wpY_set (fun r' v' => r' = r ∧ i_Rel (k + 3) u' v') v v1) u v1) ?_ I
  intro nj A B sg fd g xrc xwg xjt xso xlo xrj xre xrs xnd xnp xcf xwe xwc xrt xsz xrg yrs yfr yln yjt yen yrv ymt ynx h1 h2 h3 h4
  have hl16 := @rv_len A B nj sg
  have ey : yrs = nI (gr_L A B nj sg).length := h2.1
  unfold wpX_set
  refine xq_is h1 h3 ?_ ?_
  · intro we wc rc so lo rj re rs nd np cf R hx
    have K0 := zz_in (k := k + 3) (fd := true) (xwg := xwg) (xwe := we) (xwc := wc) (xrt := xrt) (xsz := xsz) (xrg := xrg) (yrv := yrv) (ymt := ymt) (ynx := ynx) h1 h2 (fun _ => R) h4
    rw [ey] at K0 ⊢
    refine br_t rfl ?_
    unfold wpY_set
    refine yq_is hl16 (fun _ => br_t rfl ⟨rfl, K0⟩) ?_
    intro r hr e
    subst e
    rcases hx with hx | hx
    · exact absurd hx (nI_pos (by omega))
    · exact absurd hx (nI_ge hr (by omega))
  · intro we wc rc so lo rj re rs nd np cf R r hr e
    subst e
    obtain ⟨v, f1, f2, f3⟩ := wb_out (xfd := im_bi true) (xwg := xwg) (xwe := we) (xwc := wc) (xrt := xrt) (xsz := xsz) (xrg := xrg) (yrv := yrv) (ymt := ymt) (ynx := ynx) h1 h2 R h4 hr
    have K0 := zz_in (k := k + 3) (fd := true) (xwg := xwg) (xwe := we) (xwc := wc) (xrt := xrt) (xsz := xsz) (xrg := xrg) (yrv := yrv) (ymt := ymt) (ynx := ynx) h1 h2 (fun _ => R) h4
    have vr : vp_in (nI r) 16 := vp_in_nI (by omega) (by omega)
    have hz : v = 0 → ∀ k, k < 5 → dg_hl g (5 * r + k) = false := by
      intro z k hk
      apply Bool.eq_false_iff.mpr
      intro w
      have := ((h4.2.2.2.2.1 r k hk).mp w).1
      rw [(f3 z).1] at this; cases this
    have Ys : ∀ (Q : Int32 → SY → Prop), (¬ v = 0 → Q 0 (nI nj, yrs, im_n A, im_n B, im_b sg, im_n (dg_ps g), yfr, yln, yjt, yen, im_b (dg_st g), im_n (dg_wt g), im_b (dg_hl g), im_o (-2) (dg_lk g), im_o (-1) (dg_hd g), im_o (-1) (dg_ro g), im_n (dg_en g), yrv, ymt, ynx)) → (v = 0 → Q 1 (nI nj, yrs, im_n A, im_n B, im_b sg, im_n (ps_Y A B nj (gr_L A B nj sg) r (dg_ps g) (rl_n (gr_L A B nj sg) r)), yfr, yln, yjt, yen, im_b (im_u (dg_st g) r true), im_n (im_u (dg_wt g) r 0), im_b (hl_S (dg_hl g) r (rl_n (gr_L A B nj sg) r)), im_o (-2) (lk_S (gr_L A B nj sg) (dg_lk g) r (rl_n (gr_L A B nj sg) r)), im_o (-1) (dg_hd g), im_o (-1) (dg_ro g), im_n (dg_en g), yrv, ymt, ynx)) → wpY_set Q (nI nj, yrs, im_n A, im_n B, im_b sg, im_n (dg_ps g), yfr, yln, yjt, yen, im_b (dg_st g), im_n (dg_wt g), im_b (dg_hl g), im_o (-2) (dg_lk g), im_o (-1) (dg_hd g), im_o (-1) (dg_ro g), im_n (dg_en g), yrv, ymt, ynx) (nI r) := by
      intro Q n0 n1
      unfold wpY_set
      have yq := yq_is (post := fun r_1 => (r_1 = 0 → Q 0 (nI nj, yrs, im_n A, im_n B, im_b sg, im_n (dg_ps g), yfr, yln, yjt, yen, im_b (dg_st g), im_n (dg_wt g), im_b (dg_hl g), im_o (-2) (dg_lk g), im_o (-1) (dg_hd g), im_o (-1) (dg_ro g), im_n (dg_en g), yrv, ymt, ynx)) ∧ (¬ r_1 = 0 → wpY_blocked (fun r_23 => (r_23 = 0 → vp_in (nI r) 16 ∧ ∀ st', st' = upd (im_b (dg_st g)) (nI r).toNatClampNeg (vp_nar .boolean 1) → vp_in (nI r) 16 ∧ ∀ wt', wt' = upd (im_n (dg_wt g)) (nI r).toNatClampNeg 0 → ∀ x2, x2 = 5 * nI r → ∃ n36, wY_set_36 Q (nI r) (nI nj) yrs n36 x2 (im_n A) (im_n B) (im_b sg) (im_n (dg_ps g)) yfr yln yjt yen st' wt' (im_b (dg_hl g)) (im_o (-2) (dg_lk g)) (im_o (-1) (dg_hd g)) (im_o (-1) (dg_ro g)) (im_n (dg_en g)) yrv ymt ynx) ∧ (¬ r_23 = 0 → Q 0 (nI nj, yrs, im_n A, im_n B, im_b sg, im_n (dg_ps g), yfr, yln, yjt, yen, im_b (dg_st g), im_n (dg_wt g), im_b (dg_hl g), im_o (-2) (dg_lk g), im_o (-1) (dg_hd g), im_o (-1) (dg_ro g), im_n (dg_en g), yrv, ymt, ynx))) (nI nj, yrs, im_n A, im_n B, im_b sg, im_n (dg_ps g), yfr, yln, yjt, yen, im_b (dg_st g), im_n (dg_wt g), im_b (dg_hl g), im_o (-2) (dg_lk g), im_o (-1) (dg_hd g), im_o (-1) (dg_ro g), im_n (dg_en g), yrv, ymt, ynx) (nI r))) (n := (gr_L A B nj sg).length) (x := nI r) (yjs := nI nj) (yon := im_n A) (ytw := im_n B) (ysg := im_b sg) (yps := im_n (dg_ps g)) (yfr := yfr) (yln := yln) (yjt := yjt) (yen := yen) (yst := im_b (dg_st g)) (ywt := im_n (dg_wt g)) (yhl := im_b (dg_hl g)) (ylk := im_o (-2) (dg_lk g)) (yhd := im_o (-1) (dg_hd g)) (yun := im_o (-1) (dg_ro g)) (yed := im_n (dg_en g)) (yrv := yrv) (ymt := ymt) (ynx := ynx) hl16 ?_ ?_
      · rw [← ey] at yq
        exact yq
      · intro z
        rcases z with z | z
        · exact absurd z (nI_pos (by omega))
        · exact absurd z (nI_ge hr (by omega))
      · intro _ _ _
        refine br_f (by decide) (f2 _ (br_c ?_ n0))
        intro z
        refine And.intro vr (nm_r (im_bS (v := true) rfl (by omega) im_bo1) (And.intro vr ?_))
        refine nm_r (im_nS (v := 0) rfl (by omega) rfl) ?_
        refine nm_r (ix_5m r) ?_
        exact sy_36 h1 h2 hr (n1 z)
    refine br_f (by decide) ?_
    refine sx_set h1 R hr h4.2.2.2.2.2.2.2 hz f1 ?_ ?_
    · intro z
      exact Ys _ (fun _ => ⟨rfl, K0⟩) (fun y => absurd y z)
    · intro z
      refine Ys _ (fun y => absurd z y) (fun _ => ⟨rfl, ?_⟩)
      obtain ⟨g1, g2, g3⟩ := f3 z
      have hpT : ∀ a, im_m 20 (ps_T nd np r (dg_ps g)) (dg_ps g) a ≤ 1 := by
        intro a
        have := h4.2.2.2.2.2.2.2 a
        unfold im_m ps_T
        split
        · split
          · exact Bool.toNat_le _
          · exact this
        · exact this
      have I2 := dp_set h1.2.1 h1.2.2.1 h4 hr g1 g2 g3 hpT
      rw [ps_Ye R hr h1.2.2.2.2.1 h1.2.1 h1.2.2.1]
      generalize hl_S (dg_hl g) r (rl_n (gr_L A B nj sg) r) = hl' at I2 ⊢
      generalize lk_S (gr_L A B nj sg) (dg_lk g) r (rl_n (gr_L A B nj sg) r) = lk' at I2 ⊢
      generalize im_m 20 (ps_T nd np r (dg_ps g)) (dg_ps g) = ps' at I2 ⊢
      exact zz_in (fd := true) (g := (im_u (dg_st g) r true, im_u (dg_wt g) r 0, ps', hl', lk', dg_hd g, dg_ro g, dg_pg g, dg_en g, im_u (dg_to g) r none, dg_sr g ||| ((1 : Int32) <<< (nI r &&& 31)), dg_oc g)) h1 h2 (fun _ => R) I2
end SET
end
section
/-! release -/
section RELEASE
variable {xjc xfd xrc xsr xoc xwg : Int32} {xjA xjB xcA xjt xhs xps xso xlo xrj xre xrs xnd xnp xcf xwe xwc xwt xto xlk xnc xhd xro xpg xrt xsz xrg : Nat → Int32}
variable {yjs yrs : Int32} {yon ytw ysg yps yfr yln yjt yen yst ywt yhl ylk yhd yun yed yrv ymt ynx : Nat → Int32}
variable {A B : Nat → Nat} {nj : Nat} {sg : Nat → Bool}
def rel_h (hl : Nat → Bool) (r : Nat) : Nat → Bool := fun i => if i / 5 = r then false else hl i
def rel_l (lk : Nat → Option Nat) (r : Nat) : Nat → Option Nat := fun s => if s < 10 ∧ lk s = some r then none else lk s
theorem rel_hr {hl : Nat → Bool} {r k : Nat} (hk : k < 5) : rel_h hl r (5 * r + k) = false := by
  unfold rel_h; rw [if_pos (by omega)]
theorem rel_ho {hl : Nat → Bool} {r r' k : Nat} (hk : k < 5) (h : r' ≠ r) : rel_h hl r (5 * r' + k) = hl (5 * r' + k) := by
  unfold rel_h; rw [if_neg (by omega)]
theorem rel_hu {hl : Nat → Bool} {r k : Nat} (hk : k < 5) : rel_h (im_u hl (5 * r + k) false) r = rel_h hl r := by
  funext i; unfold rel_h
  by_cases e : i / 5 = r
  · rw [if_pos e, if_pos e]
  · rw [if_neg e, if_neg e, im_un (by omega)]
theorem rel_h0 {hl : Nat → Bool} {r : Nat} (h : ∀ k, k < 5 → hl (5 * r + k) = false) : rel_h hl r = hl := by
  funext i; unfold rel_h
  by_cases e : i / 5 = r
  · rw [if_pos e]
    have : i = 5 * r + i % 5 := by omega
    rw [this, h _ (by omega)]
  · rw [if_neg e]
theorem rel_lu {lk : Nat → Option Nat} {r s : Nat} (hs : s < 10) (h : lk s = some r) : rel_l (im_u lk s none) r = rel_l lk r := by
  funext x; unfold rel_l
  by_cases e : x = s
  · subst e
    rw [im_us, if_neg (fun z => by cases z.2), if_pos ⟨hs, h⟩]
  · rw [im_un e]
theorem rel_l0 {lk : Nat → Option Nat} {r : Nat} (h : ∀ s, s < 10 → lk s ≠ some r) : rel_l lk r = lk := by
  funext x; unfold rel_l
  rw [if_neg]
  rintro ⟨z1, z2⟩; exact h x z1 z2
theorem rel_K {L : List (Nat × List (Nat × Nat))} {hl : Nat → Bool} {lk : Nat → Option Nat} {r : Nat} (K : dn_K L hl lk) : dn_K L (rel_h hl r) (rel_l lk r) := by
  obtain ⟨k1, k2⟩ := K
  have key : ∀ s r', rel_l lk r s = some r' → lk s = some r' := by
    intro s r' z
    unfold rel_l at z
    split at z
    · cases z
    · exact z
  refine ⟨?_, fun s r' z => k2 s r' (key s r' z)⟩
  intro s hs r'
  by_cases e : r' = r
  · subst e
    constructor
    · intro z
      have z2 := key s r' z
      unfold rel_l at z
      rw [if_pos ⟨hs, z2⟩] at z; cases z
    · rintro ⟨k, hk, z, _⟩
      rw [rel_hr hk] at z; cases z
  · constructor
    · intro z
      obtain ⟨k, hk, z1, z2⟩ := (k1 s hs r').mp (key s r' z)
      exact ⟨k, hk, by rw [rel_ho hk e]; exact z1, z2⟩
    · rintro ⟨k, hk, z1, z2⟩
      rw [rel_ho hk e] at z1
      have := (k1 s hs r').mpr ⟨k, hk, z1, z2⟩
      unfold rel_l
      rw [if_neg]
      · exact this
      · rintro ⟨_, w⟩; rw [this] at w; cases w; exact e rfl
theorem dp_rel {L : List (Nat × List (Nat × Nat))} {st : Nat → Bool} {wt ps : Nat → Nat} {hl : Nat → Bool} {lk hd ro : Nat → Option Nat} {pg en : Nat → Nat} {to : Nat → Option Nat} {sr oc : Int32} {r : Nat} (I : dn_I L st wt ps hl lk hd ro pg en to sr oc) (hr : r < 16) (h : ∀ t, t < 3 → ro t ≠ some r) :
    dn_I L (im_u st r false) (im_u wt r 0) ps (rel_h hl r) (rel_l lk r) hd ro pg en to (sr &&& (((1 : Int32) <<< (nI r &&& 31)) ^^^ (-1))) oc := by
  obtain ⟨⟨a1, a2, a3⟩, T, ⟨r1, r2, r3⟩, ⟨o1, o2⟩, H, K, F, p⟩ := I
  refine ⟨⟨?_, ?_, ?_⟩, T, ⟨?_, r2, r3⟩, ⟨?_, o2⟩, ?_, rel_K K, ?_, p⟩
  · intro x z
    by_cases e : x = r
    · subst e; rw [im_us] at z; cases z
    · rw [im_un e] at z; exact a1 x z
  · intro x
    by_cases e : x = r
    · subst e; rw [im_us]; exact ⟨by omega, fun z => absurd rfl z⟩
    · rw [im_un e, im_un e]; exact a2 x
  · intro x
    rw [ib_clr _ (by omega), a3]
    by_cases e : x = r
    · subst e; rw [im_us, decide_eq_true rfl]; exact Bool.and_false _
    · rw [im_un e, decide_eq_false e]; exact Bool.and_true _
  · intro t r' ht e
    have e' : r' ≠ r := fun z => h t ht (z ▸ e)
    rw [im_un e', im_un e']
    exact r1 t r' ht e
  · intro r' z
    have e : r' ≠ r := by intro q; rw [q, im_us] at z; cases z
    rw [im_un e] at z
    exact o1 r' z
  · intro r' k hk
    by_cases e : r' = r
    · subst e
      rw [rel_hr hk, im_us]
      exact ⟨(fun z => by cases z), (fun z => by cases z.1)⟩
    · rw [rel_ho hk e, im_un e]
      exact H r' k hk
  · intro t q r' k ht e1 hk e2 e3
    by_cases e : r' = r
    · subst e; rw [rel_hr hk] at e2; cases e2
    · rw [rel_ho hk e] at e2
      exact F t q r' k ht e1 hk e2 e3
theorem xr_at {pu : SX → Prop} {hl : Nat → Bool} {lk : Nat → Option Nat} {r k : Nat} (S : sk_St A B nj xjt) (R : rx_F A B nj sg xrc xso xlo xrj xre xrs xnd xnp xcf) (hr : r < (gr_L A B nj sg).length) (hk : k < rl_n (gr_L A B nj sg) r) (h1 : hl (5 * r + k) = true)
    (h : pu (xjc, xfd, xrc, xsr, xoc, xwg, im_n A, im_n B, im_n (sk_c A B nj), xjt, xhs, xps, xso, xlo, xrj, xre, xrs, xnd, xnp, xcf, xwe, xwc, xwt, xto, im_o (-1) (im_u lk (rl_e (gr_L A B nj sg) r k / 2) none), im_n (hs_N A B nj (gr_L A B nj sg) (im_u hl (5 * r + k) false)), xhd, xro, xpg, xrt, xsz, xrg)) :
    wpX_releaseAt pu (xjc, xfd, xrc, xsr, xoc, xwg, im_n A, im_n B, im_n (sk_c A B nj), xjt, xhs, xps, xso, xlo, xrj, xre, xrs, xnd, xnp, xcf, xwe, xwc, xwt, xto, im_o (-1) lk, im_n (hs_N A B nj (gr_L A B nj sg) hl), xhd, xro, xpg, xrt, xsz, xrg) (nI r) (nI k) := by
  have hl16 := @rv_len A B nj sg
  have hn := rv_n hr
  obtain ⟨q1, q2, q3, _⟩ := rx_get R hr
  have e20 := rv_e S.2.1 S.2.2.1 hr hk
  have hj := rv_j hr hk
  have hnj := S.1
  have e5 : 5 * nI r + nI k = nI (5 * r + k) := ix_5 r k
  have v5 : vp_in (5 * nI r + nI k) 80 := by rw [e5]; exact vp_in_nI (by omega) (by omega)
  have c5 : (5 * nI r + nI k).toNatClampNeg = 5 * r + k := by rw [e5]; exact nI_clamp (by omega)
  obtain ⟨n1, n2⟩ := hf_N (A := A) (B := B) (nj := nj) (L := gr_L A B nj sg) (hl := hl) (r := r) (k := k) (by omega) (by omega) h1
  refine And.intro v5 (And.intro ix_20 ?_)
  rw [c5, (q3 k hk).2, ix_h (by omega)]
  refine And.intro (vp_in_nI (by omega) (by omega)) ?_
  refine nm_r (im_oS (v := none) rfl (by omega) im_bym) (And.intro v5 ?_)
  rw [(q3 k hk).1]
  refine xn_need (V := fun n => n - 1) (by omega) S.2.1 S.2.2.1 S.2.2.2.2.1 ?_ ?_ ?_
  · intro z
    have := S.2.2.2.1 _ hj
    rw [z] at this
    exact this rfl
  · intro a z1 z2
    have := n2 a z1 z2
    have := @hs_Nb A B nj (gr_L A B nj sg) hl a
    obtain ⟨m, hm⟩ : ∃ m, hs_N A B nj (gr_L A B nj sg) hl a = m + 1 := ⟨hs_N A B nj (gr_L A B nj sg) hl a - 1, by omega⟩
    rw [hm, pk_m1, Nat.add_sub_cancel]; exact im_by (by omega)
  · rw [← n1]; exact h
theorem xr_16 {pu : SX → Prop} {r : Nat} (S : sk_St A B nj xjt) (R : rx_F A B nj sg xrc xso xlo xrj xre xrs xnd xnp xcf) (hr : r < (gr_L A B nj sg).length) :
    ∀ (d k : Nat) (hl : Nat → Bool) (lk : Nat → Option Nat), k + d = rl_n (gr_L A B nj sg) r → dn_K (gr_L A B nj sg) hl lk → (∀ i, i < 5 → (hl (5 * r + i) = true ↔ k ≤ i ∧ i < rl_n (gr_L A B nj sg) r)) → pu (xjc, xfd, xrc, xsr, xoc, xwg, im_n A, im_n B, im_n (sk_c A B nj), xjt, xhs, xps, xso, xlo, xrj, xre, xrs, xnd, xnp, xcf, xwe, xwc, xwt, xto, im_o (-1) (rel_l lk r), im_n (hs_N A B nj (gr_L A B nj sg) (rel_h hl r)), xhd, xro, xpg, xrt, xsz, xrg) →
    wX_release_16 pu (nI r) (d + 1) (nI k) xjc xfd xrc xsr xoc xwg (im_n A) (im_n B) (im_n (sk_c A B nj)) xjt xhs xps xso xlo xrj xre xrs xnd xnp xcf xwe xwc xwt xto (im_o (-1) lk) (im_n (hs_N A B nj (gr_L A B nj sg) hl)) xhd xro xpg xrt xsz xrg := by
  have hl16 := @rv_len A B nj sg
  have hn := rv_n hr
  have vr : vp_in (nI r) 16 := vp_in_nI (by omega) (by omega)
  have cr : (nI r).toNatClampNeg = r := nI_clamp (by omega)
  obtain ⟨q1, q2, q3, _⟩ := rx_get R hr
  intro d
  induction d with
  | zero =>
    intro k hl lk hk K hH h
    have hk' : k = rl_n (gr_L A B nj sg) r := hk
    have h0 : ∀ i, i < 5 → hl (5 * r + i) = false := by
      intro i hi
      apply Bool.eq_false_iff.mpr
      intro z
      have := (hH i hi).mp z
      omega
    rw [rel_h0 h0, rel_l0] at h
    · refine And.intro vr (br_t ?_ h)
      rw [cr, q2, hk']; exact Int32.le_refl _
    · intro s hs z
      obtain ⟨i, hi, z1, _⟩ := (K.1 s hs r).mp z
      rw [h0 i hi] at z1; cases z1
  | succ d ih =>
    intro k hl lk hk K hH h
    have hk1 : k < rl_n (gr_L A B nj sg) r := by omega
    have hlk : hl (5 * r + k) = true := (hH k (by omega)).mpr ⟨Nat.le_refl _, hk1⟩
    have e20 := rv_e S.2.1 S.2.2.1 hr hk1
    have hs10 : rl_e (gr_L A B nj sg) r k / 2 < 10 := by omega
    refine And.intro vr (br_f ?_ ?_)
    · rw [cr, q2]; exact nI_ge (by omega) (by omega)
    refine xr_at S R hr hk1 hlk (nm_r (nI_1 k) ?_)
    refine ih (k + 1) _ _ (by omega) (hf_K K (by omega) hlk ?_ hs10) ?_ ?_
    · intro i hi z1 z2
      exact rv_d hr ((hH i hi).mp z1).2 hk1 z2
    · intro i hi
      by_cases e : i = k
      · subst e; rw [im_us]
        exact ⟨(fun z => by cases z), fun z => by omega⟩
      · rw [im_un (by omega), hH i hi]; omega
    · rw [rel_hu (by omega), rel_lu hs10 ((K.1 _ hs10 r).mpr ⟨k, by omega, hlk, rfl⟩)]
      exact h
theorem xr_rel {pu : SX → Prop} {hl : Nat → Bool} {lk : Nat → Option Nat} {r k : Nat} (S : sk_St A B nj xjt) (R : rx_F A B nj sg xrc xso xlo xrj xre xrs xnd xnp xcf) (hr : r < (gr_L A B nj sg).length) (hk : k ≤ rl_n (gr_L A B nj sg) r) (K : dn_K (gr_L A B nj sg) hl lk) (hH : ∀ i, i < 5 → (hl (5 * r + i) = true ↔ k ≤ i ∧ i < rl_n (gr_L A B nj sg) r))
    (h : pu (xjc, xfd, xrc, xsr &&& (((1 : Int32) <<< (nI r &&& 31)) ^^^ (-1)), xoc, xwg, im_n A, im_n B, im_n (sk_c A B nj), xjt, xhs, xps, xso, xlo, xrj, xre, xrs, xnd, xnp, xcf, xwe, xwc, xwt, xto, im_o (-1) (rel_l lk r), im_n (hs_N A B nj (gr_L A B nj sg) (rel_h hl r)), xhd, xro, xpg, xrt, xsz, xrg)) :
    wpX_release pu (xjc, xfd, xrc, xsr, xoc, xwg, im_n A, im_n B, im_n (sk_c A B nj), xjt, xhs, xps, xso, xlo, xrj, xre, xrs, xnd, xnp, xcf, xwe, xwc, xwt, xto, im_o (-1) lk, im_n (hs_N A B nj (gr_L A B nj sg) hl), xhd, xro, xpg, xrt, xsz, xrg) (nI r) (nI k) := by
  refine nm_e (Exists.intro (rl_n (gr_L A B nj sg) r - k + 1) ?_)
  exact xr_16 S R hr _ k hl lk (by omega) K hH h
def rel_f (hl : Nat → Bool) (r k : Nat) : Nat → Bool := fun i => if 5 * r ≤ i ∧ i < 5 * r + k then false else hl i
theorem rel_fs {hl : Nat → Bool} {r k : Nat} : im_u (rel_f hl r k) (5 * r + k) false = rel_f hl r (k + 1) := by
  funext i; unfold rel_f
  by_cases e : i = 5 * r + k
  · subst e; rw [im_us, if_pos (by omega)]
  · rw [im_un e]
    by_cases z : 5 * r ≤ i ∧ i < 5 * r + k
    · rw [if_pos z, if_pos (by omega)]
    · rw [if_neg z, if_neg (by omega)]
theorem rel_f0 {hl : Nat → Bool} {r : Nat} : rel_f hl r 0 = hl := by
  funext i; unfold rel_f; rw [if_neg (by omega)]
theorem rel_f5 {hl : Nat → Bool} {r : Nat} : rel_f hl r 5 = rel_h hl r := by
  funext i; unfold rel_f rel_h
  by_cases z : i / 5 = r
  · rw [if_pos z, if_pos (by omega)]
  · rw [if_neg z, if_neg (by omega)]
theorem yr_42 {pv : SY → Prop} {lk : Nat → Option Nat} {r : Nat} (hr : r < 16) (hlb : ∀ s r, lk s = some r → r < 16) (h : pv (yjs, yrs, yon, ytw, ysg, yps, yfr, yln, yjt, yen, yst, ywt, yhl, im_o (-2) (rel_l lk r), yhd, yun, yed, yrv, ymt, ynx)) : ∃ n, wY_release_42 pv (nI r) yjs yrs n 0 yon ytw ysg yps yfr yln yjt yen yst ywt yhl (im_o (-2) lk) yhd yun yed yrv ymt ynx := by
  have eT : im_m 10 (fun s => if lk s = some r then none else lk s) lk = rel_l lk r := by
    funext s; unfold im_m rel_l
    by_cases z : s < 10
    · rw [if_pos z]
      dsimp only
      by_cases y : lk s = some r
      · rw [if_pos y, if_pos ⟨z, y⟩]
      · rw [if_neg y, if_neg (fun q => y q.2)]
    · rw [if_neg z, if_neg (fun q => z q.1)]
  rw [← eT] at h
  refine Exists.intro (10 + 1) ?_
  refine lq_run0 (fun n i (s : Nat → Option Nat) => wY_release_42 pv (nI r) yjs yrs n (nI i) yon ytw ysg yps yfr yln yjt yen yst ywt yhl (im_o (-2) s) yhd yun yed yrv ymt ynx) 10 (fun i => im_m i (fun s => if lk s = some r then none else lk s) lk) ?_ ?_
  · intro n
    exact br_t (Int32.le_refl _) h
  · intro n i hi hw
    have vi : vp_in (nI i) 10 := vp_in_nI hi (by omega)
    refine br_f (nI_ge (b := 10) hi (by omega)) (And.intro vi ?_)
    rw [im_oR (i := i) rfl (by omega), im_mi, im_oe im_m2 (fun q e => by have := hlb i q e; omega) (by omega)]
    refine br_c ?_ ?_
    · intro z
      refine And.intro vi ?_
      exact nm_r (e' := im_o (-2) (im_m (i + 1) (fun s => if lk s = some r then none else lk s) lk)) ((im_oS (i := i) (v := none) rfl (by omega) rfl).trans (congrArg (im_o (-2)) (im_ms (if_pos z)))) (nm_r (nI_1 i) hw)
    · intro z
      have hw' := hw
      rw [im_mk (if_neg z)] at hw'
      exact nm_r (nI_1 i) hw'
theorem yr_rel {pv : SY → Prop} {st : Nat → Bool} {wt : Nat → Nat} {hl : Nat → Bool} {lk : Nat → Option Nat} {r : Nat} (hr : r < 16) (hlb : ∀ s r, lk s = some r → r < 16)
    (h : pv (yjs, yrs, yon, ytw, ysg, yps, yfr, yln, yjt, yen, im_b (im_u st r false), im_n (im_u wt r 0), im_b (rel_h hl r), im_o (-2) (rel_l lk r), yhd, yun, yed, yrv, ymt, ynx)) :
    wpY_release pv (yjs, yrs, yon, ytw, ysg, yps, yfr, yln, yjt, yen, im_b st, im_n wt, im_b hl, im_o (-2) lk, yhd, yun, yed, yrv, ymt, ynx) (nI r) := by
  have vr : vp_in (nI r) 16 := vp_in_nI hr (by omega)
  refine And.intro vr (nm_r (im_bS (v := false) rfl (by omega) im_bo0) (And.intro vr ?_))
  refine nm_r (im_nS (v := 0) rfl (by omega) rfl) (nm_r (ix_5m r) ?_)
  have e5 : 5 * nI r + 5 = nI (5 * r + 5) := ix_5 r 5
  rw [← rel_f5] at h
  refine Exists.intro (5 + 1) ?_
  have run := lq_run0 (fun n k (s : Nat → Bool) => wY_release_18 pv (nI r) yjs yrs n (nI (5 * r + k)) yon ytw ysg yps yfr yln yjt yen (im_b (im_u st r false)) (im_n (im_u wt r 0)) (im_b s) (im_o (-2) lk) yhd yun yed yrv ymt ynx) 5 (fun k => rel_f hl r k) ?_ ?_
  · rw [rel_f0] at run
    exact run
  · intro n
    refine br_t ?_ (yr_42 hr hlb h)
    rw [e5]; exact Int32.le_refl _
  · intro n k hk hw
    refine br_f ?_ (And.intro (vp_in_nI (by omega) (by omega)) ?_)
    · rw [e5]; exact nI_ge (by omega) (by omega)
    · exact nm_r (e' := im_b (rel_f hl r (k + 1))) ((im_bS (i := 5 * r + k) (v := false) rfl (by omega) im_bo0).trans (congrArg im_b rel_fs)) (nm_r (nI_1 (5 * r + k)) hw)
end RELEASE
end
section
/-! cancel -/
section CANCEL
variable {xjc xfd xrc xsr xoc xwg : Int32} {xjA xjB xcA xjt xhs xps xso xlo xrj xre xrs xnd xnp xcf xwe xwc xwt xto xlk xnc xhd xro xpg xrt xsz xrg : Nat → Int32}
variable {yjs yrs : Int32} {yon ytw ysg yps yfr yln yjt yen yst ywt yhl ylk yhd yun yed yrv ymt ynx : Nat → Int32}
variable {A B : Nat → Nat} {nj : Nat} {sg : Nat → Bool}
theorem ys_used {post : Int32 → Prop} {hd ro : Nat → Option Nat} {r : Nat} (hr : r < 16) (hb : ∀ t h, hd t = some h → h < 20) (hrb : ∀ t r, ro t = some r → r < 16) (hR : ∀ t r, t < 3 → ro t = some r → ∃ h, hd t = some h) (h0 : (¬ ∃ t, t < 3 ∧ ro t = some r) → post 0) (h1 : (∃ t, t < 3 ∧ ro t = some r) → post 1) : wpY_isUsed post (yjs, yrs, yon, ytw, ysg, yps, yfr, yln, yjt, yen, yst, ywt, yhl, ylk, im_o (-1) hd, im_o (-1) ro, yed, yrv, ymt, ynx) (nI r) := by
  refine Exists.intro (3 + 1) ?_
  have oe : ∀ i, im_oi (-1) (ro i) = nI r ↔ ro i = some r := fun i => im_oe im_m1 (fun q e => by have := hrb i q e; omega) (by omega)
  refine lq_find0 (fun n i => wY_isUsed_2 post (nI r) yjs yrs yon ytw ysg yps yfr yln yjt yen yst ywt yhl ylk (im_o (-1) hd) (im_o (-1) ro) yed yrv ymt ynx n (nI i)) 3 (fun t => ro t = some r) ?_ ?_ ?_
  · intro n hn
    refine br_t (Int32.le_refl _) (h0 ?_)
    rintro ⟨t, ht, z⟩; exact hn t ht z
  · intro n i hi hp hw
    have vi : vp_in (nI i) 3 := vp_in_nI hi (by omega)
    refine br_f (nI_ge (b := 3) hi (by omega)) (And.intro vi ?_)
    rw [im_oR (f := hd) (i := i) rfl (by omega), im_oR (f := ro) (i := i) rfl (by omega)]
    refine im_ol im_m1 (fun q e => by have := hb i q e; omega) (fun _ => nm_r (nI_1 i) hw) ?_
    intro q _
    refine And.intro vi (br_f ?_ (nm_r (nI_1 i) hw))
    rw [oe]; exact hp
  · intro n i hi _ hp
    have vi : vp_in (nI i) 3 := vp_in_nI hi (by omega)
    refine br_f (nI_ge (b := 3) hi (by omega)) (And.intro vi ?_)
    rw [im_oR (f := hd) (i := i) rfl (by omega), im_oR (f := ro) (i := i) rfl (by omega)]
    refine im_ol im_m1 (fun q e => by have := hb i q e; omega) ?_ ?_
    · intro z
      obtain ⟨h, e⟩ := hR i r hi hp
      rw [z] at e; cases e
    · intro q _
      exact And.intro vi (br_t ((oe i).mpr hp) (h1 ⟨i, hi, hp⟩))
def cc_K (st : Nat → Bool) (wt : Nat → Nat) (ro : Nat → Option Nat) (r : Nat) : Prop := st r = true ∧ (¬ ∃ t, t < 3 ∧ ro t = some r) ∧ wt r = 0
def cc_N (hd ro : Nat → Option Nat) (s : Nat) : Prop := ∃ t, t < 3 ∧ hd t = some s ∧ ro t = none
theorem cx_40 {post : Int32 → SX → Prop} {hd ro : Nat → Option Nat} {wt : Nat → Nat} {r s : Nat} (hr : r < 16) (hs : s < 20) (hso : xso r = nI s) (hb : ∀ t h, hd t = some h → h < 20) (hrb : ∀ t r, ro t = some r → r < 16)
    (h1 : cc_N hd ro s → post 1 (xjc, xfd, xrc, xsr, xoc, xwg, xjA, xjB, xcA, xjt, xhs, xps, xso, xlo, xrj, xre, xrs, xnd, xnp, xcf, xwe, xwc, im_n (im_u wt r 3), xto, xlk, xnc, im_o (-1) hd, im_o (-1) ro, xpg, xrt, xsz, xrg)) (h2 : ¬ cc_N hd ro s → wpX_release (fun u => post 1 u) (xjc, xfd, xrc, xsr, xoc, xwg, xjA, xjB, xcA, xjt, xhs, xps, xso, xlo, xrj, xre, xrs, xnd, xnp, xcf, xwe, xwc, im_n wt, xto, xlk, xnc, im_o (-1) hd, im_o (-1) ro, xpg, xrt, xsz, xrg) (nI r) (nI 0)) :
    ∀ (d t : Nat) (f : Bool), t + d = 3 → (f = true ↔ ∃ i, i < t ∧ hd i = some s ∧ ro i = none) → wX_cancel_40 post (nI r) xjc xfd xrc xsr xoc xwg xjA xjB xcA xjt xhs xps xso xlo xrj xre xrs xnd xnp xcf xwe xwc (im_n wt) xto xlk xnc (im_o (-1) hd) (im_o (-1) ro) xpg xrt xsz xrg (d + 1) (im_bi f) (nI t) := by
  have vr : vp_in (nI r) 16 := vp_in_nI hr (by omega)
  have cr : (nI r).toNatClampNeg = r := nI_clamp (by omega)
  have oe : ∀ i, im_oi (-1) (hd i) = nI s ↔ hd i = some s := fun i => im_oe im_m1 (fun q e => by have := hb i q e; omega) (by omega)
  intro d
  induction d with
  | zero =>
    intro t f ht hf
    have ht' : t = 3 := ht
    subst ht'
    refine br_t (Int32.le_refl _) ?_
    refine im_bc ?_ ?_
    · intro z
      refine h2 ?_
      intro w
      rw [hf.mpr w] at z; cases z
    · intro z
      refine And.intro vr ?_
      exact nm_r (im_nS (v := 3) rfl (by omega) im_by3) (h1 (hf.mp z))
  | succ d ih =>
    intro t f ht hf
    have vt : vp_in (nI t) 3 := vp_in_nI (by omega) (by omega)
    have keep : ¬ (hd t = some s ∧ ro t = none) → (f = true ↔ ∃ i, i < t + 1 ∧ hd i = some s ∧ ro i = none) := by
      intro no
      rw [hf]
      constructor
      · rintro ⟨i, hi, z⟩; exact ⟨i, by omega, z⟩
      · rintro ⟨i, hi, z⟩
        by_cases e : i = t
        · subst e; exact absurd z no
        · exact ⟨i, by omega, z⟩
    refine br_f (nI_ge (b := 3) (by omega) (by omega)) (And.intro vt (And.intro vr ?_))
    rw [im_oR (f := hd) (i := t) rfl (by omega), im_oR (f := ro) (i := t) rfl (by omega), cr, hso, oe]
    refine br_c ?_ ?_
    · intro z
      refine And.intro vt ?_
      refine im_og im_m1 (fun q e => by have := hrb t q e; omega) ?_ ?_
      · intro e
        refine nm_r (nI_1 t) (ih (t + 1) true (by omega) ?_)
        exact ⟨fun _ => ⟨t, by omega, z, e⟩, fun _ => rfl⟩
      · intro q e
        refine nm_r (nI_1 t) (ih (t + 1) f (by omega) (keep ?_))
        rintro ⟨_, w⟩; rw [e] at w; cases w
    · intro z
      exact nm_r (nI_1 t) (ih (t + 1) f (by omega) (keep (fun w => z w.1)))
theorem cy_40 {post : Int32 → SY → Prop} {hd : Nat → Option Nat} {wt : Nat → Nat} {r s : Nat} (hr : r < 16) (hs : s < 20) (hso : yfr r = nI s) (hb : ∀ t h, hd t = some h → h < 20)
    (h1 : (∃ t, t < 3 ∧ hd t = some s) → post 1 (yjs, yrs, yon, ytw, ysg, yps, yfr, yln, yjt, yen, yst, im_n (im_u wt r 3), yhl, ylk, im_o (-1) hd, yun, yed, yrv, ymt, ynx)) (h2 : (¬ ∃ t, t < 3 ∧ hd t = some s) → wpY_release (fun u => post 1 u) (yjs, yrs, yon, ytw, ysg, yps, yfr, yln, yjt, yen, yst, im_n wt, yhl, ylk, im_o (-1) hd, yun, yed, yrv, ymt, ynx) (nI r)) :
    ∀ (d t : Nat) (f : Bool), t + d = 3 → (f = true ↔ ∃ i, i < t ∧ hd i = some s) → wY_cancel_40 post (nI r) yjs yrs yon ytw ysg yps yfr yln yjt yen yst (im_n wt) yhl ylk (im_o (-1) hd) yun yed yrv ymt ynx (d + 1) (im_bi f) (nI t) := by
  have vr : vp_in (nI r) 16 := vp_in_nI hr (by omega)
  have cr : (nI r).toNatClampNeg = r := nI_clamp (by omega)
  have oe : ∀ i, im_oi (-1) (hd i) = nI s ↔ hd i = some s := fun i => im_oe im_m1 (fun q e => by have := hb i q e; omega) (by omega)
  intro d
  induction d with
  | zero =>
    intro t f ht hf
    have ht' : t = 3 := ht
    subst ht'
    refine br_t (Int32.le_refl _) ?_
    refine im_bc ?_ ?_
    · intro z
      refine h2 ?_
      intro w
      rw [hf.mpr w] at z; cases z
    · intro z
      refine And.intro vr ?_
      exact nm_r (im_nS (v := 3) rfl (by omega) rfl) (h1 (hf.mp z))
  | succ d ih =>
    intro t f ht hf
    have vt : vp_in (nI t) 3 := vp_in_nI (by omega) (by omega)
    refine br_f (nI_ge (b := 3) (by omega) (by omega)) (And.intro vt (And.intro vr ?_))
    rw [im_oR (f := hd) (i := t) rfl (by omega), cr, hso, oe]
    refine br_c ?_ ?_
    · intro z
      refine nm_r (nI_1 t) (ih (t + 1) true (by omega) ?_)
      exact ⟨fun _ => ⟨t, by omega, z⟩, fun _ => rfl⟩
    · intro z
      refine nm_r (nI_1 t) (ih (t + 1) f (by omega) ?_)
      rw [hf]
      constructor
      · rintro ⟨i, hi, w⟩; exact ⟨i, by omega, w⟩
      · rintro ⟨i, hi, w⟩
        by_cases e : i = t
        · subst e; exact absurd w z
        · exact ⟨i, by omega, w⟩
theorem cc_near {st : Nat → Bool} {wt : Nat → Nat} {sr : Int32} {hd ro : Nat → Option Nat} {pg en : Nat → Nat} {r : Nat} (a : dn_A (gr_L A B nj sg) st wt sr) (Rr : dn_R (gr_L A B nj sg) st wt hd ro pg en) (hr : r < (gr_L A B nj sg).length) : cc_N hd ro (rl_s (gr_L A B nj sg) r) ↔ ∃ t, t < 3 ∧ hd t = some (rl_s (gr_L A B nj sg) r) := by
  constructor
  · rintro ⟨t, ht, z, _⟩; exact ⟨t, ht, z⟩
  · rintro ⟨t, ht, z⟩
    refine ⟨t, ht, z, ?_⟩
    cases e : ro t with
    | none => rfl
    | some q =>
      obtain ⟨q1, q2, q3, q4, q5, q6⟩ := Rr.1 t q ht e
      rw [z] at q5
      have hs := (rv_all hr).2.1
      have hq := a.1 q q1
      have := rv_t (r := q) (k := pg t - 1) hq (by omega)
      have q5' := Option.some.inj q5
      rw [← q5', hs] at this; cases this
theorem dp_wait {L : List (Nat × List (Nat × Nat))} {st : Nat → Bool} {wt ps : Nat → Nat} {hl : Nat → Bool} {lk hd ro : Nat → Option Nat} {pg en : Nat → Nat} {to : Nat → Option Nat} {sr oc : Int32} {r w : Nat} (I : dn_I L st wt ps hl lk hd ro pg en to sr oc) (hs : st r = true) (h : ¬ ∃ t, t < 3 ∧ ro t = some r) (hw : w ≤ 3) :
    dn_I L st (im_u wt r w) ps hl lk hd ro pg en to sr oc := by
  obtain ⟨⟨a1, a2, a3⟩, T, ⟨r1, r2, r3⟩, O, H, K, F, p⟩ := I
  refine ⟨⟨a1, ?_, a3⟩, T, ⟨?_, r2, r3⟩, O, H, K, F, p⟩
  · intro x
    by_cases e : x = r
    · subst e; rw [im_us]; exact ⟨hw, fun _ => hs⟩
    · rw [im_un e]; exact a2 x
  · intro t r' ht e
    have e' : r' ≠ r := fun z => h ⟨t, ht, z ▸ e⟩
    rw [im_un e']
    exact r1 t r' ht e
theorem cx_x {post : Int32 → SX → Prop} {g : dg_T} {r : Nat} (S : sk_St A B nj xjt) (R : rx_F A B nj sg xrc xso xlo xrj xre xrs xnd xnp xcf) (hr : r < (gr_L A B nj sg).length) (I : dg_I A B nj sg g)
    (h0 : ¬ cc_K (dg_st g) (dg_wt g) (dg_ro g) r → post 0 (nI nj, xfd, xrc, dg_sr g, dg_oc g, xwg, im_n A, im_n B, im_n (sk_c A B nj), xjt, im_b sg, im_n (dg_ps g), xso, xlo, xrj, xre, xrs, xnd, xnp, xcf, xwe, xwc, im_n (dg_wt g), im_o (-1) (dg_to g), im_o (-1) (dg_lk g), im_n (hs_N A B nj (gr_L A B nj sg) (dg_hl g)), im_o (-1) (dg_hd g), im_o (-1) (dg_ro g), im_n (dg_pg g), xrt, xsz, xrg))
    (h1 : cc_K (dg_st g) (dg_wt g) (dg_ro g) r → cc_N (dg_hd g) (dg_ro g) (rl_s (gr_L A B nj sg) r) → post 1 (nI nj, xfd, xrc, dg_sr g, dg_oc g, xwg, im_n A, im_n B, im_n (sk_c A B nj), xjt, im_b sg, im_n (dg_ps g), xso, xlo, xrj, xre, xrs, xnd, xnp, xcf, xwe, xwc, im_n (im_u (dg_wt g) r 3), im_o (-1) (dg_to g), im_o (-1) (dg_lk g), im_n (hs_N A B nj (gr_L A B nj sg) (dg_hl g)), im_o (-1) (dg_hd g), im_o (-1) (dg_ro g), im_n (dg_pg g), xrt, xsz, xrg))
    (h2 : cc_K (dg_st g) (dg_wt g) (dg_ro g) r → ¬ cc_N (dg_hd g) (dg_ro g) (rl_s (gr_L A B nj sg) r) → post 1 (nI nj, xfd, xrc, dg_sr g &&& (((1 : Int32) <<< (nI r &&& 31)) ^^^ (-1)), dg_oc g, xwg, im_n A, im_n B, im_n (sk_c A B nj), xjt, im_b sg, im_n (dg_ps g), xso, xlo, xrj, xre, xrs, xnd, xnp, xcf, xwe, xwc, im_n (dg_wt g), im_o (-1) (dg_to g), im_o (-1) (rel_l (dg_lk g) r), im_n (hs_N A B nj (gr_L A B nj sg) (rel_h (dg_hl g) r)), im_o (-1) (dg_hd g), im_o (-1) (dg_ro g), im_n (dg_pg g), xrt, xsz, xrg)) :
    wpX_isSet (fun r_35 => (r_35 = 0 → post 0 (nI nj, xfd, xrc, dg_sr g, dg_oc g, xwg, im_n A, im_n B, im_n (sk_c A B nj), xjt, im_b sg, im_n (dg_ps g), xso, xlo, xrj, xre, xrs, xnd, xnp, xcf, xwe, xwc, im_n (dg_wt g), im_o (-1) (dg_to g), im_o (-1) (dg_lk g), im_n (hs_N A B nj (gr_L A B nj sg) (dg_hl g)), im_o (-1) (dg_hd g), im_o (-1) (dg_ro g), im_n (dg_pg g), xrt, xsz, xrg)) ∧ (¬ r_35 = 0 → vp_in (nI r) 16 ∧ ((0 ≤ im_o (-1) (dg_to g) (nI r).toNatClampNeg → post 0 (nI nj, xfd, xrc, dg_sr g, dg_oc g, xwg, im_n A, im_n B, im_n (sk_c A B nj), xjt, im_b sg, im_n (dg_ps g), xso, xlo, xrj, xre, xrs, xnd, xnp, xcf, xwe, xwc, im_n (dg_wt g), im_o (-1) (dg_to g), im_o (-1) (dg_lk g), im_n (hs_N A B nj (gr_L A B nj sg) (dg_hl g)), im_o (-1) (dg_hd g), im_o (-1) (dg_ro g), im_n (dg_pg g), xrt, xsz, xrg)) ∧ (¬ 0 ≤ im_o (-1) (dg_to g) (nI r).toNatClampNeg → vp_in (nI r) 16 ∧ ((im_n (dg_wt g) (nI r).toNatClampNeg ≤ 0 → ∃ n40, wX_cancel_40 post (nI r) (nI nj) xfd xrc (dg_sr g) (dg_oc g) xwg (im_n A) (im_n B) (im_n (sk_c A B nj)) xjt (im_b sg) (im_n (dg_ps g)) xso xlo xrj xre xrs xnd xnp xcf xwe xwc (im_n (dg_wt g)) (im_o (-1) (dg_to g)) (im_o (-1) (dg_lk g)) (im_n (hs_N A B nj (gr_L A B nj sg) (dg_hl g))) (im_o (-1) (dg_hd g)) (im_o (-1) (dg_ro g)) (im_n (dg_pg g)) xrt xsz xrg n40 0 0) ∧ (¬ im_n (dg_wt g) (nI r).toNatClampNeg ≤ 0 → post 0 (nI nj, xfd, xrc, dg_sr g, dg_oc g, xwg, im_n A, im_n B, im_n (sk_c A B nj), xjt, im_b sg, im_n (dg_ps g), xso, xlo, xrj, xre, xrs, xnd, xnp, xcf, xwe, xwc, im_n (dg_wt g), im_o (-1) (dg_to g), im_o (-1) (dg_lk g), im_n (hs_N A B nj (gr_L A B nj sg) (dg_hl g)), im_o (-1) (dg_hd g), im_o (-1) (dg_ro g), im_n (dg_pg g), xrt, xsz, xrg))))))) (nI nj, xfd, xrc, dg_sr g, dg_oc g, xwg, im_n A, im_n B, im_n (sk_c A B nj), xjt, im_b sg, im_n (dg_ps g), xso, xlo, xrj, xre, xrs, xnd, xnp, xcf, xwe, xwc, im_n (dg_wt g), im_o (-1) (dg_to g), im_o (-1) (dg_lk g), im_n (hs_N A B nj (gr_L A B nj sg) (dg_hl g)), im_o (-1) (dg_hd g), im_o (-1) (dg_ro g), im_n (dg_pg g), xrt, xsz, xrg) (nI r) := by
  have hl16 := @rv_len A B nj sg
  have hn := rv_n hr
  have vr : vp_in (nI r) 16 := vp_in_nI (by omega) (by omega)
  obtain ⟨a, T, Rr, O, H, K, F, p⟩ := I
  refine xs_set (by omega) ?_ ?_
  · intro z
    refine br_t rfl (h0 ?_)
    intro c
    rw [a.2.2, c.1] at z; cases z
  · intro z
    have hst : dg_st g r = true := by rw [← a.2.2]; exact z
    refine br_f (by decide) (And.intro vr ?_)
    rw [im_oR (f := dg_to g) (i := r) rfl (by omega), im_nR (f := dg_wt g) (i := r) rfl (by omega)]
    have hw3 := (a.2.1 r).1
    refine im_og im_m1 (fun q e => by have := O.2 r q e; omega) ?_ ?_
    · intro e
      have nu : ¬ ∃ t, t < 3 ∧ dg_ro g t = some r := by
        intro w
        obtain ⟨x, ex⟩ := (O.1 r hst).mpr w
        rw [e] at ex; cases ex
      refine And.intro vr ?_
      refine pk_le (dg_wt g r) 0 ?_ ?_
      · intro w
        have ck : cc_K (dg_st g) (dg_wt g) (dg_ro g) r := ⟨hst, nu, by omega⟩
        refine Exists.intro (3 + 1) ?_
        refine cx_40 (s := rl_s (gr_L A B nj sg) r) (by omega) (rv_all hr).1 (rx_get R hr).1 T.1 Rr.2.2 (h1 ck) ?_ 3 0 false rfl ?_
        · intro nn
          refine xr_rel S R hr (Nat.zero_le _) K ?_ (h2 ck nn)
          intro i hi
          rw [H r i hi]
          constructor
          · intro q; exact ⟨Nat.zero_le _, q.2.1⟩
          · intro q; exact ⟨hst, q.2, fun t ht e => absurd ⟨t, ht, e⟩ nu⟩
        · exact ⟨(fun q => by cases q), fun ⟨i, hi, _⟩ => absurd hi (Nat.not_lt_zero i)⟩
      · intro w
        exact h0 (fun c => by have := c.2.2; omega)
    · intro q e
      refine h0 ?_
      intro c
      exact c.2.1 ((O.1 r hst).mp ⟨q, e⟩)
theorem cy_y {post : Int32 → SY → Prop} {g : dg_T} {r : Nat} (Y : rp_Y (gr_L A B nj sg) yrs yfr yln yjt yen) (hr : r < (gr_L A B nj sg).length) (I : dg_I A B nj sg g)
    (h0 : ¬ cc_K (dg_st g) (dg_wt g) (dg_ro g) r → post 0 (nI nj, nI (gr_L A B nj sg).length, im_n A, im_n B, im_b sg, im_n (dg_ps g), yfr, yln, yjt, yen, im_b (dg_st g), im_n (dg_wt g), im_b (dg_hl g), im_o (-2) (dg_lk g), im_o (-1) (dg_hd g), im_o (-1) (dg_ro g), im_n (dg_en g), yrv, ymt, ynx))
    (h1 : cc_K (dg_st g) (dg_wt g) (dg_ro g) r → cc_N (dg_hd g) (dg_ro g) (rl_s (gr_L A B nj sg) r) → post 1 (nI nj, nI (gr_L A B nj sg).length, im_n A, im_n B, im_b sg, im_n (dg_ps g), yfr, yln, yjt, yen, im_b (dg_st g), im_n (im_u (dg_wt g) r 3), im_b (dg_hl g), im_o (-2) (dg_lk g), im_o (-1) (dg_hd g), im_o (-1) (dg_ro g), im_n (dg_en g), yrv, ymt, ynx))
    (h2 : cc_K (dg_st g) (dg_wt g) (dg_ro g) r → ¬ cc_N (dg_hd g) (dg_ro g) (rl_s (gr_L A B nj sg) r) → post 1 (nI nj, nI (gr_L A B nj sg).length, im_n A, im_n B, im_b sg, im_n (dg_ps g), yfr, yln, yjt, yen, im_b (im_u (dg_st g) r false), im_n (im_u (dg_wt g) r 0), im_b (rel_h (dg_hl g) r), im_o (-2) (rel_l (dg_lk g) r), im_o (-1) (dg_hd g), im_o (-1) (dg_ro g), im_n (dg_en g), yrv, ymt, ynx)) :
    wpY_cancel post (nI nj, nI (gr_L A B nj sg).length, im_n A, im_n B, im_b sg, im_n (dg_ps g), yfr, yln, yjt, yen, im_b (dg_st g), im_n (dg_wt g), im_b (dg_hl g), im_o (-2) (dg_lk g), im_o (-1) (dg_hd g), im_o (-1) (dg_ro g), im_n (dg_en g), yrv, ymt, ynx) (nI r) := by
  have hl16 := @rv_len A B nj sg
  have vr : vp_in (nI r) 16 := vp_in_nI (by omega) (by omega)
  obtain ⟨a, T, Rr, O, H, K, F, p⟩ := I
  have hnear := cc_near a Rr hr
  have hw3 := (a.2.1 r).1
  unfold wpY_cancel
  refine yq_is hl16 (fun z => ?_) (fun _ _ _ => ?_)
  · rcases z with z | z
    · exact absurd z (nI_pos (by omega))
    · exact absurd z (nI_ge hr (by omega))
  · refine br_f (by decide) (And.intro vr ?_)
    rw [im_bR (i := r) rfl (by omega)]
    refine im_bc (fun z => h0 (fun c => by rw [c.1] at z; cases z)) ?_
    intro hst
    refine ys_used (by omega) T.1 Rr.2.2 (fun t q ht e => ⟨_, (Rr.1 t q ht e).2.2.2.2.1⟩) ?_ ?_
    · intro nu
      refine br_t rfl (And.intro vr ?_)
      rw [im_nR (f := dg_wt g) (i := r) rfl (by omega)]
      refine pk_le (dg_wt g r) 0 ?_ ?_
      · intro w
        have ck : cc_K (dg_st g) (dg_wt g) (dg_ro g) r := ⟨hst, nu, by omega⟩
        refine Exists.intro (3 + 1) ?_
        refine cy_40 (s := rl_s (gr_L A B nj sg) r) (by omega) (rv_all hr).1 (ry_get Y hr).1 T.1 (fun n => h1 ck (hnear.mpr n)) ?_ 3 0 false rfl ?_
        · intro nn
          exact yr_rel (by omega) K.2 (h2 ck (fun q => nn (hnear.mp q)))
        · exact ⟨(fun q => by cases q), fun ⟨i, hi, _⟩ => absurd hi (Nat.not_lt_zero i)⟩
      · intro w
        exact h0 (fun c => by have := c.2.2; omega)
    · intro nu
      exact br_f (by decide) (h0 (fun c => c.2.1 nu))
theorem i_vc_cancel {k : Nat} {u : SX} {v : SY} (I : i_Rel k u v) (hk : k + 3 ≤ 1536) (v1 : Int32) : wpX_cancel (fun r u' => wpY_cancel (fun r' v' => r' = r ∧ i_Rel (k + 3) u' v') v v1) u v1 := by
  refine zz_el (P := fun u v => wpX_cancel (fun r u' => wpY_cancel (fun r' v' => r' = r ∧ i_Rel (k + 3) u' v') v v1) u v1) ?_ I
  intro nj A B sg fd g xrc xwg xjt xso xlo xrj xre xrs xnd xnp xcf xwe xwc xrt xsz xrg yrs yfr yln yjt yen yrv ymt ynx h1 h2 h3 h4
  have hl16 := @rv_len A B nj sg
  have ey : yrs = nI (gr_L A B nj sg).length := h2.1
  subst ey
  unfold wpX_cancel
  refine xq_is h1 h3 ?_ ?_
  · intro we wc rc so lo rj re rs nd np cf R hx
    have K0 := zz_in (k := k + 3) (fd := true) (xwg := xwg) (xwe := we) (xwc := wc) (xrt := xrt) (xsz := xsz) (xrg := xrg) (yrv := yrv) (ymt := ymt) (ynx := ynx) h1 h2 (fun _ => R) h4
    refine br_t rfl ?_
    unfold wpY_cancel
    refine yq_is hl16 (fun _ => br_t rfl ⟨rfl, K0⟩) ?_
    intro r hr e
    subst e
    rcases hx with hx | hx
    · exact absurd hx (nI_pos (by omega))
    · exact absurd hx (nI_ge hr (by omega))
  · intro we wc rc so lo rj re rs nd np cf R r hr e
    subst e
    have K0 := zz_in (k := k + 3) (fd := true) (xwg := xwg) (xwe := we) (xwc := wc) (xrt := xrt) (xsz := xsz) (xrg := xrg) (yrv := yrv) (ymt := ymt) (ynx := ynx) h1 h2 (fun _ => R) h4
    refine br_f (by decide) ?_
    refine cx_x (post := fun r_1 u' => wpY_cancel (fun r' v' => r' = r_1 ∧ i_Rel (k + 3) u' v') (nI nj, nI (gr_L A B nj sg).length, im_n A, im_n B, im_b sg, im_n (dg_ps g), yfr, yln, yjt, yen, im_b (dg_st g), im_n (dg_wt g), im_b (dg_hl g), im_o (-2) (dg_lk g), im_o (-1) (dg_hd g), im_o (-1) (dg_ro g), im_n (dg_en g), yrv, ymt, ynx) (nI r)) (xfd := im_bi true) (xwg := xwg) (xwe := we) (xwc := wc) (xrt := xrt) (xsz := xsz) (xrg := xrg) h1 R hr h4 ?_ ?_ ?_
    · intro nk
      exact cy_y h2 hr h4 (fun _ => ⟨rfl, K0⟩) (fun c => absurd c nk) (fun c => absurd c nk)
    · intro ck nn
      refine cy_y h2 hr h4 (fun c => absurd ck c) (fun _ _ => ⟨rfl, ?_⟩) (fun _ c => absurd nn c)
      exact zz_in (fd := true) (g := (dg_st g, im_u (dg_wt g) r 3, dg_ps g, dg_hl g, dg_lk g, dg_hd g, dg_ro g, dg_pg g, dg_en g, dg_to g, dg_sr g, dg_oc g)) h1 h2 (fun _ => R) (dp_wait h4 ck.1 ck.2.1 (by omega))
    · intro ck nn
      refine cy_y h2 hr h4 (fun c => absurd ck c) (fun _ c => absurd c nn) (fun _ _ => ⟨rfl, ?_⟩)
      have I2 := dp_rel h4 (by omega) (fun t ht e => ck.2.1 ⟨t, ht, e⟩)
      have ew : im_u (dg_wt g) r 0 = dg_wt g := im_uid ck.2.2
      rw [ew] at I2 ⊢
      exact zz_in (fd := true) (g := (im_u (dg_st g) r false, dg_wt g, dg_ps g, rel_h (dg_hl g) r, rel_l (dg_lk g) r, dg_hd g, dg_ro g, dg_pg g, dg_en g, dg_to g, dg_sr g &&& (((1 : Int32) <<< (nI r &&& 31)) ^^^ (-1)), dg_oc g)) h1 h2 (fun _ => R) I2
end CANCEL
end
section
/-! a train moves, pure -/
section MOVEP
variable {A B : Nat → Nat} {nj : Nat} {sg : Nat → Bool}
def oc_M (oc : Int32) (h e : Nat) : Int32 := (oc &&& (((1 : Int32) <<< (nI (h / 2) &&& 31)) ^^^ (-1))) ||| ((1 : Int32) <<< (nI (e / 2) &&& 31))
theorem tt_move {hd : Nat → Option Nat} {oc : Int32} {t h e : Nat} (T : dn_T hd oc) (ht : t < 3) (hh : hd t = some h) (he : e < 20) (hf : ¬ oc_P hd (e / 2)) : dn_T (im_u hd t (some (ix_op e))) (oc_M oc h e) := by
  obtain ⟨t1, t2, t3⟩ := T
  have h20 := t1 t h hh
  refine ⟨?_, ?_, ?_⟩
  · intro x q z
    by_cases y : x = t
    · subst y; rw [im_us] at z; cases z; exact ix_op20 he
    · rw [im_un y] at z; exact t1 x q z
  · intro x
    unfold oc_M
    rw [ib_set _ (by omega), ib_clr _ (by omega), Bool.or_eq_true, Bool.and_eq_true, decide_eq_true_iff, t2]
    constructor
    · rintro (⟨⟨y, q, y3, e1, e2⟩, e3⟩ | z)
      · have hne : y ≠ t := by
          intro z; subst z; rw [hh] at e1; cases e1
          rw [decide_eq_true e2.symm] at e3; cases e3
        exact ⟨y, q, y3, by rw [im_un hne]; exact e1, e2⟩
      · exact ⟨t, ix_op e, ht, im_us, by rw [ix_oph]; exact z.symm⟩
    · rintro ⟨y, q, y3, e1, e2⟩
      by_cases z : y = t
      · subst z; rw [im_us] at e1; cases e1
        rw [ix_oph] at e2; exact Or.inr e2.symm
      · rw [im_un z] at e1
        refine Or.inl ⟨⟨y, q, y3, e1, e2⟩, ?_⟩
        rw [decide_eq_false]
        · rfl
        · intro w; exact z (t3 y t q h y3 ht e1 hh (e2.trans w))
  · intro x y q q' hx hy e1 e2 e3
    by_cases z1 : x = t
    · by_cases z2 : y = t
      · rw [z1, z2]
      · subst z1
        rw [im_us] at e1; cases e1
        rw [im_un z2] at e2
        rw [ix_oph] at e3
        exact absurd ⟨y, q', hy, e2, e3.symm⟩ hf
    · rw [im_un z1] at e1
      by_cases z2 : y = t
      · subst z2
        rw [im_us] at e2; cases e2
        rw [ix_oph] at e3
        exact absurd ⟨x, q, hx, e1, e3⟩ hf
      · rw [im_un z2] at e2
        exact t3 x y q q' hx hy e1 e2 e3
def mv_h (hl : Nat → Bool) (r p : Nat) : Nat → Bool := if p = 0 then hl else im_u hl (5 * r + (p - 1)) false
def mv_l (L : List (Nat × List (Nat × Nat))) (lk : Nat → Option Nat) (r p : Nat) : Nat → Option Nat := if p = 0 then lk else im_u lk (rl_e L r (p - 1) / 2) none
/-- the route of a train about to move on: place p -/
def mv_Q (L : List (Nat × List (Nat × Nat))) (st : Nat → Bool) (wt : Nat → Nat) (hl : Nat → Bool) (hd ro : Nat → Option Nat) (t r p h : Nat) : Prop :=
  t < 3 ∧ hd t = some h ∧ st r = true ∧ wt r = 0 ∧ p < rl_n L r ∧ (∀ x, x < 3 → ro x = some r → x = t) ∧ (ro t = none ∨ ro t = some r) ∧ (∀ i, i < 5 → (hl (5 * r + i) = true ↔ p - 1 ≤ i ∧ i < rl_n L r)) ∧ ¬ oc_P hd (rl_e L r p / 2)
theorem mv_o {hl : Nat → Bool} {r r' p k : Nat} (hk : k < 5) (hp : p ≤ 5) (h : r' ≠ r) : mv_h hl r p (5 * r' + k) = hl (5 * r' + k) := by
  unfold mv_h
  split
  · rfl
  · rw [im_un (by omega)]
theorem mv_sub {hl : Nat → Bool} {r p i : Nat} (h : mv_h hl r p i = true) : hl i = true := by
  unfold mv_h at h
  split at h
  · exact h
  · rw [im_ue] at h
    split at h
    · cases h
    · exact h
theorem mv_r {n : Nat} {hl : Nat → Bool} {r p i : Nat} (hi : i < 5) (hp : p ≤ 5) (H : ∀ i, i < 5 → (hl (5 * r + i) = true ↔ p - 1 ≤ i ∧ i < n)) : mv_h hl r p (5 * r + i) = true ↔ p ≤ i ∧ i < n := by
  unfold mv_h
  by_cases z : p = 0
  · rw [if_pos z, H i hi]; omega
  · rw [if_neg z]
    by_cases y : i = p - 1
    · subst y; rw [im_us]
      exact ⟨(fun q => by cases q), fun q => by omega⟩
    · rw [im_un (by omega), H i hi]; omega
theorem mv_K {hl : Nat → Bool} {lk : Nat → Option Nat} {r p : Nat} (hA : ∀ j, A j < 20) (hB : ∀ j, B j < 20) (hr : r < (gr_L A B nj sg).length) (hp : p < rl_n (gr_L A B nj sg) r) (K : dn_K (gr_L A B nj sg) hl lk) (H : ∀ i, i < 5 → (hl (5 * r + i) = true ↔ p - 1 ≤ i ∧ i < rl_n (gr_L A B nj sg) r)) : dn_K (gr_L A B nj sg) (mv_h hl r p) (mv_l (gr_L A B nj sg) lk r p) := by
  have hn := rv_n hr
  unfold mv_h mv_l
  by_cases z : p = 0
  · rw [if_pos z, if_pos z]; exact K
  · rw [if_neg z, if_neg z]
    refine hf_K K (by omega) ((H (p - 1) (by omega)).mpr ⟨Nat.le_refl _, by omega⟩) ?_ ?_
    · intro i hi z1 z2
      exact rv_d hr ((H i hi).mp z1).2 (by omega) z2
    · have := rv_e hA hB hr (show p - 1 < rl_n (gr_L A B nj sg) r by omega); omega
theorem dp_go {st : Nat → Bool} {wt ps : Nat → Nat} {hl : Nat → Bool} {lk hd ro : Nat → Option Nat} {pg en : Nat → Nat} {to to' : Nat → Option Nat} {sr oc : Int32} {t r p h : Nat} (hA : ∀ j, A j < 20) (hB : ∀ j, B j < 20) (I : dn_I (gr_L A B nj sg) st wt ps hl lk hd ro pg en to sr oc) (Q : mv_Q (gr_L A B nj sg) st wt hl hd ro t r p h) (hto : ∃ x, to' r = some x) (hto2 : ∀ x, x ≠ r → to' x = to x) (hto3 : ∀ x y, to' x = some y → y < 3) (hp1 : p + 1 < rl_n (gr_L A B nj sg) r) :
    dn_I (gr_L A B nj sg) st wt ps (mv_h hl r p) (mv_l (gr_L A B nj sg) lk r p) (im_u hd t (some (ix_op (rl_e (gr_L A B nj sg) r p)))) (im_u ro t (some r)) (im_u pg t (p + 1)) (im_u en t (p + 1)) to' sr (oc_M oc h (rl_e (gr_L A B nj sg) r p)) := by
  obtain ⟨⟨a1, a2, a3⟩, T, ⟨r1, r2, r3⟩, ⟨o1, o2⟩, H, K, F, ps1⟩ := I
  obtain ⟨ht, hh, hs, hw, hp, hu, hro, hH, hf⟩ := Q
  have hr := a1 r hs
  have hn := rv_n hr
  have hl16 := @rv_len A B nj sg
  have e20 := rv_e hA hB hr hp
  have K1 := mv_K hA hB hr hp K hH
  have hrp : mv_h hl r p (5 * r + p) = true := (mv_r (by omega) (by omega) hH).mpr ⟨Nat.le_refl _, hp⟩
  refine ⟨⟨a1, a2, a3⟩, tt_move T ht hh e20 hf, ⟨?_, ?_, ?_⟩, ⟨?_, hto3⟩, ?_, K1, ?_, ps1⟩
  · intro x q hx z
    by_cases y : x = t
    · subst y; rw [im_us] at z; cases z
      rw [im_us, im_us, im_us, Nat.add_sub_cancel]
      exact ⟨hs, hw, by omega, hp1, rfl, rfl⟩
    · rw [im_un y] at z ⊢
      rw [im_un y, im_un y]
      exact r1 x q hx z
  · intro x y q hx hy z1 z2
    by_cases w1 : x = t
    · by_cases w2 : y = t
      · rw [w1, w2]
      · subst w1
        rw [im_us] at z1; cases z1
        rw [im_un w2] at z2
        exact (hu y hy z2).symm
    · rw [im_un w1] at z1
      by_cases w2 : y = t
      · subst w2
        rw [im_us] at z2; cases z2
        exact hu x hx z1
      · rw [im_un w2] at z2
        exact r2 x y q hx hy z1 z2
  · intro x q z
    rw [im_ue] at z
    split at z
    · cases z; omega
    · exact r3 x q z
  · intro q z
    by_cases y : q = r
    · subst y
      exact ⟨fun _ => ⟨t, ht, im_us⟩, fun _ => hto⟩
    · rw [hto2 q y, o1 q z]
      constructor
      · rintro ⟨x, hx, w⟩
        refine ⟨x, hx, ?_⟩
        rw [im_un]
        · exact w
        · intro v; subst v
          rcases hro with v | v
          · rw [v] at w; cases w
          · rw [v] at w; cases w; exact y rfl
      · rintro ⟨x, hx, w⟩
        by_cases v : x = t
        · subst v; rw [im_us] at w; cases w; exact absurd rfl y
        · rw [im_un v] at w; exact ⟨x, hx, w⟩
  · intro q k hk
    by_cases y : q = r
    · subst y
      rw [mv_r hk (by omega) hH]
      constructor
      · rintro ⟨z1, z2⟩
        refine ⟨hs, z2, fun x hx w => ?_⟩
        by_cases v : x = t
        · subst v; rw [im_us]; omega
        · rw [im_un v] at w; exact absurd (hu x hx w) v
      · rintro ⟨_, z2, z3⟩
        have := z3 t ht im_us
        rw [im_us] at this
        exact ⟨by omega, z2⟩
    · rw [mv_o hk (by omega) y, H q k hk]
      constructor
      · rintro ⟨z1, z2, z3⟩
        refine ⟨z1, z2, fun x hx w => ?_⟩
        by_cases v : x = t
        · subst v; rw [im_us] at w; cases w; exact absurd rfl y
        · rw [im_un v] at w ⊢; exact z3 x hx w
      · rintro ⟨z1, z2, z3⟩
        refine ⟨z1, z2, fun x hx w => ?_⟩
        have v : x ≠ t := by
          intro v; subst v
          rcases hro with v | v
          · rw [v] at w; cases w
          · rw [v] at w; cases w; exact y rfl
        have := z3 x hx (by rw [im_un v]; exact w)
        rw [im_un v] at this
        exact this
  · intro x q r' k hx z1 hk z2 z3
    by_cases v : x = t
    · subst v
      rw [im_us] at z1
      rw [← Option.some.inj z1, ix_oph] at z3
      have b1 := (K1.1 _ (by omega) r').mpr ⟨k, hk, z2, z3.symm⟩
      have b2 := (K1.1 _ (by omega) r).mpr ⟨p, by omega, hrp, rfl⟩
      rw [b2] at b1; cases b1
      have kl := ((mv_r hk (by omega) hH).mp z2).2
      have := rv_d hr hp kl z3
      subst this
      rw [im_us, im_us]
      exact ⟨rfl, rfl⟩
    · rw [im_un v] at z1 ⊢
      rw [im_un v]
      exact F x q r' k hx z1 hk (mv_sub z2) z3
theorem dp_fin {st : Nat → Bool} {wt ps : Nat → Nat} {hl : Nat → Bool} {lk hd ro : Nat → Option Nat} {pg en : Nat → Nat} {to to' : Nat → Option Nat} {sr oc : Int32} {t r p h : Nat} (hA : ∀ j, A j < 20) (hB : ∀ j, B j < 20) (I : dn_I (gr_L A B nj sg) st wt ps hl lk hd ro pg en to sr oc) (Q : mv_Q (gr_L A B nj sg) st wt hl hd ro t r p h) (hto2 : ∀ x, x ≠ r → to' x = to x) (hto3 : ∀ x y, to' x = some y → y < 3) :
    dn_I (gr_L A B nj sg) (im_u st r false) (im_u wt r 0) ps (rel_h (mv_h hl r p) r) (rel_l (mv_l (gr_L A B nj sg) lk r p) r) (im_u hd t (some (ix_op (rl_e (gr_L A B nj sg) r p)))) (im_u ro t none) (im_u pg t (p + 1)) (im_u en t (p + 1)) to' (sr &&& (((1 : Int32) <<< (nI r &&& 31)) ^^^ (-1))) (oc_M oc h (rl_e (gr_L A B nj sg) r p)) := by
  obtain ⟨⟨a1, a2, a3⟩, T, ⟨r1, r2, r3⟩, ⟨o1, o2⟩, H, K, F, ps1⟩ := I
  obtain ⟨ht, hh, hs, hw, hp, hu, hro, hH, hf⟩ := Q
  have hr := a1 r hs
  have hn := rv_n hr
  have hl16 := @rv_len A B nj sg
  have e20 := rv_e hA hB hr hp
  have K1 := mv_K hA hB hr hp K hH
  have hrp : mv_h hl r p (5 * r + p) = true := (mv_r (by omega) (by omega) hH).mpr ⟨Nat.le_refl _, hp⟩
  have ro2 : ∀ x q, x < 3 → im_u ro t none x = some q → x ≠ t ∧ ro x = some q ∧ q ≠ r := by
    intro x q hx z
    by_cases y : x = t
    · subst y; rw [im_us] at z; cases z
    · rw [im_un y] at z
      refine ⟨y, z, ?_⟩
      intro w; subst w; exact y (hu x hx z)
  have ro3 : ∀ x q, x < 3 → q ≠ r → ro x = some q → x ≠ t := by
    intro x q hx y w v
    subst v
    rcases hro with v | v
    · rw [v] at w; cases w
    · rw [v] at w; cases w; exact y rfl
  refine ⟨⟨?_, ?_, ?_⟩, tt_move T ht hh e20 hf, ⟨?_, ?_, ?_⟩, ⟨?_, hto3⟩, ?_, rel_K K1, ?_, ps1⟩
  · intro x z
    by_cases e : x = r
    · subst e; rw [im_us] at z; cases z
    · rw [im_un e] at z; exact a1 x z
  · intro x
    by_cases e : x = r
    · subst e; rw [im_us]; exact ⟨by omega, fun z => absurd rfl z⟩
    · rw [im_un e, im_un e]; exact a2 x
  · intro x
    rw [ib_clr _ (by omega), a3]
    by_cases e : x = r
    · subst e; rw [im_us, decide_eq_true rfl]; exact Bool.and_false _
    · rw [im_un e, decide_eq_false e]; exact Bool.and_true _
  · intro x q hx z
    obtain ⟨y1, y2, y3⟩ := ro2 x q hx z
    rw [im_un y3, im_un y3, im_un y1, im_un y1, im_un y1]
    exact r1 x q hx y2
  · intro x y q hx hy z1 z2
    exact r2 x y q hx hy (ro2 x q hx z1).2.1 (ro2 y q hy z2).2.1
  · intro x q z
    rw [im_ue] at z
    split at z
    · cases z
    · exact r3 x q z
  · intro q z
    have y : q ≠ r := by intro w; rw [w, im_us] at z; cases z
    rw [im_un y] at z
    rw [hto2 q y, o1 q z]
    constructor
    · rintro ⟨x, hx, w⟩
      exact ⟨x, hx, by rw [im_un (ro3 x q hx y w)]; exact w⟩
    · rintro ⟨x, hx, w⟩
      exact ⟨x, hx, (ro2 x q hx w).2.1⟩
  · intro q k hk
    by_cases y : q = r
    · subst y
      rw [rel_hr hk, im_us]
      exact ⟨(fun z => by cases z), (fun z => by cases z.1)⟩
    · rw [rel_ho hk y, mv_o hk (by omega) y, im_un y, H q k hk]
      constructor
      · rintro ⟨z1, z2, z3⟩
        refine ⟨z1, z2, fun x hx w => ?_⟩
        obtain ⟨v1, v2, _⟩ := ro2 x q hx w
        rw [im_un v1]; exact z3 x hx v2
      · rintro ⟨z1, z2, z3⟩
        refine ⟨z1, z2, fun x hx w => ?_⟩
        have v := ro3 x q hx y w
        have := z3 x hx (by rw [im_un v]; exact w)
        rw [im_un v] at this
        exact this
  · intro x q r' k hx z1 hk z2 z3
    have y : r' ≠ r := by intro w; subst w; rw [rel_hr hk] at z2; cases z2
    rw [rel_ho hk y] at z2
    by_cases v : x = t
    · subst v
      rw [im_us] at z1
      rw [← Option.some.inj z1, ix_oph] at z3
      have b1 := (K1.1 _ (by omega) r').mpr ⟨k, hk, z2, z3.symm⟩
      have b2 := (K1.1 _ (by omega) r).mpr ⟨p, by omega, hrp, rfl⟩
      rw [b2] at b1; cases b1
      exact absurd rfl y
    · rw [im_un v] at z1 ⊢
      rw [im_un v]
      exact F x q r' k hx z1 hk (mv_sub z2) z3
end MOVEP
end
section
/-! a train moves: both sides -/
section MOVE
variable {xjc xfd xrc xsr xoc xwg : Int32} {xjA xjB xcA xjt xhs xps xso xlo xrj xre xrs xnd xnp xcf xwe xwc xwt xto xlk xnc xhd xro xpg xrt xsz xrg : Nat → Int32}
variable {yjs yrs : Int32} {yon ytw ysg yps yfr yln yjt yen yst ywt yhl ylk yhd yun yed yrv ymt ynx : Nat → Int32}
variable {A B : Nat → Nat} {nj : Nat} {sg : Nat → Bool}
theorem im_uu {α : Type} {f : Nat → α} {i : Nat} {a b : α} : im_u (im_u f i a) i b = im_u f i b := by
  funext j
  by_cases e : j = i
  · subst e; rw [im_us, im_us]
  · rw [im_un e, im_un e, im_un e]
theorem mx_118 {post : Int32 → SX → Prop} {hl : Nat → Bool} {lk hd ro : Nat → Option Nat} {pg : Nat → Nat} {t r p e : Nat} (S : sk_St A B nj xjt) (R : rx_F A B nj sg xrc xso xlo xrj xre xrs xnd xnp xcf) (hr : r < (gr_L A B nj sg).length) (ht : t < 3) (he : e < 20) (hp : p < rl_n (gr_L A B nj sg) r) (hpg : pg t = p) (K : dn_K (gr_L A B nj sg) hl lk) (hH : ∀ i, i < 5 → (hl (5 * r + i) = true ↔ p ≤ i ∧ i < rl_n (gr_L A B nj sg) r))
    (hgo : p + 1 < rl_n (gr_L A B nj sg) r → post 1 (xjc, xfd, xrc, xsr, xoc, xwg, im_n A, im_n B, im_n (sk_c A B nj), xjt, xhs, xps, xso, xlo, xrj, xre, xrs, xnd, xnp, xcf, xwe, xwc, xwt, xto, im_o (-1) lk, im_n (hs_N A B nj (gr_L A B nj sg) hl), im_o (-1) (im_u hd t (some (ix_op e))), im_o (-1) ro, im_n (im_u pg t (p + 1)), xrt, xsz, xrg))
    (hfin : p + 1 = rl_n (gr_L A B nj sg) r → post 1 (xjc, xfd, xrc, xsr &&& (((1 : Int32) <<< (nI r &&& 31)) ^^^ (-1)), xoc, xwg, im_n A, im_n B, im_n (sk_c A B nj), xjt, xhs, xps, xso, xlo, xrj, xre, xrs, xnd, xnp, xcf, xwe, xwc, xwt, xto, im_o (-1) (rel_l lk r), im_n (hs_N A B nj (gr_L A B nj sg) (rel_h hl r)), im_o (-1) (im_u hd t (some (ix_op e))), im_o (-1) (im_u ro t none), im_n (im_u pg t (p + 1)), xrt, xsz, xrg)) :
    wX_moveTrain_118 post (nI t) (nI r) (nI p) (nI e) xjc xfd xrc xsr xoc xwg (im_n A) (im_n B) (im_n (sk_c A B nj)) xjt xhs xps xso xlo xrj xre xrs xnd xnp xcf xwe xwc xwt xto (im_o (-1) lk) (im_n (hs_N A B nj (gr_L A B nj sg) hl)) (im_o (-1) hd) (im_o (-1) ro) (im_n pg) xrt xsz xrg := by
  have hl16 := @rv_len A B nj sg
  have hn := rv_n hr
  have vt : vp_in (nI t) 3 := vp_in_nI ht (by omega)
  have vr : vp_in (nI r) 16 := vp_in_nI (by omega) (by omega)
  have cr : (nI r).toNatClampNeg = r := nI_clamp (by omega)
  have ho := ix_op20 he
  refine And.intro vt (nm_r (im_oS (v := some (ix_op e)) rfl (by omega) ?_) (And.intro vt (And.intro vt ?_)))
  · rw [ix_opx e he]; exact im_by (by omega)
  refine nm_r (im_nS (v := p + 1) rfl (by omega) ?_) (And.intro vt (And.intro vr ?_))
  · rw [im_nR (i := t) rfl (by omega), hpg, nI_1]; exact im_by (by omega)
  rw [im_nR (f := im_u pg t (p + 1)) (i := t) rfl (by omega), im_us, cr, (rx_get R hr).2.1]
  refine pk_eq (p + 1) (rl_n (gr_L A B nj sg) r) ?_ ?_
  · intro z
    refine xr_rel S R hr (by omega) K hH ?_
    refine And.intro vt ?_
    exact nm_r (im_oS (v := none) rfl (by omega) im_bym) (hfin z)
  · intro z
    exact hgo (by omega)
theorem mx_51 {post : Int32 → SX → Prop} {hl : Nat → Bool} {lk hd ro : Nat → Option Nat} {pg : Nat → Nat} {t r p h : Nat} (S : sk_St A B nj xjt) (R : rx_F A B nj sg xrc xso xlo xrj xre xrs xnd xnp xcf) (hr : r < (gr_L A B nj sg).length) (ht : t < 3) (hh : hd t = some h) (h20 : h < 20) (hp : p < rl_n (gr_L A B nj sg) r) (hpg : pg t = p) (K : dn_K (gr_L A B nj sg) hl lk) (hH : ∀ i, i < 5 → (hl (5 * r + i) = true ↔ p - 1 ≤ i ∧ i < rl_n (gr_L A B nj sg) r))
    (hgo : p + 1 < rl_n (gr_L A B nj sg) r → post 1 (xjc, xfd, xrc, xsr, oc_M xoc h (rl_e (gr_L A B nj sg) r p), xwg, im_n A, im_n B, im_n (sk_c A B nj), xjt, xhs, xps, xso, xlo, xrj, xre, xrs, xnd, xnp, xcf, xwe, xwc, xwt, xto, im_o (-1) (mv_l (gr_L A B nj sg) lk r p), im_n (hs_N A B nj (gr_L A B nj sg) (mv_h hl r p)), im_o (-1) (im_u hd t (some (ix_op (rl_e (gr_L A B nj sg) r p)))), im_o (-1) ro, im_n (im_u pg t (p + 1)), xrt, xsz, xrg))
    (hfin : p + 1 = rl_n (gr_L A B nj sg) r → post 1 (xjc, xfd, xrc, xsr &&& (((1 : Int32) <<< (nI r &&& 31)) ^^^ (-1)), oc_M xoc h (rl_e (gr_L A B nj sg) r p), xwg, im_n A, im_n B, im_n (sk_c A B nj), xjt, xhs, xps, xso, xlo, xrj, xre, xrs, xnd, xnp, xcf, xwe, xwc, xwt, xto, im_o (-1) (rel_l (mv_l (gr_L A B nj sg) lk r p) r), im_n (hs_N A B nj (gr_L A B nj sg) (rel_h (mv_h hl r p) r)), im_o (-1) (im_u hd t (some (ix_op (rl_e (gr_L A B nj sg) r p)))), im_o (-1) (im_u ro t none), im_n (im_u pg t (p + 1)), xrt, xsz, xrg)) :
    wX_moveTrain_51 post (nI t) (nI r) xjc xfd xrc xsr xoc xwg (im_n A) (im_n B) (im_n (sk_c A B nj)) xjt xhs xps xso xlo xrj xre xrs xnd xnp xcf xwe xwc xwt xto (im_o (-1) lk) (im_n (hs_N A B nj (gr_L A B nj sg) hl)) (im_o (-1) hd) (im_o (-1) ro) (im_n pg) xrt xsz xrg := by
  have hl16 := @rv_len A B nj sg
  have hn := rv_n hr
  have e20 := rv_e S.2.1 S.2.2.1 hr hp
  have vt : vp_in (nI t) 3 := vp_in_nI ht (by omega)
  obtain ⟨q1, q2, q3, _⟩ := rx_get R hr
  have e5 : 5 * nI r + nI p = nI (5 * r + p) := ix_5 r p
  have v5 : vp_in (5 * nI r + nI p) 80 := by rw [e5]; exact vp_in_nI (by omega) (by omega)
  have c5 : (5 * nI r + nI p).toNatClampNeg = 5 * r + p := by rw [e5]; exact nI_clamp (by omega)
  have K1 := mv_K S.2.1 S.2.2.1 hr hp K hH
  have hH1 : ∀ i, i < 5 → (mv_h hl r p (5 * r + i) = true ↔ p ≤ i ∧ i < rl_n (gr_L A B nj sg) r) := fun i hi => mv_r hi (by omega) hH
  refine And.intro vt (nm_r (e' := nI p) (by rw [im_nR (f := pg) (i := t) rfl (by omega), hpg]) (And.intro v5 ?_))
  refine nm_r (e' := nI (rl_e (gr_L A B nj sg) r p)) (by rw [c5, (q3 p hp).2]) (And.intro vt (And.intro ix_20 ?_))
  refine nm_r (e' := xoc &&& (((1 : Int32) <<< (nI (h / 2) &&& 31)) ^^^ (-1))) (by rw [im_oR (f := hd) (i := t) rfl (by omega), hh, im_oss, ix_h (by omega)]) (And.intro ix_20 ?_)
  refine nm_r (e' := oc_M xoc h (rl_e (gr_L A B nj sg) r p)) (by rw [ix_h (by omega)]; rfl) ?_
  refine pk_le p 0 ?_ ?_
  · intro z
    have z0 : p = 0 := by omega
    have f1 : mv_h hl r p = hl := if_pos z0
    have f2 : mv_l (gr_L A B nj sg) lk r p = lk := if_pos z0
    rw [f1, f2] at hgo hfin K1
    rw [f1] at hH1
    exact mx_118 S R hr ht e20 hp hpg K1 hH1 hgo hfin
  · intro z
    have z0 : ¬ p = 0 := by omega
    have f1 : mv_h hl r p = im_u hl (5 * r + (p - 1)) false := if_neg z0
    have f2 : mv_l (gr_L A B nj sg) lk r p = im_u lk (rl_e (gr_L A B nj sg) r (p - 1) / 2) none := if_neg z0
    have e1 : nI p - 1 = nI (p - 1) := pk_sub (show 1 ≤ p by omega)
    rw [e1]
    rw [f1, f2] at hgo hfin K1
    rw [f1] at hH1
    refine xr_at S R hr (by omega) ((hH (p - 1) (by omega)).mpr ⟨Nat.le_refl _, by omega⟩) ?_
    exact mx_118 S R hr ht e20 hp hpg K1 hH1 hgo hfin
def cl_P (L : List (Nat × List (Nat × Nat))) (st : Nat → Bool) (wt : Nat → Nat) (ro : Nat → Option Nat) (h r : Nat) : Prop := st r = true ∧ wt r = 0 ∧ rl_s L r = h ∧ ¬ ∃ t, t < 3 ∧ ro t = some r
theorem xl_clear {post : Int32 → Prop} {st : Nat → Bool} {wt : Nat → Nat} {ro to : Nat → Option Nat} {h : Nat} (R : rx_F A B nj sg xrc xso xlo xrj xre xrs xnd xnp xcf) (h20 : h < 20) (a : dn_A (gr_L A B nj sg) st wt xsr) (O : dn_O st ro to)
    (h0 : (∀ r, r < (gr_L A B nj sg).length → ¬ cl_P (gr_L A B nj sg) st wt ro h r) → post (-1)) (h1 : ∀ r, r < (gr_L A B nj sg).length → cl_P (gr_L A B nj sg) st wt ro h r → (∀ q, q < r → ¬ cl_P (gr_L A B nj sg) st wt ro h q) → post (nI r)) :
    wpX_clearRoute post (xjc, xfd, xrc, xsr, xoc, xwg, xjA, xjB, xcA, xjt, xhs, xps, xso, xlo, xrj, xre, xrs, xnd, xnp, xcf, xwe, xwc, im_n wt, im_o (-1) to, xlk, xnc, xhd, xro, xpg, xrt, xsz, xrg) (nI h) := by
  have hl16 := @rv_len A B nj sg
  have erc : xrc = nI (gr_L A B nj sg).length := R.1.1
  subst erc
  refine Exists.intro ((gr_L A B nj sg).length + 1) ?_
  have step : ∀ (n i : Nat), i < (gr_L A B nj sg).length → (cl_P (gr_L A B nj sg) st wt ro h i → post (nI i)) → (¬ cl_P (gr_L A B nj sg) st wt ro h i → wX_clearRoute_2 post (nI h) xjc xfd (nI (gr_L A B nj sg).length) xsr xoc xwg xjA xjB xcA xjt xhs xps xso xlo xrj xre xrs xnd xnp xcf xwe xwc (im_n wt) (im_o (-1) to) xlk xnc xhd xro xpg xrt xsz xrg n (nI (i + 1))) → wX_clearRoute_2 post (nI h) xjc xfd (nI (gr_L A B nj sg).length) xsr xoc xwg xjA xjB xcA xjt xhs xps xso xlo xrj xre xrs xnd xnp xcf xwe xwc (im_n wt) (im_o (-1) to) xlk xnc xhd xro xpg xrt xsz xrg (n + 1) (nI i) := by
    intro n i hi p1 p0
    have vi : vp_in (nI i) 16 := vp_in_nI (by omega) (by omega)
    have ci : (nI i).toNatClampNeg = i := nI_clamp (by omega)
    have s20 := (rv_all hi).1
    have w3 := (a.2.1 i).1
    refine br_f (nI_ge hi (by omega)) ?_
    refine xs_set (by omega) ?_ ?_
    · intro z
      refine br_t rfl (nm_r (nI_1 i) (p0 ?_))
      intro c; rw [a.2.2, c.1] at z; cases z
    · intro z
      have hst : st i = true := by rw [← a.2.2]; exact z
      refine br_f (by decide) (And.intro vi ?_)
      rw [ci, (rx_get R hi).1]
      refine pk_eq (rl_s (gr_L A B nj sg) i) h ?_ (fun e => nm_r (nI_1 i) (p0 (fun c => e c.2.2.1)))
      intro e
      refine And.intro vi ?_
      show (nI (wt i) = 0 → _) ∧ _
      refine pk_eq (wt i) 0 ?_ (fun w => nm_r (nI_1 i) (p0 (fun c => w c.2.1)))
      intro w
      refine And.intro vi ?_
      show (0 ≤ im_oi (-1) (to i) → _) ∧ _
      refine im_og im_m1 (fun q y => by have := O.2 i q y; omega) ?_ ?_
      · intro y
        refine p1 ⟨hst, w, e, ?_⟩
        intro v
        obtain ⟨x, ex⟩ := (O.1 i hst).mpr v
        rw [y] at ex; cases ex
      · intro q y
        exact nm_r (nI_1 i) (p0 (fun c => c.2.2.2 ((O.1 i hst).mp ⟨q, y⟩)))
  refine lq_find0 (fun n i => wX_clearRoute_2 post (nI h) xjc xfd (nI (gr_L A B nj sg).length) xsr xoc xwg xjA xjB xcA xjt xhs xps xso xlo xrj xre xrs xnd xnp xcf xwe xwc (im_n wt) (im_o (-1) to) xlk xnc xhd xro xpg xrt xsz xrg n (nI i)) (gr_L A B nj sg).length (fun r => cl_P (gr_L A B nj sg) st wt ro h r) ?_ ?_ ?_
  · intro n hno
    exact br_t (Int32.le_refl _) (h0 hno)
  · intro n i hi hno hw
    exact step n i hi (fun c => absurd c hno) (fun _ => hw)
  · intro n i hi hb hc
    exact step n i hi (fun c => h1 i hi c hb) (fun c => absurd hc c)
theorem yl_route {post : Int32 → Prop} {st : Nat → Bool} {wt : Nat → Nat} {hd ro : Nat → Option Nat} {t h : Nat} {sr : Int32} (Y : rp_Y (gr_L A B nj sg) yrs yfr yln yjt yen) (ht : t < 3) (hh : hd t = some h) (a : dn_A (gr_L A B nj sg) st wt sr) (hb : ∀ t h, hd t = some h → h < 20) (hrb : ∀ t r, ro t = some r → r < 16) (hR : ∀ t r, t < 3 → ro t = some r → ∃ h, hd t = some h)
    (h0 : (∀ r, r < (gr_L A B nj sg).length → ¬ cl_P (gr_L A B nj sg) st wt ro h r) → post (-1)) (h1 : ∀ r, r < (gr_L A B nj sg).length → cl_P (gr_L A B nj sg) st wt ro h r → (∀ q, q < r → ¬ cl_P (gr_L A B nj sg) st wt ro h q) → post (nI r)) :
    wpY_routeFor post (yjs, yrs, yon, ytw, ysg, yps, yfr, yln, yjt, yen, im_b st, im_n wt, yhl, ylk, im_o (-1) hd, im_o (-1) ro, yed, yrv, ymt, ynx) (nI t) := by
  have hl16 := @rv_len A B nj sg
  have h20 := hb t h hh
  have erc : yrs = nI (gr_L A B nj sg).length := Y.1
  subst erc
  have vt : vp_in (nI t) 3 := vp_in_nI ht (by omega)
  refine Exists.intro ((gr_L A B nj sg).length + 1) ?_
  have step : ∀ (n i : Nat), i < (gr_L A B nj sg).length → (cl_P (gr_L A B nj sg) st wt ro h i → post (nI i)) → (¬ cl_P (gr_L A B nj sg) st wt ro h i → wY_routeFor_2 post (nI t) yjs (nI (gr_L A B nj sg).length) yon ytw ysg yps yfr yln yjt yen (im_b st) (im_n wt) yhl ylk (im_o (-1) hd) (im_o (-1) ro) yed yrv ymt ynx n (nI (i + 1))) → wY_routeFor_2 post (nI t) yjs (nI (gr_L A B nj sg).length) yon ytw ysg yps yfr yln yjt yen (im_b st) (im_n wt) yhl ylk (im_o (-1) hd) (im_o (-1) ro) yed yrv ymt ynx (n + 1) (nI i) := by
    intro n i hi p1 p0
    have vi : vp_in (nI i) 16 := vp_in_nI (by omega) (by omega)
    have ci : (nI i).toNatClampNeg = i := nI_clamp (by omega)
    have s20 := (rv_all hi).1
    have w3 := (a.2.1 i).1
    refine br_f (nI_ge hi (by omega)) (And.intro vi ?_)
    rw [im_bR (f := st) (i := i) rfl (by omega), im_nR (f := wt) (i := i) rfl (by omega)]
    refine im_bc (fun z => nm_r (nI_1 i) (p0 (fun c => by rw [c.1] at z; cases z))) ?_
    intro hst
    refine And.intro vi ?_
    refine pk_eq (wt i) 0 ?_ (fun w => nm_r (nI_1 i) (p0 (fun c => w c.2.1)))
    intro w
    refine And.intro vi (And.intro vt ?_)
    rw [ci, (ry_get Y hi).1, im_oR (f := hd) (i := t) rfl (by omega), hh, im_oss]
    refine pk_eq (rl_s (gr_L A B nj sg) i) h ?_ (fun e => nm_r (nI_1 i) (p0 (fun c => e c.2.2.1)))
    intro e
    refine ys_used (by omega) hb hrb hR ?_ ?_
    · intro v; exact br_t rfl (p1 ⟨hst, w, e, v⟩)
    · intro v; exact br_f (by decide) (nm_r (nI_1 i) (p0 (fun c => c.2.2.2 v)))
  refine lq_find0 (fun n i => wY_routeFor_2 post (nI t) yjs (nI (gr_L A B nj sg).length) yon ytw ysg yps yfr yln yjt yen (im_b st) (im_n wt) yhl ylk (im_o (-1) hd) (im_o (-1) ro) yed yrv ymt ynx n (nI i)) (gr_L A B nj sg).length (fun r => cl_P (gr_L A B nj sg) st wt ro h r) ?_ ?_ ?_
  · intro n hno
    exact br_t (Int32.le_refl _) (h0 hno)
  · intro n i hi hno hw
    exact step n i hi (fun c => absurd c hno) (fun _ => hw)
  · intro n i hi hb hc
    exact step n i hi (fun c => h1 i hi c hb) (fun c => absurd hc c)
theorem my_105 {post : Int32 → SY → Prop} {st : Nat → Bool} {wt : Nat → Nat} {hl : Nat → Bool} {lk hd ro : Nat → Option Nat} {en : Nat → Nat} {t r p : Nat} (Y : rp_Y (gr_L A B nj sg) yrs yfr yln yjt yen) (hA : ∀ j, A j < 20) (hB : ∀ j, B j < 20) (hr : r < (gr_L A B nj sg).length) (ht : t < 3) (hp : p < rl_n (gr_L A B nj sg) r) (hen : en t = p) (hlb : ∀ s r, lk s = some r → r < 16)
    (hgo : p + 1 < rl_n (gr_L A B nj sg) r → post 1 (yjs, yrs, yon, ytw, ysg, yps, yfr, yln, yjt, yen, im_b st, im_n wt, im_b hl, im_o (-2) lk, im_o (-1) (im_u hd t (some (ix_op (rl_e (gr_L A B nj sg) r p)))), im_o (-1) ro, im_n (im_u en t (p + 1)), yrv, ymt, ynx))
    (hfin : p + 1 = rl_n (gr_L A B nj sg) r → post 1 (yjs, yrs, yon, ytw, ysg, yps, yfr, yln, yjt, yen, im_b (im_u st r false), im_n (im_u wt r 0), im_b (rel_h hl r), im_o (-2) (rel_l lk r), im_o (-1) (im_u hd t (some (ix_op (rl_e (gr_L A B nj sg) r p)))), im_o (-1) (im_u ro t none), im_n (im_u en t (p + 1)), yrv, ymt, ynx)) :
    wY_move_105 post (nI t) (nI r) (nI p) yjs yrs yon ytw ysg yps yfr yln yjt yen (im_b st) (im_n wt) (im_b hl) (im_o (-2) lk) (im_o (-1) hd) (im_o (-1) ro) (im_n en) yrv ymt ynx := by
  have hl16 := @rv_len A B nj sg
  have hn := rv_n hr
  have e20 := rv_e hA hB hr hp
  have vt : vp_in (nI t) 3 := vp_in_nI ht (by omega)
  have vr : vp_in (nI r) 16 := vp_in_nI (by omega) (by omega)
  have cr : (nI r).toNatClampNeg = r := nI_clamp (by omega)
  obtain ⟨q1, q2, q3⟩ := ry_get Y hr
  have e5 : 5 * nI r + nI p = nI (5 * r + p) := ix_5 r p
  have v5 : vp_in (5 * nI r + nI p) 80 := by rw [e5]; exact vp_in_nI (by omega) (by omega)
  have c5 : (5 * nI r + nI p).toNatClampNeg = 5 * r + p := by rw [e5]; exact nI_clamp (by omega)
  refine And.intro v5 ?_
  rw [c5, (q3 p hp).2]
  refine ys_opp e20 (And.intro vt ?_)
  refine nm_r (im_oS (v := some (ix_op (rl_e (gr_L A B nj sg) r p))) rfl (by omega) rfl) (And.intro vt (And.intro vt ?_))
  refine nm_r (im_nS (v := p + 1) rfl (by omega) ?_) (And.intro vt (And.intro vr ?_))
  · rw [im_nR (i := t) rfl (by omega), hen, nI_1]
  rw [im_nR (f := im_u en t (p + 1)) (i := t) rfl (by omega), im_us, cr, q2]
  refine pk_eq (p + 1) (rl_n (gr_L A B nj sg) r) ?_ ?_
  · intro z
    refine And.intro vt (nm_r (im_oS (v := none) rfl (by omega) rfl) ?_)
    exact yr_rel (by omega) hlb (hfin z)
  · intro z
    exact hgo (by omega)
theorem my_38 {post : Int32 → SY → Prop} {st : Nat → Bool} {wt : Nat → Nat} {hl : Nat → Bool} {lk hd ro : Nat → Option Nat} {en : Nat → Nat} {t r p h : Nat} (Y : rp_Y (gr_L A B nj sg) yrs yfr yln yjt yen) (hA : ∀ j, A j < 20) (hB : ∀ j, B j < 20) (hr : r < (gr_L A B nj sg).length) (ht : t < 3) (hh : hd t = some h) (h20 : h < 20) (hro : ro t = some r) (hp : p < rl_n (gr_L A B nj sg) r) (hen : en t = p) (hlb : ∀ s r, lk s = some r → r < 16)
    (c1 : lk (h / 2) = some r → mv_l (gr_L A B nj sg) lk r p = im_u lk (h / 2) none) (c2 : ¬ lk (h / 2) = some r → mv_l (gr_L A B nj sg) lk r p = lk)
    (hgo : p + 1 < rl_n (gr_L A B nj sg) r → post 1 (yjs, yrs, yon, ytw, ysg, yps, yfr, yln, yjt, yen, im_b st, im_n wt, im_b (mv_h hl r p), im_o (-2) (mv_l (gr_L A B nj sg) lk r p), im_o (-1) (im_u hd t (some (ix_op (rl_e (gr_L A B nj sg) r p)))), im_o (-1) ro, im_n (im_u en t (p + 1)), yrv, ymt, ynx))
    (hfin : p + 1 = rl_n (gr_L A B nj sg) r → post 1 (yjs, yrs, yon, ytw, ysg, yps, yfr, yln, yjt, yen, im_b (im_u st r false), im_n (im_u wt r 0), im_b (rel_h (mv_h hl r p) r), im_o (-2) (rel_l (mv_l (gr_L A B nj sg) lk r p) r), im_o (-1) (im_u hd t (some (ix_op (rl_e (gr_L A B nj sg) r p)))), im_o (-1) (im_u ro t none), im_n (im_u en t (p + 1)), yrv, ymt, ynx)) :
    wY_move_38 post (nI t) yjs yrs yon ytw ysg yps yfr yln yjt yen (im_b st) (im_n wt) (im_b hl) (im_o (-2) lk) (im_o (-1) hd) (im_o (-1) ro) (im_n en) yrv ymt ynx := by
  have hl16 := @rv_len A B nj sg
  have hn := rv_n hr
  have vt : vp_in (nI t) 3 := vp_in_nI ht (by omega)
  have vs : vp_in (nI (h / 2)) 10 := vp_in_nI (by omega) (by omega)
  have k86 : ∀ lk1 : Nat → Option Nat, lk1 = mv_l (gr_L A B nj sg) lk r p → (∀ s r, lk1 s = some r → r < 16) → wY_move_86 post (nI t) (nI r) (nI p) yjs yrs yon ytw ysg yps yfr yln yjt yen (im_b st) (im_n wt) (im_b hl) (im_o (-2) lk1) (im_o (-1) hd) (im_o (-1) ro) (im_n en) yrv ymt ynx := by
    intro lk1 el hb1
    rw [← el] at hgo hfin
    refine pk_le p 0 ?_ ?_
    · intro z
      have f1 : mv_h hl r p = hl := if_pos (by omega)
      rw [f1] at hgo hfin
      exact my_105 Y hA hB hr ht hp hen hb1 hgo hfin
    · intro z
      have f1 : mv_h hl r p = im_u hl (5 * r + (p - 1)) false := if_neg (by omega)
      rw [f1] at hgo hfin
      have e5 : 5 * nI r + nI p - 1 = nI (5 * r + (p - 1)) := by
        rw [ix_5]
        have : 5 * r + p = 5 * r + (p - 1) + 1 := by omega
        rw [this]; exact nI_pred _
      refine And.intro (by rw [e5]; exact vp_in_nI (by omega) (by omega)) ?_
      refine nm_r (im_bS (v := false) e5 (by omega) im_bo0) ?_
      exact my_105 Y hA hB hr ht hp hen hb1 hgo hfin
  refine And.intro vt (nm_r (e' := nI r) (by rw [im_oR (f := ro) (i := t) rfl (by omega), hro]; rfl) ?_)
  refine br_t (nI_pos' (by omega)) (And.intro vt (And.intro ix_20 ?_))
  refine nm_r (e' := nI (h / 2)) (by rw [im_oR (f := hd) (i := t) rfl (by omega), hh, im_oss, ix_h (by omega)]) (And.intro vt ?_)
  refine nm_r (e' := nI p) (by rw [im_nR (f := en) (i := t) rfl (by omega), hen]) (And.intro vs ?_)
  rw [im_oR (f := lk) (i := h / 2) rfl (by omega), im_oe im_m2 (fun q e => by have := hlb _ q e; omega) (by omega)]
  refine br_c ?_ ?_
  · intro z
    refine And.intro vs (nm_r (im_oS (v := none) rfl (by omega) rfl) ?_)
    refine k86 _ (c1 z).symm ?_
    intro s q e
    rw [im_ue] at e
    split at e
    · cases e
    · exact hlb s q e
  · intro z
    exact k86 _ (c2 z).symm hlb
end MOVE
end
section
/-! ticks -/
section TICK
variable {xjc xfd xrc xsr xoc xwg : Int32} {xjA xjB xcA xjt xhs xps xso xlo xrj xre xrs xnd xnp xcf xwe xwc xwt xto xlk xnc xhd xro xpg xrt xsz xrg : Nat → Int32}
variable {yjs yrs : Int32} {yon ytw ysg yps yfr yln yjt yen yst ywt yhl ylk yhd yun yed yrv ymt ynx : Nat → Int32}
variable {A B : Nat → Nat} {nj : Nat} {sg : Nat → Bool}
theorem dg_mk {st : Nat → Bool} {wt ps : Nat → Nat} {hl : Nat → Bool} {lk hd ro : Nat → Option Nat} {pg en : Nat → Nat} {to : Nat → Option Nat} {sr oc : Int32} (I : dn_I (gr_L A B nj sg) st wt ps hl lk hd ro pg en to sr oc) : dg_I A B nj sg (st, wt, ps, hl, lk, hd, ro, pg, en, to, sr, oc) := I
theorem lq_least (P : Nat → Prop) : ∀ n, (∀ r, r < n → ¬ P r) ∨ ∃ r, r < n ∧ P r ∧ ∀ q, q < r → ¬ P q := by
  intro n
  induction n with
  | zero => exact Or.inl (fun r hr => absurd hr (Nat.not_lt_zero r))
  | succ n ih =>
    rcases ih with h | ⟨r, h1, h2⟩
    · by_cases z : P n
      · exact Or.inr ⟨n, Nat.lt_succ_self n, z, h⟩
      · refine Or.inl (fun r hr => ?_)
        by_cases e : r = n
        · rw [e]; exact z
        · exact h r (by omega)
    · exact Or.inr ⟨r, by omega, h2⟩
theorem dp_en {L : List (Nat × List (Nat × Nat))} {st : Nat → Bool} {wt ps : Nat → Nat} {hl : Nat → Bool} {lk hd ro : Nat → Option Nat} {pg en : Nat → Nat} {to : Nat → Option Nat} {sr oc : Int32} {t : Nat} (I : dn_I L st wt ps hl lk hd ro pg en to sr oc) (h : ro t = none) : dn_I L st wt ps hl lk hd ro pg (im_u en t 0) to sr oc := by
  obtain ⟨a, T, ⟨r1, r2, r3⟩, O, H, K, F, p⟩ := I
  refine ⟨a, T, ⟨?_, r2, r3⟩, O, H, K, F, p⟩
  intro x q hx z
  have hne : x ≠ t := by intro y; rw [y, h] at z; cases z
  rw [im_un hne]
  exact r1 x q hx z
/-- what a move comes to -/
def mv_O (A B : Nat → Nat) (nj : Nat) (sg : Nat → Bool) (PX : dg_T → Int32 → Prop) (PY : dg_T → Int32 → Prop) : Prop := ∃ (g' : dg_T) (m : Int32), dg_I A B nj sg g' ∧ PX g' m ∧ PY g' m
theorem mv_core {st : Nat → Bool} {wt ps : Nat → Nat} {hl : Nat → Bool} {lk hd ro : Nat → Option Nat} {pg en : Nat → Nat} {to to' : Nat → Option Nat} {sr oc : Int32} {ro1 : Nat → Option Nat} {pg1 en1 : Nat → Nat} {t r p h : Nat} (S : sk_St A B nj xjt) (Y : rp_Y (gr_L A B nj sg) yrs yfr yln yjt yen) (R : rx_F A B nj sg xrc xso xlo xrj xre xrs xnd xnp xcf) (I : dn_I (gr_L A B nj sg) st wt ps hl lk hd ro pg en to sr oc) (Q : mv_Q (gr_L A B nj sg) st wt hl hd ro t r p h) (hto : ∃ x, to' r = some x) (hto2 : ∀ x, x ≠ r → to' x = to x) (hto3 : ∀ x y, to' x = some y → y < 3)
    (e1 : ro1 = im_u ro t (some r)) (e2 : pg1 t = p) (e3 : im_u pg1 t (p + 1) = im_u pg t (p + 1)) (e4 : en1 t = p) (e5 : im_u en1 t (p + 1) = im_u en t (p + 1))
    (c1 : lk (h / 2) = some r → mv_l (gr_L A B nj sg) lk r p = im_u lk (h / 2) none) (c2 : ¬ lk (h / 2) = some r → mv_l (gr_L A B nj sg) lk r p = lk) :
    mv_O A B nj sg (fun g' m => ∀ post : Int32 → SX → Prop, post m (nI nj, xfd, xrc, dg_sr g', dg_oc g', xwg, im_n A, im_n B, im_n (sk_c A B nj), xjt, im_b sg, im_n (dg_ps g'), xso, xlo, xrj, xre, xrs, xnd, xnp, xcf, xwe, xwc, im_n (dg_wt g'), im_o (-1) (dg_to g'), im_o (-1) (dg_lk g'), im_n (hs_N A B nj (gr_L A B nj sg) (dg_hl g')), im_o (-1) (dg_hd g'), im_o (-1) (dg_ro g'), im_n (dg_pg g'), xrt, xsz, xrg) → wX_moveTrain_51 post (nI t) (nI r) (nI nj) xfd xrc sr oc xwg (im_n A) (im_n B) (im_n (sk_c A B nj)) xjt (im_b sg) (im_n ps) xso xlo xrj xre xrs xnd xnp xcf xwe xwc (im_n wt) (im_o (-1) to') (im_o (-1) lk) (im_n (hs_N A B nj (gr_L A B nj sg) hl)) (im_o (-1) hd) (im_o (-1) ro1) (im_n pg1) xrt xsz xrg)
      (fun g' m => ∀ post : Int32 → SY → Prop, post m (nI nj, yrs, im_n A, im_n B, im_b sg, im_n (dg_ps g'), yfr, yln, yjt, yen, im_b (dg_st g'), im_n (dg_wt g'), im_b (dg_hl g'), im_o (-2) (dg_lk g'), im_o (-1) (dg_hd g'), im_o (-1) (dg_ro g'), im_n (dg_en g'), yrv, ymt, ynx) → wY_move_38 post (nI t) (nI nj) yrs (im_n A) (im_n B) (im_b sg) (im_n ps) yfr yln yjt yen (im_b st) (im_n wt) (im_b hl) (im_o (-2) lk) (im_o (-1) hd) (im_o (-1) ro1) (im_n en1) yrv ymt ynx) := by
  have Q' := Q
  obtain ⟨ht, hh, hs, hw, hp, hu, hro, hH, hf⟩ := Q'
  have hr := I.1.1 r hs
  have h20 := I.2.1.1 t h hh
  have K := I.2.2.2.2.2.1
  have r1t : ro1 t = some r := by rw [e1, im_us]
  by_cases z : p + 1 = rl_n (gr_L A B nj sg) r
  · have D := dg_mk (dp_fin S.2.1 S.2.2.1 I Q hto2 hto3)
    have er : im_u ro1 t none = im_u ro t none := by rw [e1, im_uu]
    have ew : im_u wt r 0 = wt := im_uid hw
    rw [← e3, ← e5, ← er, ew] at D
    refine ⟨_, 1, D, ?_, ?_⟩
    · intro post hpost
      exact mx_51 S R hr ht hh h20 hp e2 K hH (fun q => by omega) (fun _ => hpost)
    · intro post hpost
      exact my_38 Y S.2.1 S.2.2.1 hr ht hh h20 r1t hp e4 K.2 c1 c2 (fun q => by omega) (fun _ => by rw [ew]; exact hpost)
  · have D := dg_mk (dp_go S.2.1 S.2.2.1 I Q hto hto2 hto3 (by omega))
    rw [← e3, ← e5, ← e1] at D
    refine ⟨_, 1, D, ?_, ?_⟩
    · intro post hpost
      exact mx_51 S R hr ht hh h20 hp e2 K hH (fun _ => hpost) (fun q => absurd q z)
    · intro post hpost
      exact my_38 Y S.2.1 S.2.2.1 hr ht hh h20 r1t hp e4 K.2 c1 c2 (fun _ => hpost) (fun q => absurd q z)
theorem mv_out {g : dg_T} {t h : Nat} (S : sk_St A B nj xjt) (Y : rp_Y (gr_L A B nj sg) yrs yfr yln yjt yen) (R : rx_F A B nj sg xrc xso xlo xrj xre xrs xnd xnp xcf) (I : dg_I A B nj sg g) (ht : t < 3) (hh : dg_hd g t = some h) :
    mv_O A B nj sg (fun g' m => ∀ post : Int32 → SX → Prop, post m (nI nj, xfd, xrc, dg_sr g', dg_oc g', xwg, im_n A, im_n B, im_n (sk_c A B nj), xjt, im_b sg, im_n (dg_ps g'), xso, xlo, xrj, xre, xrs, xnd, xnp, xcf, xwe, xwc, im_n (dg_wt g'), im_o (-1) (dg_to g'), im_o (-1) (dg_lk g'), im_n (hs_N A B nj (gr_L A B nj sg) (dg_hl g')), im_o (-1) (dg_hd g'), im_o (-1) (dg_ro g'), im_n (dg_pg g'), xrt, xsz, xrg) → wpX_moveTrain post (nI nj, xfd, xrc, dg_sr g, dg_oc g, xwg, im_n A, im_n B, im_n (sk_c A B nj), xjt, im_b sg, im_n (dg_ps g), xso, xlo, xrj, xre, xrs, xnd, xnp, xcf, xwe, xwc, im_n (dg_wt g), im_o (-1) (dg_to g), im_o (-1) (dg_lk g), im_n (hs_N A B nj (gr_L A B nj sg) (dg_hl g)), im_o (-1) (dg_hd g), im_o (-1) (dg_ro g), im_n (dg_pg g), xrt, xsz, xrg) (nI t)) (fun g' m => ∀ post : Int32 → SY → Prop, post m (nI nj, yrs, im_n A, im_n B, im_b sg, im_n (dg_ps g'), yfr, yln, yjt, yen, im_b (dg_st g'), im_n (dg_wt g'), im_b (dg_hl g'), im_o (-2) (dg_lk g'), im_o (-1) (dg_hd g'), im_o (-1) (dg_ro g'), im_n (dg_en g'), yrv, ymt, ynx) → wpY_move post (nI nj, yrs, im_n A, im_n B, im_b sg, im_n (dg_ps g), yfr, yln, yjt, yen, im_b (dg_st g), im_n (dg_wt g), im_b (dg_hl g), im_o (-2) (dg_lk g), im_o (-1) (dg_hd g), im_o (-1) (dg_ro g), im_n (dg_en g), yrv, ymt, ynx) (nI t)) := by
  have hl16 := @rv_len A B nj sg
  obtain ⟨st, wt, ps, hl, lk, hd, ro, pg, en, to, sr, oc⟩ := g
  have I' : dn_I (gr_L A B nj sg) st wt ps hl lk hd ro pg en to sr oc := I
  have hh' : hd t = some h := hh
  obtain ⟨a, T, Rr, O, H, K, F, p1⟩ := I'
  have I' : dn_I (gr_L A B nj sg) st wt ps hl lk hd ro pg en to sr oc := I
  have h20 := T.1 t h hh'
  have vt : vp_in (nI t) 3 := vp_in_nI ht (by omega)
  have hR : ∀ t r, t < 3 → ro t = some r → ∃ h, hd t = some h := fun t q ht e => ⟨_, (Rr.1 t q ht e).2.2.2.2.1⟩
  have hge : 0 ≤ im_o (-1) hd (nI t).toNatClampNeg := by
    rw [im_oR (i := t) rfl (by omega), hh']; exact nI_pos' (by omega)
  cases er : ro t with
  | some r =>
    obtain ⟨q1, q2, q3, q4, q5, q6⟩ := Rr.1 t r ht er
    have hr := a.1 r q1
    have hn := rv_n hr
    have hu : ∀ x, x < 3 → ro x = some r → x = t := fun x hx e => Rr.2.1 x t r hx ht e er
    have hH : ∀ i, i < 5 → (hl (5 * r + i) = true ↔ pg t - 1 ≤ i ∧ i < rl_n (gr_L A B nj sg) r) := by
      intro i hi
      rw [H r i hi]
      constructor
      · rintro ⟨_, z2, z3⟩
        have := z3 t ht er
        exact ⟨by omega, z2⟩
      · rintro ⟨z1, z2⟩
        refine ⟨q1, z2, fun x hx e => ?_⟩
        rw [hu x hx e]; omega
    have hf : ¬ oc_P hd (rl_e (gr_L A B nj sg) r (pg t) / 2) := by
      rintro ⟨x, h', hx, z1, z2⟩
      have hlp : hl (5 * r + pg t) = true := (hH (pg t) (by omega)).mpr ⟨by omega, q4⟩
      obtain ⟨w1, w2⟩ := F x h' r (pg t) hx z1 (by omega) hlp z2
      have := hu x hx w1
      subst this
      omega
    have Q : mv_Q (gr_L A B nj sg) st wt hl hd ro t r (pg t) h := ⟨ht, hh', q1, q2, q4, hu, Or.inr er, hH, hf⟩
    have hhe : h / 2 = rl_e (gr_L A B nj sg) r (pg t - 1) / 2 := by
      rw [hh'] at q5
      rw [Option.some.inj q5, ix_oph]
    have hlk : lk (h / 2) = some r := by
      refine (K.1 _ (by omega) r).mpr ⟨pg t - 1, by omega, ?_, hhe.symm⟩
      exact (hH (pg t - 1) (by omega)).mpr ⟨Nat.le_refl _, by omega⟩
    obtain ⟨g', m, D, FX, FY⟩ := mv_core (xfd := xfd) (xwg := xwg) (xwe := xwe) (xwc := xwc) (xrt := xrt) (xsz := xsz) (xrg := xrg) (yrv := yrv) (ymt := ymt) (ynx := ynx) (to' := to) (ro1 := ro) (pg1 := pg) (en1 := en) S Y R I' Q ((O.1 r q1).mpr ⟨t, ht, er⟩) (fun _ _ => rfl) O.2 (im_uid er).symm rfl rfl q6 rfl (fun _ => by unfold mv_l; rw [if_neg (by omega), hhe]) (fun z => absurd hlk z)
    refine ⟨g', m, D, ?_, ?_⟩
    · intro post hpost
      refine And.intro vt (nm_r (e' := nI r) ?_ (br_t (nI_pos' (by omega)) (FX post hpost)))
      rw [im_oR (i := t) rfl (by omega)]
      show im_oi (-1) (ro t) = nI r
      rw [er]; rfl
    · intro post hpost
      refine And.intro vt (br_t hge (And.intro vt (br_t ?_ (FY post hpost))))
      rw [im_oR (i := t) rfl (by omega)]
      show 0 ≤ im_oi (-1) (ro t)
      rw [er]; exact nI_pos' (by omega)
  | none =>
    rcases lq_least (fun r => cl_P (gr_L A B nj sg) st wt ro h r) (gr_L A B nj sg).length with no | ⟨r, hr, hc, hlst⟩
    · refine ⟨(st, wt, ps, hl, lk, hd, ro, pg, im_u en t 0, to, sr, oc), 0, dp_en I' er, ?_, ?_⟩
      · intro post hpost
        refine And.intro vt (nm_r (e' := -1) ?_ (br_f (by decide) (And.intro vt ?_)))
        · rw [im_oR (i := t) rfl (by omega)]
          show im_oi (-1) (ro t) = -1
          rw [er]; rfl
        · rw [im_oR (i := t) rfl (by omega)]
          show wpX_clearRoute _ _ (im_oi (-1) (hd t))
          rw [hh', im_oss]
          exact xl_clear R h20 a O (fun _ => br_f (by decide) hpost) (fun r hr c _ => absurd c (no r hr))
      · intro post hpost
        refine And.intro vt (br_t hge (And.intro vt (br_f ?_ ?_)))
        · rw [im_oR (i := t) rfl (by omega)]
          show ¬ 0 ≤ im_oi (-1) (ro t)
          rw [er]; decide
        · refine yl_route (st := st) (wt := wt) (hd := hd) (ro := ro) Y ht hh' a T.1 Rr.2.2 hR (fun _ => ?_) (fun r hr c _ => absurd c (no r hr))
          refine And.intro vt (nm_r (im_oS (v := none) rfl (by omega) rfl) (And.intro vt ?_))
          refine nm_r (im_nS (v := 0) rfl (by omega) rfl) ?_
          have ei : im_u ro t none = ro := im_uid er
          show wY_move_38 post (nI t) (nI nj) yrs (im_n A) (im_n B) (im_b sg) (im_n ps) yfr yln yjt yen (im_b st) (im_n wt) (im_b hl) (im_o (-2) lk) (im_o (-1) hd) (im_o (-1) (im_u ro t none)) (im_n (im_u en t 0)) yrv ymt ynx
          rw [ei]
          refine And.intro vt (nm_r (e' := -1) ?_ (br_f (by decide) hpost))
          rw [im_oR (i := t) rfl (by omega), er]; rfl
    · obtain ⟨q1, q2, q3, q4⟩ := hc
      have hn := rv_n hr
      have hu : ∀ x, x < 3 → ro x = some r → x = t := fun x hx e => absurd ⟨x, hx, e⟩ q4
      have hH : ∀ i, i < 5 → (hl (5 * r + i) = true ↔ 0 - 1 ≤ i ∧ i < rl_n (gr_L A B nj sg) r) := by
        intro i hi
        rw [H r i hi]
        constructor
        · rintro ⟨_, z2, _⟩; exact ⟨by omega, z2⟩
        · rintro ⟨_, z2⟩; exact ⟨q1, z2, fun x hx e => absurd ⟨x, hx, e⟩ q4⟩
      have hf : ¬ oc_P hd (rl_e (gr_L A B nj sg) r 0 / 2) := by
        rintro ⟨x, h', hx, z1, z2⟩
        have hlp : hl (5 * r + 0) = true := (hH 0 (by omega)).mpr ⟨by omega, by omega⟩
        obtain ⟨w1, _⟩ := F x h' r 0 hx z1 (by omega) hlp z2
        exact q4 ⟨x, hx, w1⟩
      have Q : mv_Q (gr_L A B nj sg) st wt hl hd ro t r 0 h := ⟨ht, hh', q1, q2, by omega, hu, Or.inl er, hH, hf⟩
      have hlk : ¬ lk (h / 2) = some r := by
        intro z
        obtain ⟨k, hk, z1, z2⟩ := (K.1 _ (by omega) r).mp z
        have := rv_s hr ((hH k hk).mp z1).2
        rw [z2, q3] at this
        exact this rfl
      obtain ⟨g', m, D, FX, FY⟩ := mv_core (xfd := xfd) (xwg := xwg) (xwe := xwe) (xwc := xwc) (xrt := xrt) (xsz := xsz) (xrg := xrg) (yrv := yrv) (ymt := ymt) (ynx := ynx) (to' := im_u to r (some t)) (ro1 := im_u ro t (some r)) (pg1 := im_u pg t 0) (en1 := im_u en t 0) S Y R I' Q ⟨t, im_us⟩ (fun _ hx => im_un hx) (by
        intro x y z
        rw [im_ue] at z
        split at z
        · cases z; exact ht
        · exact O.2 x y z) rfl im_us im_uu im_us im_uu (fun z => absurd z hlk) (fun _ => if_pos rfl)
      refine ⟨g', m, D, ?_, ?_⟩
      · intro post hpost
        refine And.intro vt (nm_r (e' := -1) ?_ (br_f (by decide) (And.intro vt ?_)))
        · rw [im_oR (i := t) rfl (by omega)]
          show im_oi (-1) (ro t) = -1
          rw [er]; rfl
        · rw [im_oR (i := t) rfl (by omega)]
          show wpX_clearRoute _ _ (im_oi (-1) (hd t))
          rw [hh', im_oss]
          refine xl_clear R h20 a O (fun z => absurd ⟨q1, q2, q3, q4⟩ (z r hr)) ?_
          intro r' hr' c' hl'
          have : r' = r := by
            rcases Nat.lt_trichotomy r' r with w | w | w
            · exact absurd c' (hlst r' w)
            · exact w
            · exact absurd ⟨q1, q2, q3, q4⟩ (hl' r w)
          subst this
          have vr : vp_in (nI r') 16 := vp_in_nI (by omega) (by omega)
          refine br_t (nI_pos' (by omega)) (And.intro vt ?_)
          refine nm_r (im_oS (v := some r') rfl (by omega) (im_by (by omega))) (And.intro vr ?_)
          refine nm_r (im_oS (v := some t) rfl (by omega) (im_by (by omega))) (And.intro vt ?_)
          refine nm_r (im_nS (v := 0) rfl (by omega) im_by0) (FX post hpost)
      · intro post hpost
        refine And.intro vt (br_t hge (And.intro vt (br_f ?_ ?_)))
        · rw [im_oR (i := t) rfl (by omega)]
          show ¬ 0 ≤ im_oi (-1) (ro t)
          rw [er]; decide
        · refine yl_route (st := st) (wt := wt) (hd := hd) (ro := ro) Y ht hh' a T.1 Rr.2.2 hR (fun z => absurd ⟨q1, q2, q3, q4⟩ (z r hr)) ?_
          intro r' hr' c' hl'
          have : r' = r := by
            rcases Nat.lt_trichotomy r' r with w | w | w
            · exact absurd c' (hlst r' w)
            · exact w
            · exact absurd ⟨q1, q2, q3, q4⟩ (hl' r w)
          subst this
          refine And.intro vt (nm_r (im_oS (v := some r') rfl (by omega) rfl) (And.intro vt ?_))
          exact nm_r (im_nS (v := 0) rfl (by omega) rfl) (FY post hpost)
end TICK
end
section
/-! ticks: waits counted down, trains one by one, tick by tick -/
section TICKS
variable {xjc xfd xrc xsr xoc xwg : Int32} {xjA xjB xcA xjt xhs xps xso xlo xrj xre xrs xnd xnp xcf xwe xwc xwt xto xlk xnc xhd xro xpg xrt xsz xrg : Nat → Int32}
variable {yjs yrs : Int32} {yon ytw ysg yps yfr yln yjt yen yst ywt yhl ylk yhd yun yed yrv ymt ynx : Nat → Int32}
variable {A B : Nat → Nat} {nj : Nat} {sg : Nat → Bool}
theorem cd_out (S : sk_St A B nj xjt) (Y : rp_Y (gr_L A B nj sg) (nI (gr_L A B nj sg).length) yfr yln yjt yen) (R : rx_F A B nj sg (nI (gr_L A B nj sg).length) xso xlo xrj xre xrs xnd xnp xcf) :
    ∀ (d r : Nat) (g : dg_T), r + d = (gr_L A B nj sg).length → dg_I A B nj sg g → ∃ g' : dg_T, dg_I A B nj sg g' ∧
      (∀ pu : SX → Prop, pu (nI nj, xfd, nI (gr_L A B nj sg).length, dg_sr g', dg_oc g', xwg, im_n A, im_n B, im_n (sk_c A B nj), xjt, im_b sg, im_n (dg_ps g'), xso, xlo, xrj, xre, xrs, xnd, xnp, xcf, xwe, xwc, im_n (dg_wt g'), im_o (-1) (dg_to g'), im_o (-1) (dg_lk g'), im_n (hs_N A B nj (gr_L A B nj sg) (dg_hl g')), im_o (-1) (dg_hd g'), im_o (-1) (dg_ro g'), im_n (dg_pg g'), xrt, xsz, xrg) → wX_countDown_2 pu (d + 1) (nI r) (nI nj) xfd (nI (gr_L A B nj sg).length) (dg_sr g) (dg_oc g) xwg (im_n A) (im_n B) (im_n (sk_c A B nj)) xjt (im_b sg) (im_n (dg_ps g)) xso xlo xrj xre xrs xnd xnp xcf xwe xwc (im_n (dg_wt g)) (im_o (-1) (dg_to g)) (im_o (-1) (dg_lk g)) (im_n (hs_N A B nj (gr_L A B nj sg) (dg_hl g))) (im_o (-1) (dg_hd g)) (im_o (-1) (dg_ro g)) (im_n (dg_pg g)) xrt xsz xrg) ∧
      (∀ (post : Int32 → SY → Prop) (J : Int32 → Int32 → Int32 → Int32 → (Nat → Int32) → (Nat → Int32) → (Nat → Int32) → (Nat → Int32) → (Nat → Int32) → (Nat → Int32) → (Nat → Int32) → (Nat → Int32) → (Nat → Int32) → (Nat → Int32) → (Nat → Int32) → (Nat → Int32) → (Nat → Int32) → (Nat → Int32) → (Nat → Int32) → (Nat → Int32) → (Nat → Int32) → (Nat → Int32) → Prop) (x2 x3 x4 : Int32), (∃ n95, wY_tick_95 post J x2 x4 n95 x3 0 (nI nj) (nI (gr_L A B nj sg).length) (im_n A) (im_n B) (im_b sg) (im_n (dg_ps g')) yfr yln yjt yen (im_b (dg_st g')) (im_n (dg_wt g')) (im_b (dg_hl g')) (im_o (-2) (dg_lk g')) (im_o (-1) (dg_hd g')) (im_o (-1) (dg_ro g')) (im_n (dg_en g')) yrv ymt ynx) → wY_tick_35 post J x2 x3 x4 (d + 1) (nI r) (nI nj) (nI (gr_L A B nj sg).length) (im_n A) (im_n B) (im_b sg) (im_n (dg_ps g)) yfr yln yjt yen (im_b (dg_st g)) (im_n (dg_wt g)) (im_b (dg_hl g)) (im_o (-2) (dg_lk g)) (im_o (-1) (dg_hd g)) (im_o (-1) (dg_ro g)) (im_n (dg_en g)) yrv ymt ynx) := by
  have hl16 := @rv_len A B nj sg
  intro d
  induction d with
  | zero =>
    intro r g hr I
    have hr' : r = (gr_L A B nj sg).length := hr
    refine ⟨g, I, ?_, ?_⟩
    · intro pu h
      rw [hr']
      exact br_t (Int32.le_refl _) h
    · intro post J x2 x3 x4 h
      rw [hr']
      exact br_t (Int32.le_refl _) h
  | succ d ih =>
    intro r g hr I
    have hrl : r < (gr_L A B nj sg).length := by omega
    have vr : vp_in (nI r) 16 := vp_in_nI (by omega) (by omega)
    have hn := rv_n hrl
    have hw3 := (I.1.2.1 r).1
    have hws := (I.1.2.1 r).2
    have xw : im_n (dg_wt g) (nI r).toNatClampNeg = nI (dg_wt g r) := im_nR rfl (by omega)
    by_cases w0 : dg_wt g r = 0
    · obtain ⟨g', D, FX, FY⟩ := ih (r + 1) g (by omega) I
      refine ⟨g', D, ?_, ?_⟩
      · intro pu h
        refine br_f (nI_ge hrl (by omega)) ?_
        refine xs_set (by omega) (fun _ => br_t rfl (nm_r (nI_1 r) (FX pu h))) (fun _ => br_f (by decide) (And.intro vr (br_t ?_ (nm_r (nI_1 r) (FX pu h)))))
        rw [xw, w0]; rfl
      · intro post J x2 x3 x4 h
        refine br_f (nI_ge hrl (by omega)) (And.intro vr (br_f ?_ (And.intro vr (br_t ?_ (nm_r (nI_1 r) (FY post J x2 x3 x4 h))))))
        · rw [xw, w0]; decide
        · rw [xw, w0]; decide
    · have hst := hws w0
      have nt : ∀ t, t < 3 → dg_ro g t ≠ some r := by
        intro t ht e
        exact w0 (I.2.2.1.1 t r ht e).2.1
      have hbt : bt (dg_sr g) r = true := by rw [I.1.2.2]; exact hst
      by_cases w1 : dg_wt g r = 1
      · have D1 := dg_mk (dp_rel I (r := r) (by omega) nt)
        obtain ⟨g', D, FX, FY⟩ := ih (r + 1) _ (by omega) D1
        refine ⟨g', D, ?_, ?_⟩
        · intro pu h
          refine br_f (nI_ge hrl (by omega)) ?_
          refine xs_set (by omega) (fun z => by rw [hbt] at z; cases z) (fun _ => br_f (by decide) (And.intro vr (br_f ?_ (And.intro vr (And.intro vr ?_)))))
          · rw [xw, w1]; decide
          · refine nm_r (im_nS (v := 0) rfl (by omega) ?_) (And.intro vr (br_t ?_ ?_))
            · rw [xw, w1]; exact im_by (v := 0) (by omega)
            · rw [im_nR (f := im_u (dg_wt g) r 0) (i := r) rfl (by omega), im_us]; rfl
            · refine xr_rel (k := 0) S R hrl (Nat.zero_le _) I.2.2.2.2.2.1 ?_ (nm_r (nI_1 r) (FX pu h))
              intro i hi
              rw [I.2.2.2.2.1 r i hi]
              constructor
              · intro q; exact ⟨Nat.zero_le _, q.2.1⟩
              · intro q; exact ⟨hst, q.2, fun t ht e => absurd e (nt t ht)⟩
        · intro post J x2 x3 x4 h
          refine br_f (nI_ge hrl (by omega)) (And.intro vr (br_t ?_ ?_))
          · rw [xw, w1]; rfl
          · exact yr_rel (by omega) I.2.2.2.2.2.1.2 (nm_r (nI_1 r) (FY post J x2 x3 x4 h))
      · have D1 := dg_mk (dp_wait I (r := r) (w := dg_wt g r - 1) hst (fun ⟨t, ht, e⟩ => nt t ht e) (by omega))
        obtain ⟨g', D, FX, FY⟩ := ih (r + 1) _ (by omega) D1
        have e1 : nI (dg_wt g r) - 1 = nI (dg_wt g r - 1) := pk_sub (show 1 ≤ dg_wt g r by omega)
        refine ⟨g', D, ?_, ?_⟩
        · intro pu h
          refine br_f (nI_ge hrl (by omega)) ?_
          refine xs_set (by omega) (fun z => by rw [hbt] at z; cases z) (fun _ => br_f (by decide) (And.intro vr (br_f ?_ (And.intro vr (And.intro vr ?_)))))
          · rw [xw]; exact nI_ne0 (by omega) (by omega)
          · refine nm_r (im_nS (v := dg_wt g r - 1) rfl (by omega) ?_) (And.intro vr (br_f ?_ (nm_r (nI_1 r) (FX pu h))))
            · rw [xw, e1]; exact im_by (by omega)
            · rw [im_nR (f := im_u (dg_wt g) r (dg_wt g r - 1)) (i := r) rfl (by omega), im_us]; exact nI_ne0 (by omega) (by omega)
        · intro post J x2 x3 x4 h
          refine br_f (nI_ge hrl (by omega)) (And.intro vr (br_f ?_ (And.intro vr (br_f ?_ (And.intro vr (And.intro vr ?_))))))
          · rw [xw]; show ¬ nI (dg_wt g r) = nI 1; rw [nI_eq (by omega) (by omega)]; exact w1
          · rw [xw]; show ¬ nI (dg_wt g r) ≤ nI 1; rw [nI_leI (by omega) (by omega)]; omega
          · refine nm_r (im_nS (v := dg_wt g r - 1) rfl (by omega) ?_) (nm_r (nI_1 r) (FY post J x2 x3 x4 h))
            rw [xw, e1]
theorem tr_out (S : sk_St A B nj xjt) (Y : rp_Y (gr_L A B nj sg) yrs yfr yln yjt yen) (R : rx_F A B nj sg xrc xso xlo xrj xre xrs xnd xnp xcf) :
    ∀ (d t : Nat) (g : dg_T) (m : Int32), t + d = 3 → dg_I A B nj sg g → ∃ (g' : dg_T) (m' : Int32), dg_I A B nj sg g' ∧
      (∀ (post : Int32 → SX → Prop) (J : Int32 → Int32 → Int32 → Int32 → Int32 → Int32 → Int32 → Int32 → (Nat → Int32) → (Nat → Int32) → (Nat → Int32) → (Nat → Int32) → (Nat → Int32) → (Nat → Int32) → (Nat → Int32) → (Nat → Int32) → (Nat → Int32) → (Nat → Int32) → (Nat → Int32) → (Nat → Int32) → (Nat → Int32) → (Nat → Int32) → (Nat → Int32) → (Nat → Int32) → (Nat → Int32) → (Nat → Int32) → (Nat → Int32) → (Nat → Int32) → (Nat → Int32) → (Nat → Int32) → (Nat → Int32) → (Nat → Int32) → (Nat → Int32) → (Nat → Int32) → Prop) (x2 x4 : Int32), J m' (x4 + 1) (nI nj) xfd xrc (dg_sr g') (dg_oc g') xwg (im_n A) (im_n B) (im_n (sk_c A B nj)) xjt (im_b sg) (im_n (dg_ps g')) xso xlo xrj xre xrs xnd xnp xcf xwe xwc (im_n (dg_wt g')) (im_o (-1) (dg_to g')) (im_o (-1) (dg_lk g')) (im_n (hs_N A B nj (gr_L A B nj sg) (dg_hl g'))) (im_o (-1) (dg_hd g')) (im_o (-1) (dg_ro g')) (im_n (dg_pg g')) xrt xsz xrg → wX_tick_43 post J x2 x4 (d + 1) m (nI t) (nI nj) xfd xrc (dg_sr g) (dg_oc g) xwg (im_n A) (im_n B) (im_n (sk_c A B nj)) xjt (im_b sg) (im_n (dg_ps g)) xso xlo xrj xre xrs xnd xnp xcf xwe xwc (im_n (dg_wt g)) (im_o (-1) (dg_to g)) (im_o (-1) (dg_lk g)) (im_n (hs_N A B nj (gr_L A B nj sg) (dg_hl g))) (im_o (-1) (dg_hd g)) (im_o (-1) (dg_ro g)) (im_n (dg_pg g)) xrt xsz xrg) ∧
      (∀ (post : Int32 → SY → Prop) (J : Int32 → Int32 → Int32 → Int32 → (Nat → Int32) → (Nat → Int32) → (Nat → Int32) → (Nat → Int32) → (Nat → Int32) → (Nat → Int32) → (Nat → Int32) → (Nat → Int32) → (Nat → Int32) → (Nat → Int32) → (Nat → Int32) → (Nat → Int32) → (Nat → Int32) → (Nat → Int32) → (Nat → Int32) → (Nat → Int32) → (Nat → Int32) → (Nat → Int32) → Prop) (x2 x4 : Int32), J m' (x4 + 1) (nI nj) yrs (im_n A) (im_n B) (im_b sg) (im_n (dg_ps g')) yfr yln yjt yen (im_b (dg_st g')) (im_n (dg_wt g')) (im_b (dg_hl g')) (im_o (-2) (dg_lk g')) (im_o (-1) (dg_hd g')) (im_o (-1) (dg_ro g')) (im_n (dg_en g')) yrv ymt ynx → wY_tick_95 post J x2 x4 (d + 1) m (nI t) (nI nj) yrs (im_n A) (im_n B) (im_b sg) (im_n (dg_ps g)) yfr yln yjt yen (im_b (dg_st g)) (im_n (dg_wt g)) (im_b (dg_hl g)) (im_o (-2) (dg_lk g)) (im_o (-1) (dg_hd g)) (im_o (-1) (dg_ro g)) (im_n (dg_en g)) yrv ymt ynx) := by
  intro d
  induction d with
  | zero =>
    intro t g m ht I
    have ht' : t = 3 := ht
    subst ht'
    refine ⟨g, m, I, ?_, ?_⟩
    · intro post J x2 x4 h
      exact br_t (Int32.le_refl _) (nm_e h)
    · intro post J x2 x4 h
      exact br_t (Int32.le_refl _) (nm_e h)
  | succ d ih =>
    intro t g m ht I
    have ht3 : t < 3 := by omega
    have vt : vp_in (nI t) 3 := vp_in_nI ht3 (by omega)
    have xh : im_o (-1) (dg_hd g) (nI t).toNatClampNeg = im_oi (-1) (dg_hd g t) := im_oR rfl (by omega)
    cases eh : dg_hd g t with
    | none =>
      obtain ⟨g', m', D, FX, FY⟩ := ih (t + 1) g m (by omega) I
      refine ⟨g', m', D, ?_, ?_⟩
      · intro post J x2 x4 h
        refine br_f (nI_ge (b := 3) ht3 (by omega)) (And.intro vt (br_t ?_ (nm_r (nI_1 t) (FX post J x2 x4 h))))
        rw [xh, eh]; exact im_m1
      · intro post J x2 x4 h
        refine br_f (nI_ge (b := 3) ht3 (by omega)) ?_
        refine And.intro vt (br_f ?_ (br_t rfl (nm_r (nI_1 t) (FY post J x2 x4 h))))
        rw [xh, eh]; decide
    | some q =>
      have q20 := I.2.1.1 t q eh
      obtain ⟨g1, m1, D1, MX, MY⟩ := mv_out (xfd := xfd) (xwg := xwg) (xwe := xwe) (xwc := xwc) (xrt := xrt) (xsz := xsz) (xrg := xrg) (yrv := yrv) (ymt := ymt) (ynx := ynx) S Y R I ht3 eh
      by_cases z : m1 = 0
      · obtain ⟨g', m', D, FX, FY⟩ := ih (t + 1) g1 m (by omega) D1
        refine ⟨g', m', D, ?_, ?_⟩
        · intro post J x2 x4 h
          refine br_f (nI_ge (b := 3) ht3 (by omega)) (And.intro vt (br_f ?_ ?_))
          · rw [xh, eh]; exact nI_pos (by omega)
          · exact MX _ (br_t z (nm_r (nI_1 t) (FX post J x2 x4 h)))
        · intro post J x2 x4 h
          refine br_f (nI_ge (b := 3) ht3 (by omega)) ?_
          exact MY _ (br_t z (nm_r (nI_1 t) (FY post J x2 x4 h)))
      · obtain ⟨g', m', D, FX, FY⟩ := ih (t + 1) g1 (m + 1) (by omega) D1
        refine ⟨g', m', D, ?_, ?_⟩
        · intro post J x2 x4 h
          refine br_f (nI_ge (b := 3) ht3 (by omega)) (And.intro vt (br_f ?_ ?_))
          · rw [xh, eh]; exact nI_pos (by omega)
          · exact MX _ (br_f z (nm_e (nm_r (nI_1 t) (FX post J x2 x4 h))))
        · intro post J x2 x4 h
          refine br_f (nI_ge (b := 3) ht3 (by omega)) ?_
          exact MY _ (br_f z (nm_e (nm_r (nI_1 t) (FY post J x2 x4 h))))
theorem tk_out {c : Nat} (hc : c ≤ 20) (S : sk_St A B nj xjt) (Y : rp_Y (gr_L A B nj sg) (nI (gr_L A B nj sg).length) yfr yln yjt yen) (R : rx_F A B nj sg (nI (gr_L A B nj sg).length) xso xlo xrj xre xrs xnd xnp xcf) :
    ∀ (d i : Nat) (g : dg_T) (m : Int32), i + d = c → dg_I A B nj sg g → ∃ (g' : dg_T) (m' : Int32), dg_I A B nj sg g' ∧
      (∀ post : Int32 → SX → Prop, post m' (nI nj, xfd, nI (gr_L A B nj sg).length, dg_sr g', dg_oc g', xwg, im_n A, im_n B, im_n (sk_c A B nj), xjt, im_b sg, im_n (dg_ps g'), xso, xlo, xrj, xre, xrs, xnd, xnp, xcf, xwe, xwc, im_n (dg_wt g'), im_o (-1) (dg_to g'), im_o (-1) (dg_lk g'), im_n (hs_N A B nj (gr_L A B nj sg) (dg_hl g')), im_o (-1) (dg_hd g'), im_o (-1) (dg_ro g'), im_n (dg_pg g'), xrt, xsz, xrg) → wX_tick_30 post (nI c) (d + 1) m (nI i) (nI nj) xfd (nI (gr_L A B nj sg).length) (dg_sr g) (dg_oc g) xwg (im_n A) (im_n B) (im_n (sk_c A B nj)) xjt (im_b sg) (im_n (dg_ps g)) xso xlo xrj xre xrs xnd xnp xcf xwe xwc (im_n (dg_wt g)) (im_o (-1) (dg_to g)) (im_o (-1) (dg_lk g)) (im_n (hs_N A B nj (gr_L A B nj sg) (dg_hl g))) (im_o (-1) (dg_hd g)) (im_o (-1) (dg_ro g)) (im_n (dg_pg g)) xrt xsz xrg) ∧
      (∀ post : Int32 → SY → Prop, post m' (nI nj, nI (gr_L A B nj sg).length, im_n A, im_n B, im_b sg, im_n (dg_ps g'), yfr, yln, yjt, yen, im_b (dg_st g'), im_n (dg_wt g'), im_b (dg_hl g'), im_o (-2) (dg_lk g'), im_o (-1) (dg_hd g'), im_o (-1) (dg_ro g'), im_n (dg_en g'), yrv, ymt, ynx) → wY_tick_26 post (nI c) (d + 1) m (nI i) (nI nj) (nI (gr_L A B nj sg).length) (im_n A) (im_n B) (im_b sg) (im_n (dg_ps g)) yfr yln yjt yen (im_b (dg_st g)) (im_n (dg_wt g)) (im_b (dg_hl g)) (im_o (-2) (dg_lk g)) (im_o (-1) (dg_hd g)) (im_o (-1) (dg_ro g)) (im_n (dg_en g)) yrv ymt ynx) := by
  intro d
  induction d with
  | zero =>
    intro i g m hi I
    have hi' : i = c := hi
    subst hi'
    exact ⟨g, m, I, fun post h => br_t (Int32.le_refl _) h, fun post h => br_t (Int32.le_refl _) h⟩
  | succ d ih =>
    intro i g m hi I
    obtain ⟨g1, D1, CX, CY⟩ := cd_out (xfd := xfd) (xwg := xwg) (xwe := xwe) (xwc := xwc) (xrt := xrt) (xsz := xsz) (xrg := xrg) (yrv := yrv) (ymt := ymt) (ynx := ynx) S Y R (gr_L A B nj sg).length 0 g (Nat.zero_add _) I
    obtain ⟨g2, m2, D2, TX, TY⟩ := tr_out (xfd := xfd) (xwg := xwg) (xwe := xwe) (xwc := xwc) (xrt := xrt) (xsz := xsz) (xrg := xrg) (yrv := yrv) (ymt := ymt) (ynx := ynx) S Y R 3 0 g1 m rfl D1
    obtain ⟨g', m', D, FX, FY⟩ := ih (i + 1) g2 m2 (by omega) D2
    refine ⟨g', m', D, ?_, ?_⟩
    · intro post h
      refine br_f (nI_ge (by omega) (by omega)) ?_
      refine Exists.intro _ (CX _ (Exists.intro _ (TX post _ _ _ ?_)))
      rw [nI_1]; exact FX post h
    · intro post h
      refine br_f (nI_ge (by omega) (by omega)) ?_
      refine Exists.intro _ (CY post _ _ _ _ (Exists.intro _ (TY post _ _ _ ?_)))
      rw [nI_1]; exact FY post h
theorem i_vc_tick {k : Nat} {u : SX} {v : SY} (I : i_Rel k u v) (hk : k + 3 ≤ 1536) (v1 : Int32) : wpX_tick (fun r u' => wpY_tick (fun r' v' => r' = r ∧ i_Rel (k + 3) u' v') v v1) u v1 := by
  refine zz_el (P := fun u v => wpX_tick (fun r u' => wpY_tick (fun r' v' => r' = r ∧ i_Rel (k + 3) u' v') v v1) u v1) ?_ I
  intro nj A B sg fd g xrc xwg xjt xso xlo xrj xre xrs xnd xnp xcf xwe xwc xrt xsz xrg yrs yfr yln yjt yen yrv ymt ynx h1 h2 h3 h4
  have ey : yrs = nI (gr_L A B nj sg).length := h2.1
  subst ey
  unfold wpX_tick
  refine xr_find h1 h3 ?_
  intro we wc rc so lo rj re rs nd np cf R
  have ex : rc = nI (gr_L A B nj sg).length := R.1.1
  subst ex
  have key : ∀ c, c ≤ 20 → ∃ (g' : dg_T) (m' : Int32), dg_I A B nj sg g' ∧
      (∀ post : Int32 → SX → Prop, post m' (nI nj, im_bi true, nI (gr_L A B nj sg).length, dg_sr g', dg_oc g', xwg, im_n A, im_n B, im_n (sk_c A B nj), xjt, im_b sg, im_n (dg_ps g'), so, lo, rj, re, rs, nd, np, cf, we, wc, im_n (dg_wt g'), im_o (-1) (dg_to g'), im_o (-1) (dg_lk g'), im_n (hs_N A B nj (gr_L A B nj sg) (dg_hl g')), im_o (-1) (dg_hd g'), im_o (-1) (dg_ro g'), im_n (dg_pg g'), xrt, xsz, xrg) → ∃ n30, wX_tick_30 post (nI c) n30 0 0 (nI nj) (im_bi true) (nI (gr_L A B nj sg).length) (dg_sr g) (dg_oc g) xwg (im_n A) (im_n B) (im_n (sk_c A B nj)) xjt (im_b sg) (im_n (dg_ps g)) so lo rj re rs nd np cf we wc (im_n (dg_wt g)) (im_o (-1) (dg_to g)) (im_o (-1) (dg_lk g)) (im_n (hs_N A B nj (gr_L A B nj sg) (dg_hl g))) (im_o (-1) (dg_hd g)) (im_o (-1) (dg_ro g)) (im_n (dg_pg g)) xrt xsz xrg) ∧
      (∀ post : Int32 → SY → Prop, post m' (nI nj, nI (gr_L A B nj sg).length, im_n A, im_n B, im_b sg, im_n (dg_ps g'), yfr, yln, yjt, yen, im_b (dg_st g'), im_n (dg_wt g'), im_b (dg_hl g'), im_o (-2) (dg_lk g'), im_o (-1) (dg_hd g'), im_o (-1) (dg_ro g'), im_n (dg_en g'), yrv, ymt, ynx) → ∃ n26, wY_tick_26 post (nI c) n26 0 0 (nI nj) (nI (gr_L A B nj sg).length) (im_n A) (im_n B) (im_b sg) (im_n (dg_ps g)) yfr yln yjt yen (im_b (dg_st g)) (im_n (dg_wt g)) (im_b (dg_hl g)) (im_o (-2) (dg_lk g)) (im_o (-1) (dg_hd g)) (im_o (-1) (dg_ro g)) (im_n (dg_en g)) yrv ymt ynx) := by
    intro c hc
    obtain ⟨g', m', D, FX, FY⟩ := tk_out (xfd := im_bi true) (xwg := xwg) (xwe := we) (xwc := wc) (xrt := xrt) (xsz := xsz) (xrg := xrg) (yrv := yrv) (ymt := ymt) (ynx := ynx) hc h1 h2 R c 0 g 0 (Nat.zero_add c) h4
    exact ⟨g', m', D, fun post h => ⟨_, FX post h⟩, fun post h => ⟨_, FY post h⟩⟩
  have fin : ∀ (g' : dg_T) (m' : Int32), dg_I A B nj sg g' → m' = m' ∧ i_Rel (k + 3) (nI nj, im_bi true, nI (gr_L A B nj sg).length, dg_sr g', dg_oc g', xwg, im_n A, im_n B, im_n (sk_c A B nj), xjt, im_b sg, im_n (dg_ps g'), so, lo, rj, re, rs, nd, np, cf, we, wc, im_n (dg_wt g'), im_o (-1) (dg_to g'), im_o (-1) (dg_lk g'), im_n (hs_N A B nj (gr_L A B nj sg) (dg_hl g')), im_o (-1) (dg_hd g'), im_o (-1) (dg_ro g'), im_n (dg_pg g'), xrt, xsz, xrg) (nI nj, nI (gr_L A B nj sg).length, im_n A, im_n B, im_b sg, im_n (dg_ps g'), yfr, yln, yjt, yen, im_b (dg_st g'), im_n (dg_wt g'), im_b (dg_hl g'), im_o (-2) (dg_lk g'), im_o (-1) (dg_hd g'), im_o (-1) (dg_ro g'), im_n (dg_en g'), yrv, ymt, ynx) :=
    fun g' m' D => ⟨rfl, zz_in h1 h2 (fun _ => R) D⟩
  by_cases z : 0 ≤ v1
  · by_cases y : v1 ≤ 20
    · obtain ⟨c, hc, rfl⟩ := nI_of2 (M := 20) (n := 20) (by decide) (Int32.not_lt.mpr z) y
      obtain ⟨g', m', D, FX, FY⟩ := key c hc
      refine br_t z (br_t y (FX _ ?_))
      exact br_t z (br_t y (FY _ (fin g' m' D)))
    · obtain ⟨g', m', D, FX, FY⟩ := key 20 (by omega)
      refine br_t z (br_f y (FX _ ?_))
      exact br_t z (br_f y (FY _ (fin g' m' D)))
  · obtain ⟨g', m', D, FX, FY⟩ := key 0 (by omega)
    refine br_f z (FX _ ?_)
    exact br_f z (FY _ (fin g' m' D))
end TICKS
end
section
/-! conflict -/
section CONFLICT
variable {xjc xfd xrc xsr xoc xwg : Int32} {xjA xjB xcA xjt xhs xps xso xlo xrj xre xrs xnd xnp xcf xwe xwc xwt xto xlk xnc xhd xro xpg xrt xsz xrg : Nat → Int32}
variable {yjs yrs : Int32} {yon ytw ysg yps yfr yln yjt yen yst ywt yhl ylk yhd yun yed yrv ymt ynx : Nat → Int32}
variable {A B : Nat → Nat} {nj : Nat} {sg : Nat → Bool} {post : Int32 → Prop}
def df_1 (A B : Nat → Nat) (nj j i x y : Nat) : Prop := 2 ≤ sk_c A B nj (en_of A B j x) ∧ 2 ≤ sk_c A B nj (en_of A B i y) ∧ nd_p A B nj j (en_of A B j x) ≠ nd_p A B nj i (en_of A B i y) ∧ en_of A B j x = en_of A B i y
def df_P (A B : Nat → Nat) (nj j i : Nat) : Prop := ∃ x y, x < 2 ∧ y < 2 ∧ df_1 A B nj j i x y
theorem yc_differ {j i : Nat} (hj : j < 12) (hi : i < 12) (hn : nj ≤ 12) (hA : ∀ j, A j < 20) (hB : ∀ j, B j < 20) (h2 : ∀ a, sk_c A B nj a ≤ 2) (h0 : ¬ df_P A B nj j i → post 0) (h1 : df_P A B nj j i → post 1) : wpY_differ post (nI nj, yrs, im_n A, im_n B, ysg, yps, yfr, yln, yjt, yen, yst, ywt, yhl, ylk, yhd, yun, yed, yrv, ymt, ynx) (nI j) (nI i) := by
  refine Exists.intro (4 + 1) ?_
  have step : ∀ (n e : Nat), e < 4 → (df_1 A B nj j i (e / 2) (e % 2) → post 1) → (¬ df_1 A B nj j i (e / 2) (e % 2) → wY_differ_2 post (nI j) (nI i) (nI nj) yrs (im_n A) (im_n B) ysg yps yfr yln yjt yen yst ywt yhl ylk yhd yun yed yrv ymt ynx n (nI (e + 1))) → wY_differ_2 post (nI j) (nI i) (nI nj) yrs (im_n A) (im_n B) ysg yps yfr yln yjt yen yst ywt yhl ylk yhd yun yed yrv ymt ynx (n + 1) (nI e) := by
    intro n e he p1 p0
    have ed : nI e / 2 = nI (e / 2) := ix_h (by omega)
    have em : nI e - nI e / 2 * 2 = nI (e % 2) := pk_rem (d := 2) (by omega) (by omega) (by omega)
    have hx : e / 2 < 2 := by omega
    have hy : e % 2 < 2 := by omega
    refine br_f (nI_ge (b := 4) he (by omega)) (And.intro ix_20 ?_)
    rw [em, ed]
    have b1 := en_20 hA hB j (e / 2)
    have b2 := en_20 hA hB i (e % 2)
    have n1 := @nd_p01 A B nj j (en_of A B j (e / 2))
    have n2 := @nd_p01 A B nj i (en_of A B i (e % 2))
    refine ys_needed hj hx hn hA hB h2 (And.intro ix_20 ?_)
    refine ys_needed hi hy hn hA hB h2 ?_
    unfold ne_v
    by_cases z1 : 2 ≤ sk_c A B nj (en_of A B j (e / 2))
    · rw [if_pos z1]
      refine br_f (nI_pos (by omega)) ?_
      by_cases z2 : 2 ≤ sk_c A B nj (en_of A B i (e % 2))
      · rw [if_pos z2]
        refine br_f (nI_pos (by omega)) ?_
        refine pk_eq (nd_p A B nj j (en_of A B j (e / 2))) (nd_p A B nj i (en_of A B i (e % 2))) (fun w => nm_r (nI_1 e) (p0 (fun c => c.2.2.1 w))) ?_
        intro w
        refine And.intro ix_20 (ys_endOf hj hx (And.intro ix_20 (ys_endOf hi hy ?_)))
        exact pk_eq (en_of A B j (e / 2)) (en_of A B i (e % 2)) (fun v => p1 ⟨z1, z2, w, v⟩) (fun v => nm_r (nI_1 e) (p0 (fun c => v c.2.2.2)))
      · rw [if_neg z2]
        exact br_t im_m1 (nm_r (nI_1 e) (p0 (fun c => z2 c.2.1)))
    · rw [if_neg z1]
      exact br_t im_m1 (nm_r (nI_1 e) (p0 (fun c => z1 c.1)))
  refine lq_find0 (fun n e => wY_differ_2 post (nI j) (nI i) (nI nj) yrs (im_n A) (im_n B) ysg yps yfr yln yjt yen yst ywt yhl ylk yhd yun yed yrv ymt ynx n (nI e)) 4 (fun e => df_1 A B nj j i (e / 2) (e % 2)) ?_ ?_ ?_
  · intro n hno
    refine br_t (Int32.le_refl _) (h0 ?_)
    rintro ⟨x, y, hx, hy, z⟩
    have e1 : (2 * x + y) / 2 = x := by omega
    have e2 : (2 * x + y) % 2 = y := by omega
    have := hno (2 * x + y) (by omega)
    rw [e1, e2] at this
    exact this z
  · intro n e he hno hw
    exact step n e he (fun c => absurd c hno) (fun _ => hw)
  · intro n e he _ hc
    exact step n e he (fun c => h1 ⟨e / 2, e % 2, by omega, by omega, c⟩) (fun c => absurd hc c)
def cy_1 (A B : Nat → Nat) (nj : Nat) (L : List (Nat × List (Nat × Nat))) (r q k i : Nat) : Prop := rl_e L r k / 2 = rl_e L q i / 2 ∨ df_P A B nj (rl_j L r k) (rl_j L q i)
def cy_P (A B : Nat → Nat) (nj : Nat) (L : List (Nat × List (Nat × Nat))) (r q : Nat) : Prop := ∃ k, k < rl_n L r ∧ ∃ i, i < rl_n L q ∧ cy_1 A B nj L r q k i
theorem yc_41 {J : Int32 → Prop} {r q k : Nat} (S : sk_St A B nj xjt) (Y : rp_Y (gr_L A B nj sg) yrs yfr yln yjt yen) (hr : r < (gr_L A B nj sg).length) (hq : q < (gr_L A B nj sg).length) (hk : k < rl_n (gr_L A B nj sg) r)
    (h0 : (¬ ∃ i, i < rl_n (gr_L A B nj sg) q ∧ cy_1 A B nj (gr_L A B nj sg) r q k i) → J (nI (5 * r + k + 1))) (h1 : (∃ i, i < rl_n (gr_L A B nj sg) q ∧ cy_1 A B nj (gr_L A B nj sg) r q k i) → post 1) :
    ∃ n, wY_conflict_41 post J (nI r) (nI q) (nI (5 * r + k)) (nI nj) yrs (im_n A) (im_n B) ysg yps yfr yln yjt yen yst ywt yhl ylk yhd yun yed yrv ymt ynx n (nI (5 * q)) := by
  have hl16 := @rv_len A B nj sg
  have hn := rv_n hr
  have hnq := rv_n hq
  have vq : vp_in (nI q) 16 := vp_in_nI (by omega) (by omega)
  have cq : (nI q).toNatClampNeg = q := nI_clamp (by omega)
  obtain ⟨_, y2, y3⟩ := ry_get Y hr
  obtain ⟨_, z2, z3⟩ := ry_get Y hq
  have e5 : 5 * nI q + nI (rl_n (gr_L A B nj sg) q) = nI (5 * q + rl_n (gr_L A B nj sg) q) := ix_5 _ _
  have v5 : vp_in (nI (5 * r + k)) 80 := vp_in_nI (by omega) (by omega)
  have c5 : (nI (5 * r + k)).toNatClampNeg = 5 * r + k := nI_clamp (by omega)
  have hnj := S.1
  have ek := rv_e S.2.1 S.2.2.1 hr hk
  have jk := rv_j hr hk
  refine Exists.intro (rl_n (gr_L A B nj sg) q + 1) ?_
  have step : ∀ (n i : Nat), i < rl_n (gr_L A B nj sg) q → (cy_1 A B nj (gr_L A B nj sg) r q k i → post 1) → (¬ cy_1 A B nj (gr_L A B nj sg) r q k i → wY_conflict_41 post J (nI r) (nI q) (nI (5 * r + k)) (nI nj) yrs (im_n A) (im_n B) ysg yps yfr yln yjt yen yst ywt yhl ylk yhd yun yed yrv ymt ynx n (nI (5 * q + (i + 1)))) → wY_conflict_41 post J (nI r) (nI q) (nI (5 * r + k)) (nI nj) yrs (im_n A) (im_n B) ysg yps yfr yln yjt yen yst ywt yhl ylk yhd yun yed yrv ymt ynx (n + 1) (nI (5 * q + i)) := by
    intro n i hi p1 p0
    have ei := rv_e S.2.1 S.2.2.1 hq hi
    have ji := rv_j hq hi
    have w5 : vp_in (nI (5 * q + i)) 80 := vp_in_nI (by omega) (by omega)
    have d5 : (nI (5 * q + i)).toNatClampNeg = 5 * q + i := nI_clamp (by omega)
    refine And.intro vq (br_f ?_ (And.intro v5 (And.intro ix_20 (And.intro w5 (And.intro ix_20 ?_)))))
    · rw [cq, z2, e5]; exact nI_ge (by omega) (by omega)
    rw [c5, d5, (y3 k hk).2, (z3 i hi).2, ix_h (a := rl_e (gr_L A B nj sg) r k) (by omega), ix_h (a := rl_e (gr_L A B nj sg) q i) (by omega)]
    refine pk_eq (rl_e (gr_L A B nj sg) r k / 2) (rl_e (gr_L A B nj sg) q i / 2) (fun w => p1 (Or.inl w)) ?_
    intro w
    refine And.intro v5 (And.intro w5 ?_)
    rw [(y3 k hk).1, (z3 i hi).1]
    refine yc_differ (by omega) (by omega) hnj S.2.1 S.2.2.1 S.2.2.2.2.1 ?_ ?_
    · intro v
      refine br_t rfl (nm_r (nI_1 (5 * q + i)) (p0 ?_))
      rintro (c | c)
      · exact w c
      · exact v c
    · intro v
      exact br_f (by decide) (p1 (Or.inr v))
  refine lq_find0 (fun n i => wY_conflict_41 post J (nI r) (nI q) (nI (5 * r + k)) (nI nj) yrs (im_n A) (im_n B) ysg yps yfr yln yjt yen yst ywt yhl ylk yhd yun yed yrv ymt ynx n (nI (5 * q + i))) (rl_n (gr_L A B nj sg) q) (fun i => cy_1 A B nj (gr_L A B nj sg) r q k i) ?_ ?_ ?_
  · intro n hno
    refine And.intro vq (br_t ?_ (nm_r (nI_1 (5 * r + k)) (h0 ?_)))
    · rw [cq, z2, e5]; exact Int32.le_refl _
    · rintro ⟨i, hi, c⟩; exact hno i hi c
  · intro n i hi hno hw
    exact step n i hi (fun c => absurd c hno) (fun _ => hw)
  · intro n i hi _ hc
    exact step n i hi (fun c => h1 ⟨i, hi, c⟩) (fun c => absurd hc c)
theorem yc_conf {r q : Nat} (S : sk_St A B nj xjt) (Y : rp_Y (gr_L A B nj sg) yrs yfr yln yjt yen) (hr : r < (gr_L A B nj sg).length) (hq : q < (gr_L A B nj sg).length) (h0 : ¬ (cy_P A B nj (gr_L A B nj sg) r q ∨ r = q) → post 0) (h1 : (cy_P A B nj (gr_L A B nj sg) r q ∨ r = q) → post 1) :
    wpY_conflict post (nI nj, yrs, im_n A, im_n B, ysg, yps, yfr, yln, yjt, yen, yst, ywt, yhl, ylk, yhd, yun, yed, yrv, ymt, ynx) (nI r) (nI q) := by
  have hl16 := @rv_len A B nj sg
  have hn := rv_n hr
  have vr : vp_in (nI r) 16 := vp_in_nI (by omega) (by omega)
  have cr : (nI r).toNatClampNeg = r := nI_clamp (by omega)
  obtain ⟨_, y2, y3⟩ := ry_get Y hr
  have e5 : 5 * nI r + nI (rl_n (gr_L A B nj sg) r) = nI (5 * r + rl_n (gr_L A B nj sg) r) := ix_5 _ _
  have ey : yrs = nI (gr_L A B nj sg).length := Y.1
  subst ey
  unfold wpY_conflict
  refine yq_is hl16 (fun z => ?_) (fun _ _ _ => br_f (by decide) ?_)
  · rcases z with z | z
    · exact absurd z (nI_pos (by omega))
    · exact absurd z (nI_ge hr (by omega))
  refine yq_is hl16 (fun z => ?_) (fun _ _ _ => br_f (by decide) ?_)
  · rcases z with z | z
    · exact absurd z (nI_pos (by omega))
    · exact absurd z (nI_ge hq (by omega))
  refine nm_r (ix_5m r) (Exists.intro (rl_n (gr_L A B nj sg) r + 1) ?_)
  refine lq_find0 (fun n k => wY_conflict_22 post (nI r) (nI q) (nI nj) (nI (gr_L A B nj sg).length) (im_n A) (im_n B) ysg yps yfr yln yjt yen yst ywt yhl ylk yhd yun yed yrv ymt ynx n (nI (5 * r + k))) (rl_n (gr_L A B nj sg) r) (fun k => ∃ i, i < rl_n (gr_L A B nj sg) q ∧ cy_1 A B nj (gr_L A B nj sg) r q k i) ?_ ?_ ?_
  · intro n hno
    have nc : ¬ cy_P A B nj (gr_L A B nj sg) r q := by rintro ⟨k, hk, c⟩; exact hno k hk c
    refine And.intro vr (br_t ?_ ?_)
    · rw [cr, y2, e5]; exact Int32.le_refl _
    · refine pk_eq r q (fun w => h1 (Or.inr w)) (fun w => h0 ?_)
      rintro (c | c)
      · exact nc c
      · exact w c
  · intro n k hk hno hw
    refine And.intro vr (br_f ?_ (nm_r (ix_5m q) ?_))
    · rw [cr, y2, e5]; exact nI_ge (by omega) (by omega)
    · exact yc_41 S Y hr hq hk (fun _ => hw) (fun c => absurd c hno)
  · intro n k hk _ hc
    refine And.intro vr (br_f ?_ (nm_r (ix_5m q) ?_))
    · rw [cr, y2, e5]; exact nI_ge (by omega) (by omega)
    · exact yc_41 S Y hr hq hk (fun c => absurd hc c) (fun c => h1 (Or.inl ⟨k, hk, c⟩))
/-- the two meanings of a conflict -/
theorem cy_eq {rc : Int32} {so lo rj re rs nd np cf : Nat → Int32} {r q : Nat} (S : sk_St A B nj xjt) (R : rx_F A B nj sg rc so lo rj re rs nd np cf) (hr : r < (gr_L A B nj sg).length) (hq : q < (gr_L A B nj sg).length) : xc_B rs nd np r q ↔ cy_P A B nj (gr_L A B nj sg) r q ∨ r = q := by
  have h2 := S.2.2.2.2.1
  have s1 : (¬ rs r &&& rs q = 0) ↔ ∃ k, k < rl_n (gr_L A B nj sg) r ∧ ∃ i, i < rl_n (gr_L A B nj sg) q ∧ rl_e (gr_L A B nj sg) r k / 2 = rl_e (gr_L A B nj sg) q i / 2 := by
    rw [ib_and0]
    constructor
    · intro z
      apply Classical.byContradiction
      intro w
      apply z
      intro x hx
      apply Bool.eq_false_iff.mpr
      intro y
      rw [Bool.and_eq_true] at y
      obtain ⟨k, hk, e1⟩ := (rb_rs R hr x).mp y.1
      obtain ⟨i, hi, e2⟩ := (rb_rs R hq x).mp y.2
      exact w ⟨k, hk, i, hi, by rw [e1, e2]⟩
    · rintro ⟨k, hk, i, hi, e⟩ z
      have ek := rv_e S.2.1 S.2.2.1 hr hk
      have := z (rl_e (gr_L A B nj sg) r k / 2) (by omega)
      rw [(rb_rs R hr _).mpr ⟨k, hk, rfl⟩, (rb_rs R hq _).mpr ⟨i, hi, e.symm⟩] at this
      cases this
  have s2 : (¬ (np r ^^^ np q) &&& (nd r &&& nd q) = 0) ↔ ∃ k, k < rl_n (gr_L A B nj sg) r ∧ ∃ i, i < rl_n (gr_L A B nj sg) q ∧ df_P A B nj (rl_j (gr_L A B nj sg) r k) (rl_j (gr_L A B nj sg) q i) := by
    rw [ib_and0]
    constructor
    · intro z
      apply Classical.byContradiction
      intro w
      apply z
      intro a ha
      apply Bool.eq_false_iff.mpr
      intro y
      rw [b_xor, b_and, Bool.and_eq_true, Bool.and_eq_true] at y
      obtain ⟨y1, y2, y3⟩ := y
      obtain ⟨k, hk, e1, c1⟩ := (rb_nd R hr a).mp y2
      obtain ⟨i, hi, e2, c2⟩ := (rb_nd R hq a).mp y3
      have p1 := rb_np R hr h2 hk e1 c1
      have p2 := rb_np R hq h2 hi e2 c2
      obtain ⟨x, hx, ex⟩ := en_at.mp e1
      obtain ⟨x', hx', ex'⟩ := en_at.mp e2
      refine w ⟨k, hk, i, hi, x, x', hx, hx', ?_⟩
      unfold df_1
      rw [ex, ex']
      refine ⟨c1, c1, ?_, rfl⟩
      rw [← p1, ← p2]
      intro v
      cases b1 : bt (np r) a <;> cases b2 : bt (np q) a <;> rw [b1, b2] at y1 v <;> first | exact absurd y1 (by decide) | exact absurd v (by decide)
    · rintro ⟨k, hk, i, hi, x, x', hx, hx', c1, c2, c3, c4⟩ z
      have e1 : sk_at A B (rl_j (gr_L A B nj sg) r k) (en_of A B (rl_j (gr_L A B nj sg) r k) x) = true := en_at.mpr ⟨x, hx, rfl⟩
      have e2 : sk_at A B (rl_j (gr_L A B nj sg) q i) (en_of A B (rl_j (gr_L A B nj sg) q i) x') = true := en_at.mpr ⟨x', hx', rfl⟩
      have a20 := en_20 S.2.1 S.2.2.1 (rl_j (gr_L A B nj sg) r k) x
      have := z (en_of A B (rl_j (gr_L A B nj sg) r k) x) (by omega)
      rw [← c4] at c2 c3 e2
      have p1 := rb_np R hr h2 hk e1 c1
      have p2 := rb_np R hq h2 hi e2 c2
      rw [b_xor, b_and, (rb_nd R hr _).mpr ⟨k, hk, e1, c1⟩, (rb_nd R hq _).mpr ⟨i, hi, e2, c2⟩] at this
      rw [← p1, ← p2] at c3
      cases b1 : bt (np r) (en_of A B (rl_j (gr_L A B nj sg) r k) x) <;> cases b2 : bt (np q) (en_of A B (rl_j (gr_L A B nj sg) r k) x) <;> rw [b1, b2] at this c3 <;> first | exact absurd this (by decide) | exact absurd rfl c3
  unfold xc_B
  rw [s1, s2]
  constructor
  · rintro (z | ⟨k, hk, i, hi, z⟩ | ⟨k, hk, i, hi, z⟩)
    · exact Or.inr z
    · exact Or.inl ⟨k, hk, i, hi, Or.inl z⟩
    · exact Or.inl ⟨k, hk, i, hi, Or.inr z⟩
  · rintro (⟨k, hk, i, hi, z | z⟩ | z)
    · exact Or.inr (Or.inl ⟨k, hk, i, hi, z⟩)
    · exact Or.inr (Or.inr ⟨k, hk, i, hi, z⟩)
    · exact Or.inl z
theorem i_vc_conflict {k : Nat} {u : SX} {v : SY} (I : i_Rel k u v) (hk : k + 3 ≤ 1536) (v1 : Int32) (v2 : Int32) : wpX_conflict (fun r u' => wpY_conflict (fun r' => r' = r ∧ i_Rel (k + 3) u' v) v v1 v2) u v1 v2 := by
  refine zz_el (P := fun u v => wpX_conflict (fun r u' => wpY_conflict (fun r' => r' = r ∧ i_Rel (k + 3) u' v) v v1 v2) u v1 v2) ?_ I
  intro nj A B sg fd g xrc xwg xjt xso xlo xrj xre xrs xnd xnp xcf xwe xwc xrt xsz xrg yrs yfr yln yjt yen yrv ymt ynx h1 h2 h3 h4
  have hl16 := @rv_len A B nj sg
  have ey : yrs = nI (gr_L A B nj sg).length := h2.1
  subst ey
  unfold wpX_conflict
  refine xq_is h1 h3 ?_ ?_
  · intro we wc rc so lo rj re rs nd np cf R hx
    have K0 := zz_in (k := k + 3) (fd := true) (xwg := xwg) (xwe := we) (xwc := wc) (xrt := xrt) (xsz := xsz) (xrg := xrg) (yrv := yrv) (ymt := ymt) (ynx := ynx) h1 h2 (fun _ => R) h4
    refine br_t rfl ?_
    unfold wpY_conflict
    refine yq_is hl16 (fun _ => br_t rfl ⟨rfl, K0⟩) ?_
    intro r hr e
    subst e
    rcases hx with hx | hx
    · exact absurd hx (nI_pos (by omega))
    · exact absurd hx (nI_ge hr (by omega))
  · intro we wc rc so lo rj re rs nd np cf R r hr e
    subst e
    refine br_f (by decide) ?_
    refine xq_is h1 (fun _ => R) ?_ ?_
    · intro we wc rc so lo rj re rs nd np cf R hx
      have K0 := zz_in (k := k + 3) (fd := true) (xwg := xwg) (xwe := we) (xwc := wc) (xrt := xrt) (xsz := xsz) (xrg := xrg) (yrv := yrv) (ymt := ymt) (ynx := ynx) h1 h2 (fun _ => R) h4
      refine br_t rfl ?_
      unfold wpY_conflict
      refine yq_is hl16 (fun z => ?_) (fun _ _ _ => br_f (by decide) ?_)
      · rcases z with z | z
        · exact absurd z (nI_pos (by omega))
        · exact absurd z (nI_ge hr (by omega))
      · refine yq_is hl16 (fun _ => br_t rfl ⟨rfl, K0⟩) ?_
        intro q hq e
        subst e
        rcases hx with hx | hx
        · exact absurd hx (nI_pos (by omega))
        · exact absurd hx (nI_ge hq (by omega))
    · intro we wc rc so lo rj re rs nd np cf R q hq e
      subst e
      have K0 := zz_in (k := k + 3) (fd := true) (xwg := xwg) (xwe := we) (xwc := wc) (xrt := xrt) (xsz := xsz) (xrg := xrg) (yrv := yrv) (ymt := ymt) (ynx := ynx) h1 h2 (fun _ => R) h4
      have hc : bt (cf r) q = true ↔ (cy_P A B nj (gr_L A B nj sg) r q ∨ r = q) := by
        rw [← cy_eq h1 R hr hq]
        have := R.2 r hr q
        rw [this]
        exact ⟨fun z => z.2, fun z => ⟨hq, z⟩⟩
      refine br_f (by decide) (And.intro (vp_in_nI (by omega) (by omega)) ?_)
      rw [nI_clamp (by omega), ib_get _ (by omega)]
      refine im_bc ?_ ?_
      · intro z
        refine yc_conf h1 h2 hr hq (fun _ => ⟨rfl, K0⟩) (fun c => ?_)
        rw [hc.mpr c] at z; cases z
      · intro z
        exact yc_conf h1 h2 hr hq (fun c => absurd (hc.mp z) c) (fun _ => ⟨rfl, K0⟩)
end CONFLICT
end
section
/-! hops -/
section HOPS
variable {xjc xfd xrc xsr xoc xwg : Int32} {xjA xjB xcA xjt xhs xps xso xlo xrj xre xrs xnd xnp xcf xwe xwc xwt xto xlk xnc xhd xro xpg xrt xsz xrg : Nat → Int32}
variable {yjs yrs : Int32} {yon ytw ysg yps yfr yln yjt yen yst ywt yhl ylk yhd yun yed yrv ymt ynx : Nat → Int32}
variable {A B : Nat → Nat} {nj : Nat} {sg : Nat → Bool}
def hp_z (L : List (Nat × List (Nat × Nat))) (r : Nat) : Nat := rl_e L r (rl_n L r - 1)
/-- reached in i hops at most -/
def hp_M (L : List (Nat × List (Nat × Nat))) (a : Nat) : Nat → Nat → Prop
  | 0 => fun e => e = a
  | i + 1 => fun e => hp_M L a i e ∨ ∃ r, r < L.length ∧ hp_M L a i (rl_s L r) ∧ ix_op (hp_z L r) = e
def hp_1 (L : List (Nat × List (Nat × Nat))) (a i e : Nat) : Prop := hp_M L a i e ∧ ∀ d, d < i → ¬ hp_M L a d e
def hp_F (L : List (Nat × List (Nat × Nat))) (a s i : Nat) : Prop := ∃ r, r < L.length ∧ hp_M L a i (rl_s L r) ∧ hp_z L r / 2 = s
theorem hp_mono {L : List (Nat × List (Nat × Nat))} {a e : Nat} : ∀ {i j : Nat}, i ≤ j → hp_M L a i e → hp_M L a j e := by
  intro i j h m
  induction j with
  | zero => have : i = 0 := by omega
            subst this; exact m
  | succ j ih =>
    by_cases z : i = j + 1
    · subst z; exact m
    · exact Or.inl (ih (by omega))
theorem hp_first {L : List (Nat × List (Nat × Nat))} {a e i : Nat} (h : hp_M L a i e) : ∃ d, d ≤ i ∧ hp_1 L a d e := by
  rcases lq_least (fun d => hp_M L a d e) (i + 1) with z | ⟨d, z1, z2, z3⟩
  · exact absurd h (z i (Nat.lt_succ_self i))
  · exact ⟨d, by omega, z2, z3⟩
theorem hp_Fx {L : List (Nat × List (Nat × Nat))} {a s i : Nat} (hno : ∀ j, j < i → ¬ hp_F L a s j) : hp_F L a s i ↔ ∃ r, r < L.length ∧ hp_1 L a i (rl_s L r) ∧ hp_z L r / 2 = s := by
  constructor
  · rintro ⟨r, hr, m, e⟩
    obtain ⟨d, hd, h1⟩ := hp_first m
    by_cases z : d = i
    · subst z; exact ⟨r, hr, h1, e⟩
    · exact absurd ⟨r, hr, h1.1, e⟩ (hno d (by omega))
  · rintro ⟨r, hr, m, e⟩; exact ⟨r, hr, m.1, e⟩
def hp_R (L : List (Nat × List (Nat × Nat))) (a i : Nat) (N : Nat → Prop) (ring : Nat → Int32) : Prop :=
  ∀ e, e < 20 → (∀ d, d ≤ i → hp_1 L a d e → ring e = nI d) ∧ (¬ hp_M L a i e → N e → ring e = nI (i + 1)) ∧ (¬ hp_M L a i e → ¬ N e → ring e = -1)
theorem hp_Rnext {L : List (Nat × List (Nat × Nat))} {a i : Nat} {ring : Nat → Int32} (h : hp_R L a i (fun e => ∃ r, r < L.length ∧ hp_1 L a i (rl_s L r) ∧ ix_op (hp_z L r) = e) ring) : hp_R L a (i + 1) (fun _ => False) ring := by
  intro e he
  obtain ⟨h1, h2, h3⟩ := h e he
  refine ⟨?_, fun _ z => absurd z id, ?_⟩
  · intro d hd hd1
    by_cases z : d = i + 1
    · subst z
      have nm : ¬ hp_M L a i e := hd1.2 i (Nat.lt_succ_self i)
      refine h2 nm ?_
      rcases hd1.1 with w | ⟨r, hr, m, w⟩
      · exact absurd w nm
      · refine ⟨r, hr, ?_, w⟩
        obtain ⟨d, hd, hf⟩ := hp_first m
        by_cases y : d = i
        · subst y; exact hf
        · exact absurd (hp_mono (i := d + 1) (by omega) (Or.inr ⟨r, hr, hf.1, w⟩)) nm
    · exact h1 d (by omega) hd1
  · intro nm _
    refine h3 (fun z => nm (Or.inl z)) ?_
    rintro ⟨r, hr, m, w⟩
    exact nm (Or.inr ⟨r, hr, m.1, w⟩)
theorem hp_read {L : List (Nat × List (Nat × Nat))} {a i e : Nat} {N : Nat → Prop} {ring : Nat → Int32} (h : hp_R L a i N ring) (hi : i < 20) (he : e < 20) : ring e = nI i ↔ hp_1 L a i e := by
  obtain ⟨h1, h2, h3⟩ := h e he
  constructor
  · intro z
    by_cases m : hp_M L a i e
    · obtain ⟨d, hd, hf⟩ := hp_first m
      have := h1 d hd hf
      rw [this, nI_eq (by omega) (by omega)] at z
      subst z; exact hf
    · by_cases n : N e
      · rw [h2 m n, nI_eq (by omega) (by omega)] at z; omega
      · rw [h3 m n] at z
        exact absurd (z ▸ im_m1) (nI_pos (by omega))
  · intro z; exact h1 i (Nat.le_refl _) z
theorem hp_neg {L : List (Nat × List (Nat × Nat))} {a i e : Nat} {N : Nat → Prop} {ring : Nat → Int32} (h : hp_R L a i N ring) (hi : i < 20) (he : e < 20) : 0 ≤ ring e ↔ hp_M L a i e ∨ N e := by
  obtain ⟨h1, h2, h3⟩ := h e he
  by_cases m : hp_M L a i e
  · obtain ⟨d, hd, hf⟩ := hp_first m
    rw [h1 d hd hf]
    exact ⟨fun _ => Or.inl m, fun _ => nI_pos' (by omega)⟩
  · by_cases n : N e
    · rw [h2 m n]
      exact ⟨fun _ => Or.inr n, fun _ => nI_pos' (by omega)⟩
    · rw [h3 m n]
      constructor
      · intro z; exact absurd z (by decide)
      · rintro (z | z)
        · exact absurd z m
        · exact absurd z n
theorem hp_add {L : List (Nat × List (Nat × Nat))} {a i e : Nat} {N : Nat → Prop} {ring : Nat → Int32} (h : hp_R L a i N ring) (hn : ¬ (hp_M L a i e ∨ N e)) : hp_R L a i (fun x => N x ∨ x = e) (upd ring e (nI (i + 1))) := by
  intro x hx
  obtain ⟨h1, h2, h3⟩ := h x hx
  by_cases z : x = e
  · subst z
    rw [pk_us]
    refine ⟨?_, fun _ _ => rfl, fun _ y => absurd (Or.inr rfl) y⟩
    intro d hd hf
    exact absurd (Or.inl (hp_mono hd hf.1)) hn
  · rw [pk_un z]
    refine ⟨h1, ?_, ?_⟩
    · rintro m (y | y)
      · exact h2 m y
      · exact absurd y z
    · intro m y; exact h3 m (fun w => y (Or.inl w))
theorem hp_same {L : List (Nat × List (Nat × Nat))} {a i e : Nat} {N : Nat → Prop} {ring : Nat → Int32} (h : hp_R L a i N ring) (hn : hp_M L a i e ∨ N e) : hp_R L a i (fun x => N x ∨ x = e) ring := by
  intro x hx
  obtain ⟨h1, h2, h3⟩ := h x hx
  refine ⟨h1, ?_, fun m y => h3 m (fun w => y (Or.inl w))⟩
  rintro m (y | y)
  · exact h2 m y
  · subst y
    rcases hn with w | w
    · exact absurd w m
    · exact h2 m w
theorem hp_cg {L : List (Nat × List (Nat × Nat))} {a i : Nat} {N N' : Nat → Prop} {ring : Nat → Int32} (h : hp_R L a i N ring) (e : ∀ x, N x ↔ N' x) : hp_R L a i N' ring := by
  intro x hx
  obtain ⟨h1, h2, h3⟩ := h x hx
  exact ⟨h1, fun m n => h2 m ((e x).mpr n), fun m n => h3 m (fun w => n ((e x).mp w))⟩
theorem hx_72 {post : Int32 → SX → Prop} {J : Int32 → (Nat → Int32) → (Nat → Int32) → (Nat → Int32) → (Nat → Int32) → (Nat → Int32) → (Nat → Int32) → (Nat → Int32) → (Nat → Int32) → (Nat → Int32) → (Nat → Int32) → (Nat → Int32) → (Nat → Int32) → (Nat → Int32) → (Nat → Int32) → (Nat → Int32) → (Nat → Int32) → (Nat → Int32) → (Nat → Int32) → (Nat → Int32) → (Nat → Int32) → (Nat → Int32) → (Nat → Int32) → (Nat → Int32) → (Nat → Int32) → (Nat → Int32) → (Nat → Int32) → Prop} {a s i : Nat} (S : sk_St A B nj xjt) (R : rx_F A B nj sg (nI (gr_L A B nj sg).length) xso xlo xrj xre xrs xnd xnp xcf) (hs : s < 10) (hi : i < 20) (hno : ∀ j, j < i → ¬ hp_F (gr_L A B nj sg) a s j)
    (h1 : hp_F (gr_L A B nj sg) a s i → ∀ ring, post (nI (i + 1)) (xjc, xfd, nI (gr_L A B nj sg).length, xsr, xoc, xwg, xjA, xjB, xcA, xjt, xhs, xps, xso, xlo, xrj, xre, xrs, xnd, xnp, xcf, xwe, xwc, xwt, xto, xlk, xnc, xhd, xro, xpg, xrt, xsz, ring))
    (h0 : ¬ hp_F (gr_L A B nj sg) a s i → ∀ ring, hp_R (gr_L A B nj sg) a (i + 1) (fun _ => False) ring → J (nI (i + 1)) xjA xjB xcA xjt xhs xps xso xlo xrj xre xrs xnd xnp xcf xwe xwc xwt xto xlk xnc xhd xro xpg xrt xsz ring) :
    ∀ (d r : Nat) (ring : Nat → Int32), r + d = (gr_L A B nj sg).length → (∀ q, q < r → hp_1 (gr_L A B nj sg) a i (rl_s (gr_L A B nj sg) q) → hp_z (gr_L A B nj sg) q / 2 ≠ s) → hp_R (gr_L A B nj sg) a i (fun e => ∃ q, q < r ∧ hp_1 (gr_L A B nj sg) a i (rl_s (gr_L A B nj sg) q) ∧ ix_op (hp_z (gr_L A B nj sg) q) = e) ring →
    wX_hops_72 post J (nI s) (nI i) xjc xfd (nI (gr_L A B nj sg).length) xsr xoc xwg (d + 1) (nI r) xjA xjB xcA xjt xhs xps xso xlo xrj xre xrs xnd xnp xcf xwe xwc xwt xto xlk xnc xhd xro xpg xrt xsz ring := by
  have hl16 := @rv_len A B nj sg
  intro d
  induction d with
  | zero =>
    intro r ring hr hq hR
    have hr' : r = (gr_L A B nj sg).length := hr
    rw [hr'] at hq hR ⊢
    refine br_t (Int32.le_refl _) (nm_r (nI_1 i) (h0 ?_ ring (hp_Rnext hR)))
    rw [hp_Fx hno]
    rintro ⟨q, hq1, hq2, hq3⟩
    exact hq q hq1 hq2 hq3
  | succ d ih =>
    intro r ring hr hq hR
    have hrl : r < (gr_L A B nj sg).length := by omega
    have hn := rv_n hrl
    have vr : vp_in (nI r) 16 := vp_in_nI (by omega) (by omega)
    have cr : (nI r).toNatClampNeg = r := nI_clamp (by omega)
    obtain ⟨q1, q2, q3, _⟩ := rx_get R hrl
    have s20 := (rv_all hrl).1
    have cs : (nI (rl_s (gr_L A B nj sg) r)).toNatClampNeg = rl_s (gr_L A B nj sg) r := nI_clamp (by omega)
    have z20 : hp_z (gr_L A B nj sg) r < 20 := rv_e S.2.1 S.2.2.1 hrl (by omega)
    have o20 := ix_op20 z20
    refine br_f (nI_ge hrl (by omega)) (And.intro vr ?_)
    rw [cr, q1]
    refine And.intro (vp_in_nI s20 (by omega)) ?_
    rw [cs, hp_read hR hi s20]
    refine br_c ?_ ?_
    · intro hf
      have ei : 5 * nI r + xlo r - 1 = nI (5 * r + (rl_n (gr_L A B nj sg) r - 1)) := by
        rw [q2, ix_5]
        have : 5 * r + rl_n (gr_L A B nj sg) r = 5 * r + (rl_n (gr_L A B nj sg) r - 1) + 1 := by omega
        rw [this]; exact nI_pred _
      refine And.intro vr (And.intro (by rw [ei]; exact vp_in_nI (by omega) (by omega)) ?_)
      refine nm_r (e' := nI (hp_z (gr_L A B nj sg) r)) (by rw [ei, nI_clamp (by omega), (q3 _ (by omega)).2]; rfl) (And.intro ix_20 ?_)
      rw [ix_h (by omega), ix_opx _ z20]
      refine pk_eq (hp_z (gr_L A B nj sg) r / 2) s ?_ ?_
      · intro e
        rw [nI_1]
        exact h1 ((hp_Fx hno).mpr ⟨r, hrl, hf, e⟩) ring
      · intro e
        have vo : vp_in (nI (ix_op (hp_z (gr_L A B nj sg) r))) 20 := vp_in_nI o20 (by omega)
        have co : (nI (ix_op (hp_z (gr_L A B nj sg) r))).toNatClampNeg = ix_op (hp_z (gr_L A B nj sg) r) := nI_clamp (by omega)
        have hq' : ∀ q, q < r + 1 → hp_1 (gr_L A B nj sg) a i (rl_s (gr_L A B nj sg) q) → hp_z (gr_L A B nj sg) q / 2 ≠ s := by
          intro q hqr
          by_cases w : q = r
          · subst w; intro _; exact e
          · exact hq q (by omega)
        have eN : ∀ x, ((∃ q, q < r ∧ hp_1 (gr_L A B nj sg) a i (rl_s (gr_L A B nj sg) q) ∧ ix_op (hp_z (gr_L A B nj sg) q) = x) ∨ x = ix_op (hp_z (gr_L A B nj sg) r)) ↔ ∃ q, q < r + 1 ∧ hp_1 (gr_L A B nj sg) a i (rl_s (gr_L A B nj sg) q) ∧ ix_op (hp_z (gr_L A B nj sg) q) = x := by
          intro x
          constructor
          · rintro (⟨q, w1, w2⟩ | w)
            · exact ⟨q, by omega, w2⟩
            · exact ⟨r, by omega, hf, w.symm⟩
          · rintro ⟨q, w1, w2, w3⟩
            by_cases w : q = r
            · subst w; exact Or.inr w3.symm
            · exact Or.inl ⟨q, by omega, w2, w3⟩
        refine And.intro vo ?_
        rw [co, hp_neg hR hi o20]
        refine br_c ?_ ?_
        · intro w
          exact nm_r (nI_1 r) (ih (r + 1) ring (by omega) hq' (hp_cg (hp_same hR w) eN))
        · intro w
          refine And.intro vo ?_
          refine nm_r (e' := upd ring (ix_op (hp_z (gr_L A B nj sg) r)) (nI (i + 1))) (by rw [nI_1, im_by (by omega)]) ?_
          exact nm_r (nI_1 r) (ih (r + 1) _ (by omega) hq' (hp_cg (hp_add hR w) eN))
    · intro hf
      refine nm_r (nI_1 r) (ih (r + 1) ring (by omega) ?_ (hp_cg hR ?_))
      · intro q hqr
        by_cases w : q = r
        · subst w; intro z; exact absurd z hf
        · exact hq q (by omega)
      · intro x
        constructor
        · rintro ⟨q, w1, w2⟩; exact ⟨q, by omega, w2⟩
        · rintro ⟨q, w1, w2, w3⟩
          by_cases w : q = r
          · subst w; exact absurd w2 hf
          · exact ⟨q, by omega, w2, w3⟩
theorem hx_63 {post : Int32 → SX → Prop} {a s : Nat} (S : sk_St A B nj xjt) (R : rx_F A B nj sg (nI (gr_L A B nj sg).length) xso xlo xrj xre xrs xnd xnp xcf) (hs : s < 10)
    (h0 : (∀ i, i < 20 → ¬ hp_F (gr_L A B nj sg) a s i) → ∀ ring, post (-2) (xjc, xfd, nI (gr_L A B nj sg).length, xsr, xoc, xwg, xjA, xjB, xcA, xjt, xhs, xps, xso, xlo, xrj, xre, xrs, xnd, xnp, xcf, xwe, xwc, xwt, xto, xlk, xnc, xhd, xro, xpg, xrt, xsz, ring))
    (h1 : ∀ i, i < 20 → hp_F (gr_L A B nj sg) a s i → (∀ j, j < i → ¬ hp_F (gr_L A B nj sg) a s j) → ∀ ring, post (nI (i + 1)) (xjc, xfd, nI (gr_L A B nj sg).length, xsr, xoc, xwg, xjA, xjB, xcA, xjt, xhs, xps, xso, xlo, xrj, xre, xrs, xnd, xnp, xcf, xwe, xwc, xwt, xto, xlk, xnc, xhd, xro, xpg, xrt, xsz, ring)) :
    ∀ (d i : Nat) (ring : Nat → Int32), i + d = 20 → (∀ j, j < i → ¬ hp_F (gr_L A B nj sg) a s j) → hp_R (gr_L A B nj sg) a i (fun _ => False) ring → wX_hops_63 post (nI s) xjc xfd (nI (gr_L A B nj sg).length) xsr xoc xwg (d + 1) (nI i) xjA xjB xcA xjt xhs xps xso xlo xrj xre xrs xnd xnp xcf xwe xwc xwt xto xlk xnc xhd xro xpg xrt xsz ring := by
  intro d
  induction d with
  | zero =>
    intro i ring hi hno hR
    have hi' : i = 20 := hi
    subst hi'
    exact br_t (Int32.le_refl _) (h0 hno ring)
  | succ d ih =>
    intro i ring hi hno hR
    refine br_f (nI_ge (b := 20) (by omega) (by omega)) (Exists.intro ((gr_L A B nj sg).length + 1) ?_)
    refine hx_72 S R hs (by omega) hno (fun f ring => h1 i (by omega) f hno ring) ?_ (gr_L A B nj sg).length 0 ring (Nat.zero_add _) (fun q hq => absurd hq (Nat.not_lt_zero q)) (hp_cg hR ?_)
    · intro nf ring' hR'
      refine ih (i + 1) ring' (by omega) ?_ hR'
      intro j hj
      by_cases w : j = i
      · subst w; exact nf
      · exact hno j (by omega)
    · intro x
      exact ⟨fun z => absurd z id, fun ⟨q, hq, _⟩ => absurd hq (Nat.not_lt_zero q)⟩
theorem hx_35 {post : Int32 → SX → Prop} {a s : Nat} (S : sk_St A B nj xjt) (R : rx_F A B nj sg (nI (gr_L A B nj sg).length) xso xlo xrj xre xrs xnd xnp xcf) (ha : a < 20) (hs : s < 10)
    (h0 : (∀ i, i < 20 → ¬ hp_F (gr_L A B nj sg) a s i) → ∀ ring, post (-2) (xjc, xfd, nI (gr_L A B nj sg).length, xsr, xoc, xwg, xjA, xjB, xcA, xjt, xhs, xps, xso, xlo, xrj, xre, xrs, xnd, xnp, xcf, xwe, xwc, xwt, xto, xlk, xnc, xhd, xro, xpg, xrt, xsz, ring))
    (h1 : ∀ i, i < 20 → hp_F (gr_L A B nj sg) a s i → (∀ j, j < i → ¬ hp_F (gr_L A B nj sg) a s j) → ∀ ring, post (nI (i + 1)) (xjc, xfd, nI (gr_L A B nj sg).length, xsr, xoc, xwg, xjA, xjB, xcA, xjt, xhs, xps, xso, xlo, xrj, xre, xrs, xnd, xnp, xcf, xwe, xwc, xwt, xto, xlk, xnc, xhd, xro, xpg, xrt, xsz, ring)) :
    ∀ (d e : Nat) (ring : Nat → Int32), e + d = 20 → (∀ x, x < e → ring x = -1) → wX_hops_35 post (nI a) (nI s) xjc xfd (nI (gr_L A B nj sg).length) xsr xoc xwg (d + 1) (nI e) xjA xjB xcA xjt xhs xps xso xlo xrj xre xrs xnd xnp xcf xwe xwc xwt xto xlk xnc xhd xro xpg xrt xsz ring := by
  intro d
  induction d with
  | zero =>
    intro e ring he hR
    have he' : e = 20 := he
    subst he'
    refine br_t (Int32.le_refl _) (And.intro (vp_in_nI ha (by omega)) ?_)
    refine nm_r (e' := upd ring a (nI 0)) (by rw [nI_clamp (by omega), im_by0]) ?_
    refine Exists.intro (20 + 1) (hx_63 S R hs h0 h1 20 0 _ rfl (fun j hj => absurd hj (Nat.not_lt_zero j)) ?_)
    intro x hx
    by_cases z : x = a
    · subst z
      rw [pk_us]
      refine ⟨?_, fun m => absurd rfl m, fun m => absurd rfl m⟩
      intro d hd _
      have : d = 0 := by omega
      rw [this]
    · rw [pk_un z]
      refine ⟨?_, fun _ n => absurd n id, fun _ _ => hR x hx⟩
      intro d hd hf
      have : d = 0 := by omega
      subst this
      exact absurd hf.1 z
  | succ d ih =>
    intro e ring he hR
    refine br_f (nI_ge (b := 20) (by omega) (by omega)) (And.intro (vp_in_nI (by omega) (by omega)) ?_)
    refine nm_r (e' := upd ring e (-1)) (by rw [nI_clamp (by omega), im_bym]) (nm_r (nI_1 e) (ih (e + 1) _ (by omega) ?_))
    intro x hx
    by_cases z : x = e
    · subst z; rw [pk_us]
    · rw [pk_un z]; exact hR x (by omega)
/-! the reference -/
def bo_P (f : Nat → Int32) (P : Nat → Prop) : Prop := ∀ e, e < 20 → (P e → f e = 1) ∧ (¬ P e → f e = 0)
theorem bo_cg {f : Nat → Int32} {P P' : Nat → Prop} (h : bo_P f P) (e : ∀ x, P x ↔ P' x) : bo_P f P' :=
  fun x hx => ⟨fun p => (h x hx).1 ((e x).mpr p), fun p => (h x hx).2 (fun q => p ((e x).mp q))⟩
theorem bo_add {f : Nat → Int32} {P : Nat → Prop} {e : Nat} (h : bo_P f P) : bo_P (upd f e 1) (fun x => P x ∨ x = e) := by
  intro x hx
  by_cases z : x = e
  · subst z; rw [pk_us]; exact ⟨fun _ => rfl, fun p => absurd (Or.inr rfl) p⟩
  · rw [pk_un z]
    refine ⟨?_, fun p => (h x hx).2 (fun q => p (Or.inl q))⟩
    rintro (p | p)
    · exact (h x hx).1 p
    · exact absurd p z
theorem bo_1 : vp_nar .boolean 1 = 1 := by decide
theorem bo_0 : vp_nar .boolean 0 = 0 := by decide
theorem hy_4 {post : Int32 → SY → Prop} {a s i : Nat} {M : Nat → Prop} (S : sk_St A B nj xjt) (Y : rp_Y (gr_L A B nj sg) (nI (gr_L A B nj sg).length) yfr yln yjt yen) (hs : s < 10) (hM : bo_P ymt M)
    (h : ∀ f nx, (f = true ↔ ∃ r, r < (gr_L A B nj sg).length ∧ M (rl_s (gr_L A B nj sg) r) ∧ hp_z (gr_L A B nj sg) r / 2 = s) → bo_P nx (fun e => M e ∨ ∃ r, r < (gr_L A B nj sg).length ∧ M (rl_s (gr_L A B nj sg) r) ∧ ix_op (hp_z (gr_L A B nj sg) r) = e) → post (im_bi f) (yjs, nI (gr_L A B nj sg).length, yon, ytw, ysg, yps, yfr, yln, yjt, yen, yst, ywt, yhl, ylk, yhd, yun, yed, yrv, ymt, nx)) :
    ∀ (d r : Nat) (f : Bool) (nx : Nat → Int32), r + d = (gr_L A B nj sg).length → (f = true ↔ ∃ q, q < r ∧ M (rl_s (gr_L A B nj sg) q) ∧ hp_z (gr_L A B nj sg) q / 2 = s) → bo_P nx (fun e => M e ∨ ∃ q, q < r ∧ M (rl_s (gr_L A B nj sg) q) ∧ ix_op (hp_z (gr_L A B nj sg) q) = e) →
    wY_widen_4 post (nI s) yjs (nI (gr_L A B nj sg).length) (d + 1) (im_bi f) (nI r) yon ytw ysg yps yfr yln yjt yen yst ywt yhl ylk yhd yun yed yrv ymt nx := by
  have hl16 := @rv_len A B nj sg
  intro d
  induction d with
  | zero =>
    intro r f nx hr hf hN
    have hr' : r = (gr_L A B nj sg).length := hr
    rw [hr'] at hf hN ⊢
    refine br_t (Int32.le_refl _) (And.intro ?_ (h f nx hf hN))
    cases f <;> rfl
  | succ d ih =>
    intro r f nx hr hf hN
    have hrl : r < (gr_L A B nj sg).length := by omega
    have hn := rv_n hrl
    have vr : vp_in (nI r) 16 := vp_in_nI (by omega) (by omega)
    have cr : (nI r).toNatClampNeg = r := nI_clamp (by omega)
    obtain ⟨q1, q2, q3⟩ := ry_get Y hrl
    have s20 := (rv_all hrl).1
    have cs : (nI (rl_s (gr_L A B nj sg) r)).toNatClampNeg = rl_s (gr_L A B nj sg) r := nI_clamp (by omega)
    have z20 : hp_z (gr_L A B nj sg) r < 20 := rv_e S.2.1 S.2.2.1 hrl (by omega)
    have o20 := ix_op20 z20
    refine br_f (nI_ge hrl (by omega)) (And.intro vr ?_)
    rw [cr, q1]
    refine And.intro (vp_in_nI s20 (by omega)) ?_
    rw [cs]
    by_cases m : M (rl_s (gr_L A B nj sg) r)
    · rw [(hM _ s20).1 m]
      have ei : 5 * nI r + yln r - 1 = nI (5 * r + (rl_n (gr_L A B nj sg) r - 1)) := by
        rw [q2, ix_5]
        have : 5 * r + rl_n (gr_L A B nj sg) r = 5 * r + (rl_n (gr_L A B nj sg) r - 1) + 1 := by omega
        rw [this]; exact nI_pred _
      have k55 : ∀ f' : Bool, (f' = true ↔ ∃ q, q < r + 1 ∧ M (rl_s (gr_L A B nj sg) q) ∧ hp_z (gr_L A B nj sg) q / 2 = s) → wY_widen_55 post (wY_widen_4 post (nI s) yjs (nI (gr_L A B nj sg).length) (d + 1)) (nI s) (im_bi f') (nI r) (nI (hp_z (gr_L A B nj sg) r)) yjs (nI (gr_L A B nj sg).length) yon ytw ysg yps yfr yln yjt yen yst ywt yhl ylk yhd yun yed yrv ymt nx := by
        intro f' hf'
        unfold wY_widen_55
        rw [ix_opx _ z20]
        refine And.intro (vp_in_nI o20 (by omega)) ?_
        refine nm_r (e' := upd nx (ix_op (hp_z (gr_L A B nj sg) r)) 1) (by rw [nI_clamp (by omega), bo_1]) (nm_r (nI_1 r) (ih (r + 1) f' _ (by omega) hf' (bo_cg (bo_add hN) ?_)))
        intro x
        constructor
        · rintro ((w | ⟨q, w1, w2⟩) | w)
          · exact Or.inl w
          · exact Or.inr ⟨q, by omega, w2⟩
          · exact Or.inr ⟨r, by omega, m, w.symm⟩
        · rintro (w | ⟨q, w1, w2, w3⟩)
          · exact Or.inl (Or.inl w)
          · by_cases v : q = r
            · subst v; exact Or.inr w3.symm
            · exact Or.inl (Or.inr ⟨q, by omega, w2, w3⟩)
      refine br_f (by decide) (And.intro vr (And.intro (by rw [ei]; exact vp_in_nI (by omega) (by omega)) ?_))
      refine nm_r (e' := nI (hp_z (gr_L A B nj sg) r)) (by rw [ei, nI_clamp (by omega), (q3 _ (by omega)).2]; rfl) (And.intro ix_20 ?_)
      rw [ix_h (by omega)]
      refine pk_eq (hp_z (gr_L A B nj sg) r / 2) s ?_ ?_
      · intro e
        exact k55 true ⟨fun _ => ⟨r, by omega, m, e⟩, fun _ => rfl⟩
      · intro e
        refine k55 f ?_
        rw [hf]
        constructor
        · rintro ⟨q, w1, w2⟩; exact ⟨q, by omega, w2⟩
        · rintro ⟨q, w1, w2, w3⟩
          by_cases v : q = r
          · subst v; exact absurd w3 e
          · exact ⟨q, by omega, w2, w3⟩
    · rw [(hM _ s20).2 m]
      refine br_t rfl (nm_r (nI_1 r) (ih (r + 1) f nx (by omega) ?_ (bo_cg hN ?_)))
      · rw [hf]
        constructor
        · rintro ⟨q, w1, w2⟩; exact ⟨q, by omega, w2⟩
        · rintro ⟨q, w1, w2, w3⟩
          by_cases v : q = r
          · subst v; exact absurd w2 m
          · exact ⟨q, by omega, w2, w3⟩
      · intro x
        constructor
        · rintro (w | ⟨q, w1, w2⟩)
          · exact Or.inl w
          · exact Or.inr ⟨q, by omega, w2⟩
        · rintro (w | ⟨q, w1, w2, w3⟩)
          · exact Or.inl w
          · by_cases v : q = r
            · subst v; exact absurd w2 m
            · exact Or.inr ⟨q, by omega, w2, w3⟩
theorem hy_100 {post : Int32 → SY → Prop} {J : Int32 → Int32 → Int32 → (Nat → Int32) → (Nat → Int32) → (Nat → Int32) → (Nat → Int32) → (Nat → Int32) → (Nat → Int32) → (Nat → Int32) → (Nat → Int32) → (Nat → Int32) → (Nat → Int32) → (Nat → Int32) → (Nat → Int32) → (Nat → Int32) → (Nat → Int32) → (Nat → Int32) → (Nat → Int32) → (Nat → Int32) → (Nat → Int32) → Prop} {i : Nat} {x2 : Int32} {P : Nat → Prop} (hN : bo_P ynx P) (h : ∀ mt, bo_P mt P → J (nI (i + 1)) yjs yrs yon ytw ysg yps yfr yln yjt yen yst ywt yhl ylk yhd yun yed yrv mt ynx) :
    ∀ (d e : Nat) (mt : Nat → Int32), e + d = 20 → (∀ x, x < e → mt x = ynx x) → wY_hops_100 post J x2 (nI i) yjs yrs (d + 1) (nI e) yon ytw ysg yps yfr yln yjt yen yst ywt yhl ylk yhd yun yed yrv mt ynx := by
  intro d
  induction d with
  | zero =>
    intro e mt he hm
    have he' : e = 20 := he
    subst he'
    refine br_t (Int32.le_refl _) (nm_r (nI_1 i) (h mt ?_))
    intro x hx
    rw [hm x hx]; exact hN x hx
  | succ d ih =>
    intro e mt he hm
    have ve : vp_in (nI e) 20 := vp_in_nI (by omega) (by omega)
    refine br_f (nI_ge (b := 20) (by omega) (by omega)) (And.intro ve (And.intro ve ?_))
    have e1 : vp_nar .boolean (ynx e) = ynx e := by
      by_cases p : P e
      · rw [(hN e (by omega)).1 p]; exact bo_1
      · rw [(hN e (by omega)).2 p]; exact bo_0
    refine nm_r (e' := upd mt e (ynx e)) (by rw [nI_clamp (by omega), e1]) (nm_r (nI_1 e) (ih (e + 1) _ (by omega) ?_))
    intro x hx
    by_cases z : x = e
    · subst z; rw [pk_us]
    · rw [pk_un z]; exact hm x (by omega)
theorem hy_81 {post : Int32 → SY → Prop} {a s : Nat} (S : sk_St A B nj xjt) (Y : rp_Y (gr_L A B nj sg) (nI (gr_L A B nj sg).length) yfr yln yjt yen) (hs : s < 10)
    (h0 : (∀ i, i < 20 → ¬ hp_F (gr_L A B nj sg) a s i) → ∀ mt nx, post (-2) (yjs, nI (gr_L A B nj sg).length, yon, ytw, ysg, yps, yfr, yln, yjt, yen, yst, ywt, yhl, ylk, yhd, yun, yed, yrv, mt, nx))
    (h1 : ∀ i, i < 20 → hp_F (gr_L A B nj sg) a s i → (∀ j, j < i → ¬ hp_F (gr_L A B nj sg) a s j) → ∀ mt nx, post (nI (i + 1)) (yjs, nI (gr_L A B nj sg).length, yon, ytw, ysg, yps, yfr, yln, yjt, yen, yst, ywt, yhl, ylk, yhd, yun, yed, yrv, mt, nx)) :
    ∀ (d i : Nat) (mt nx : Nat → Int32), i + d = 20 → (∀ j, j < i → ¬ hp_F (gr_L A B nj sg) a s j) → bo_P mt (hp_M (gr_L A B nj sg) a i) → bo_P nx (hp_M (gr_L A B nj sg) a i) → wY_hops_81 post (nI s) (d + 1) (nI (i + 1)) yjs (nI (gr_L A B nj sg).length) yon ytw ysg yps yfr yln yjt yen yst ywt yhl ylk yhd yun yed yrv mt nx := by
  intro d
  induction d with
  | zero =>
    intro i mt nx hi hno hm hn
    have hi' : i = 20 := hi
    subst hi'
    exact br_t (nI_lt (a := 20) (by omega) (by omega)) (h0 hno mt nx)
  | succ d ih =>
    intro i mt nx hi hno hm hn
    refine br_f (nI_nlt (a := 20) (by omega) (by omega)) ?_
    refine Exists.intro ((gr_L A B nj sg).length + 1) ?_
    refine hy_4 (a := a) (i := i) (M := hp_M (gr_L A B nj sg) a i) S Y hs hm ?_ (gr_L A B nj sg).length 0 false nx (Nat.zero_add _) ?_ (bo_cg hn ?_)
    · intro f nx' hf hN'
      refine im_bc ?_ ?_
      · intro z
        refine Exists.intro (20 + 1) ?_
        have nf : ¬ hp_F (gr_L A B nj sg) a s i := by
          intro w
          rw [hf.mpr w] at z; cases z
        refine hy_100 (i := i + 1) (P := hp_M (gr_L A B nj sg) a (i + 1)) hN' ?_ 20 0 mt rfl (fun x hx => absurd hx (Nat.not_lt_zero x))
        intro mt' hm'
        refine ih (i + 1) mt' nx' (by omega) ?_ hm' hN'
        intro j hj
        by_cases w : j = i
        · subst w; exact nf
        · exact hno j (by omega)
      · intro z
        exact h1 i (by omega) (hf.mp z) hno mt nx'
    · exact ⟨(fun z => by cases z), fun ⟨q, hq, _⟩ => absurd hq (Nat.not_lt_zero q)⟩
    · intro x
      exact ⟨Or.inl, fun z => z.elim id (fun ⟨q, hq, _⟩ => absurd hq (Nat.not_lt_zero q))⟩
theorem hy_35 {post : Int32 → SY → Prop} {a s : Nat} (S : sk_St A B nj xjt) (Y : rp_Y (gr_L A B nj sg) (nI (gr_L A B nj sg).length) yfr yln yjt yen) (ha : a < 20) (hs : s < 10)
    (h0 : (∀ i, i < 20 → ¬ hp_F (gr_L A B nj sg) a s i) → ∀ mt nx, post (-2) (yjs, nI (gr_L A B nj sg).length, yon, ytw, ysg, yps, yfr, yln, yjt, yen, yst, ywt, yhl, ylk, yhd, yun, yed, yrv, mt, nx))
    (h1 : ∀ i, i < 20 → hp_F (gr_L A B nj sg) a s i → (∀ j, j < i → ¬ hp_F (gr_L A B nj sg) a s j) → ∀ mt nx, post (nI (i + 1)) (yjs, nI (gr_L A B nj sg).length, yon, ytw, ysg, yps, yfr, yln, yjt, yen, yst, ywt, yhl, ylk, yhd, yun, yed, yrv, mt, nx)) :
    ∀ (d e : Nat) (mt nx : Nat → Int32), e + d = 20 → (∀ x, x < e → (x = a → mt x = 1 ∧ nx x = 1) ∧ (¬ x = a → mt x = 0 ∧ nx x = 0)) → wY_hops_35 post (nI a) (nI s) yjs (nI (gr_L A B nj sg).length) (d + 1) (nI e) yon ytw ysg yps yfr yln yjt yen yst ywt yhl ylk yhd yun yed yrv mt nx := by
  intro d
  induction d with
  | zero =>
    intro e mt nx he hm
    have he' : e = 20 := he
    subst he'
    refine br_t (Int32.le_refl _) (Exists.intro (20 + 1) ?_)
    refine hy_81 S Y hs h0 h1 20 0 mt nx rfl (fun j hj => absurd hj (Nat.not_lt_zero j)) ?_ ?_
    · intro x hx; exact ⟨fun z => ((hm x hx).1 z).1, fun z => ((hm x hx).2 z).1⟩
    · intro x hx; exact ⟨fun z => ((hm x hx).1 z).2, fun z => ((hm x hx).2 z).2⟩
  | succ d ih =>
    intro e mt nx he hm
    have ve : vp_in (nI e) 20 := vp_in_nI (by omega) (by omega)
    have ce : (nI e).toNatClampNeg = e := nI_clamp (by omega)
    refine br_f (nI_ge (b := 20) (by omega) (by omega)) ?_
    refine pk_eq e a ?_ ?_
    · intro z
      refine And.intro ve (nm_r (e' := upd mt e 1) (by rw [ce, bo_1]) (br_t (by rw [z]) (And.intro ve ?_)))
      refine nm_r (e' := upd nx e 1) (by rw [ce, bo_1]) (nm_r (nI_1 e) (ih (e + 1) _ _ (by omega) ?_))
      intro x hx
      by_cases w : x = e
      · subst w; rw [pk_us, pk_us]; exact ⟨fun _ => ⟨rfl, rfl⟩, fun v => absurd z v⟩
      · rw [pk_un w, pk_un w]; exact hm x (by omega)
    · intro z
      refine And.intro ve (nm_r (e' := upd mt e 0) (by rw [ce, bo_0]) (br_f (by rw [nI_eq (by omega) (by omega)]; exact z) (And.intro ve ?_)))
      refine nm_r (e' := upd nx e 0) (by rw [ce, bo_0]) (nm_r (nI_1 e) (ih (e + 1) _ _ (by omega) ?_))
      intro x hx
      by_cases w : x = e
      · subst w; rw [pk_us, pk_us]; exact ⟨fun v => absurd v z, fun _ => ⟨rfl, rfl⟩⟩
      · rw [pk_un w, pk_un w]; exact hm x (by omega)
theorem i_vc_hops {k : Nat} {u : SX} {v : SY} (I : i_Rel k u v) (hk : k + 3 ≤ 1536) (v1 : Int32) (v2 : Int32) : wpX_hops (fun r u' => wpY_hops (fun r' v' => r' = r ∧ i_Rel (k + 3) u' v') v v1 v2) u v1 v2 := by
  refine zz_el (P := fun u v => wpX_hops (fun r u' => wpY_hops (fun r' v' => r' = r ∧ i_Rel (k + 3) u' v') v v1 v2) u v1 v2) ?_ I
  intro nj A B sg fd g xrc xwg xjt xso xlo xrj xre xrs xnd xnp xcf xwe xwc xrt xsz xrg yrs yfr yln yjt yen yrv ymt ynx h1 h2 h3 h4
  have ey : yrs = nI (gr_L A B nj sg).length := h2.1
  subst ey
  have K0 := zz_in (k := k + 3) (xwg := xwg) (xwe := xwe) (xwc := xwc) (xrt := xrt) (xsz := xsz) (xrg := xrg) (yrv := yrv) (ymt := ymt) (ynx := ynx) h1 h2 h3 h4
  unfold wpX_hops
  rcases pk_ix v1 (n := 20) (by omega) with hv | hv | ⟨a, ha, rfl⟩
  · refine xs_endL hv (br_t rfl ?_)
    unfold wpY_hops
    exact ys_inL hv (br_t rfl ⟨rfl, K0⟩)
  · refine xs_endG hv (br_t rfl ?_)
    unfold wpY_hops
    exact ys_inG (N := 19) (by omega) hv (br_t rfl ⟨rfl, K0⟩)
  refine xs_endM ha (br_f (by decide) ?_)
  rcases pk_ix v2 (n := 10) (by omega) with hv | hv | ⟨s, hs, rfl⟩
  · refine br_t hv ?_
    unfold wpY_hops
    exact ys_inM (N := 19) (by omega) (by omega) (br_f (by decide) (ys_inL hv (br_t rfl ⟨rfl, K0⟩)))
  · refine br_c (fun hn => ?_) (fun _ => br_f (Int32.not_lt.mpr hv) ?_)
    · exact absurd (Int32.lt_of_le_of_lt hv hn) (by decide)
    · unfold wpY_hops
      exact ys_inM (N := 19) (by omega) (by omega) (br_f (by decide) (ys_inG (N := 9) (by omega) hv (br_t rfl ⟨rfl, K0⟩)))
  refine br_f (nI_pos (by omega)) (br_t (nI_lt (b := 10) hs (by omega)) ?_)
  refine xr_find h1 h3 ?_
  intro we wc rc so lo rj re rs nd np cf R
  have ex : rc = nI (gr_L A B nj sg).length := R.1.1
  subst ex
  have Kr : ∀ ring mt nx, i_Rel (k + 3) (nI nj, im_bi true, nI (gr_L A B nj sg).length, dg_sr g, dg_oc g, xwg, im_n A, im_n B, im_n (sk_c A B nj), xjt, im_b sg, im_n (dg_ps g), so, lo, rj, re, rs, nd, np, cf, we, wc, im_n (dg_wt g), im_o (-1) (dg_to g), im_o (-1) (dg_lk g), im_n (hs_N A B nj (gr_L A B nj sg) (dg_hl g)), im_o (-1) (dg_hd g), im_o (-1) (dg_ro g), im_n (dg_pg g), xrt, xsz, ring) (nI nj, nI (gr_L A B nj sg).length, im_n A, im_n B, im_b sg, im_n (dg_ps g), yfr, yln, yjt, yen, im_b (dg_st g), im_n (dg_wt g), im_b (dg_hl g), im_o (-2) (dg_lk g), im_o (-1) (dg_hd g), im_o (-1) (dg_ro g), im_n (dg_en g), yrv, mt, nx) := fun ring mt nx => zz_in h1 h2 (fun _ => R) h4
  have Ys : ∀ (Q : Int32 → SY → Prop), (a / 2 = s → Q 0 (nI nj, nI (gr_L A B nj sg).length, im_n A, im_n B, im_b sg, im_n (dg_ps g), yfr, yln, yjt, yen, im_b (dg_st g), im_n (dg_wt g), im_b (dg_hl g), im_o (-2) (dg_lk g), im_o (-1) (dg_hd g), im_o (-1) (dg_ro g), im_n (dg_en g), yrv, ymt, ynx)) → (¬ a / 2 = s → (∀ i, i < 20 → ¬ hp_F (gr_L A B nj sg) a s i) → ∀ mt nx, Q (-2) (nI nj, nI (gr_L A B nj sg).length, im_n A, im_n B, im_b sg, im_n (dg_ps g), yfr, yln, yjt, yen, im_b (dg_st g), im_n (dg_wt g), im_b (dg_hl g), im_o (-2) (dg_lk g), im_o (-1) (dg_hd g), im_o (-1) (dg_ro g), im_n (dg_en g), yrv, mt, nx)) → (¬ a / 2 = s → ∀ i, i < 20 → hp_F (gr_L A B nj sg) a s i → (∀ j, j < i → ¬ hp_F (gr_L A B nj sg) a s j) → ∀ mt nx, Q (nI (i + 1)) (nI nj, nI (gr_L A B nj sg).length, im_n A, im_n B, im_b sg, im_n (dg_ps g), yfr, yln, yjt, yen, im_b (dg_st g), im_n (dg_wt g), im_b (dg_hl g), im_o (-2) (dg_lk g), im_o (-1) (dg_hd g), im_o (-1) (dg_ro g), im_n (dg_en g), yrv, mt, nx)) → wpY_hops Q (nI nj, nI (gr_L A B nj sg).length, im_n A, im_n B, im_b sg, im_n (dg_ps g), yfr, yln, yjt, yen, im_b (dg_st g), im_n (dg_wt g), im_b (dg_hl g), im_o (-2) (dg_lk g), im_o (-1) (dg_hd g), im_o (-1) (dg_ro g), im_n (dg_en g), yrv, ymt, ynx) (nI a) (nI s) := by
    intro Q c0 c1 c2
    unfold wpY_hops
    refine ys_inM (N := 19) (by omega) (by omega) (br_f (by decide) ?_)
    refine ys_inM (N := 9) (by omega) (by omega) (br_f (by decide) (And.intro ix_20 ?_))
    rw [ix_h (by omega)]
    refine pk_eq (a / 2) s c0 ?_
    intro z
    refine Exists.intro (20 + 1) ?_
    exact hy_35 h1 h2 ha hs (c1 z) (c2 z) 20 0 ymt ynx rfl (fun x hx => absurd hx (Nat.not_lt_zero x))
  refine And.intro ix_20 ?_
  rw [ix_h (by omega)]
  refine pk_eq (a / 2) s ?_ ?_
  · intro z
    exact Ys _ (fun _ => ⟨rfl, zz_in h1 h2 (fun _ => R) h4⟩) (fun w => absurd z w) (fun w => absurd z w)
  · intro z
    refine Exists.intro (20 + 1) ?_
    refine hx_35 h1 R ha hs ?_ ?_ 20 0 xrg rfl (fun x hx => absurd hx (Nat.not_lt_zero x))
    · intro no ring
      refine Ys _ (fun w => absurd w z) (fun _ _ mt nx => ⟨rfl, Kr ring mt nx⟩) ?_
      intro _ i hi f
      exact absurd f (no i hi)
    · intro i hi f hno ring
      refine Ys _ (fun w => absurd w z) (fun _ no => absurd f (no i hi)) ?_
      intro _ j hj f' hno' mt nx
      have : j = i := by
        rcases Nat.lt_trichotomy j i with w | w | w
        · exact absurd f' (hno j w)
        · exact w
        · exact absurd f (hno' i w)
      subst this
      exact ⟨rfl, Kr ring mt nx⟩
end HOPS
end
section
/-! largest, pure: sets of routes without conflict -/
section SETS
def cq_c (T : Nat → Bool) (n : Nat) : Nat := hs_S T (fun _ => true) n
theorem cq_s {T : Nat → Bool} {n : Nat} : cq_c T (n + 1) = cq_c T n + (T n).toNat := by
  show hs_S T (fun _ => true) n + (T n && true).toNat = _
  rw [Bool.and_true]; rfl
theorem cq_le {T : Nat → Bool} {n : Nat} : cq_c T n ≤ n := hs_le n
theorem cq_cg {T S : Nat → Bool} {n : Nat} (h : ∀ x, x < n → T x = S x) : cq_c T n = cq_c S n := hs_c h
theorem cq_0 {T : Nat → Bool} {n : Nat} (h : ∀ x, x < n → T x = false) : cq_c T n = 0 := hs_0 h
theorem cq_add {T : Nat → Bool} {n f : Nat} (hf : f < n) (h : T f = false) : cq_c (im_u T f true) n = cq_c T n + 1 := hs_on hf h
theorem cq_rem {T : Nat → Bool} {n f : Nat} (hf : f < n) (h : T f = true) : cq_c (im_u T f false) n + 1 = cq_c T n := hs_off hf h
theorem cq_mono {T S : Nat → Bool} {n : Nat} (h : ∀ x, T x = true → S x = true) : cq_c T n ≤ cq_c S n := by
  induction n with
  | zero => exact Nat.le_refl _
  | succ n ih =>
    rw [cq_s, cq_s]
    have : (T n).toNat ≤ (S n).toNat := by
      cases e : T n
      · exact Nat.zero_le _
      · rw [h n e]; exact Nat.le_refl _
    omega
theorem cq_lt {T S : Nat → Bool} {n f : Nat} (hf : f < n) (h : ∀ x, T x = true → S x = true) (h1 : T f = false) (h2 : S f = true) : cq_c T n + 1 ≤ cq_c S n := by
  rw [← cq_rem hf h2]
  have : cq_c T n ≤ cq_c (im_u S f false) n := by
    refine cq_mono ?_
    intro x hx
    rw [im_un]
    · exact h x hx
    · intro e; rw [e, h1] at hx; cases hx
  omega
theorem cq_up {T : Nat → Bool} {n m : Nat} (hm : n ≤ m) (h : ∀ x, T x = true → x < n) : cq_c T m = cq_c T n := by
  induction m with
  | zero => have : n = 0 := by omega
            rw [this]
  | succ m ih =>
    by_cases e : n = m + 1
    · rw [e]
    · rw [cq_s, ih (by omega)]
      have : T m = false := by
        apply Bool.eq_false_iff.mpr
        intro z; have := h m z; omega
      rw [this]; rfl
theorem cq_front {T : Nat → Bool} : ∀ k, cq_c T (k + 1) = (T 0).toNat + cq_c (fun i => T (i + 1)) k := by
  intro k
  induction k with
  | zero => rw [cq_s]; show 0 + _ = _ + 0; omega
  | succ k ih => rw [cq_s, ih, cq_s]; omega
theorem cq_full {n m : Nat} (h : n ≤ m) : cq_c (fun x => decide (x < n)) m = n := by
  rw [cq_up h (fun x hx => of_decide_eq_true hx)]
  have : ∀ k, k ≤ n → cq_c (fun x => decide (x < n)) k = k := by
    intro k
    induction k with
    | zero => intro _; rfl
    | succ k ih => intro hk; rw [cq_s, ih (by omega), decide_eq_true (by omega)]; rfl
  exact this n (Nat.le_refl _)
/-- the lowest bit is cleared -/
theorem lo_and1 (b : Nat) : (2 * b + 1) &&& (2 * b) = 2 * b := by
  apply Nat.eq_of_testBit_eq
  intro i
  rw [Nat.testBit_and]
  cases i with
  | zero => rw [Nat.testBit_zero, Nat.testBit_zero]; simp
  | succ i =>
    rw [Nat.testBit_succ, Nat.testBit_succ, show (2 * b + 1) / 2 = b by omega, show (2 * b) / 2 = b by omega, Bool.and_self]
theorem lo_and2 (b : Nat) (h : b ≠ 0) : (2 * b) &&& (2 * b - 1) = 2 * (b &&& (b - 1)) := by
  apply Nat.eq_of_testBit_eq
  intro i
  rw [Nat.testBit_and]
  cases i with
  | zero => rw [Nat.testBit_zero, Nat.testBit_zero, Nat.testBit_zero]; simp
  | succ i =>
    rw [Nat.testBit_succ, Nat.testBit_succ, Nat.testBit_succ, show (2 * b - 1) / 2 = b - 1 by omega, show (2 * b) / 2 = b by omega, show (2 * (b &&& (b - 1))) / 2 = b &&& (b - 1) by omega, Nat.testBit_and]
theorem lo_card : ∀ (k a : Nat), a < 2 ^ k → a ≠ 0 → cq_c (fun i => (a &&& (a - 1)).testBit i) k + 1 = cq_c (fun i => a.testBit i) k := by
  intro k
  induction k with
  | zero => intro a h h0; exact absurd h (by rw [Nat.pow_zero]; omega)
  | succ k ih =>
    intro a h h0
    rw [cq_front, cq_front]
    rcases Nat.mod_two_eq_zero_or_one a with e | e
    · obtain ⟨b, rfl⟩ : ∃ b, a = 2 * b := ⟨a / 2, by omega⟩
      have hb : b ≠ 0 := by intro z; rw [z] at h0; exact h0 rfl
      rw [lo_and2 b hb]
      have t1 : ∀ i, (2 * (b &&& (b - 1))).testBit (i + 1) = (b &&& (b - 1)).testBit i := fun i => by
        rw [Nat.testBit_succ, show (2 * (b &&& (b - 1))) / 2 = b &&& (b - 1) by omega]
      have t2 : ∀ i, (2 * b).testBit (i + 1) = b.testBit i := fun i => by
        rw [Nat.testBit_succ, show (2 * b) / 2 = b by omega]
      have t3 : (2 * (b &&& (b - 1))).testBit 0 = false := by rw [Nat.testBit_zero]; simp
      have t4 : (2 * b).testBit 0 = false := by rw [Nat.testBit_zero]; simp
      simp only [t1, t2, t3, t4]
      have := ih b (by rw [Nat.pow_succ] at h; omega) hb
      omega
    · obtain ⟨b, rfl⟩ : ∃ b, a = 2 * b + 1 := ⟨a / 2, by omega⟩
      rw [Nat.add_sub_cancel, lo_and1]
      have t1 : ∀ i, (2 * b).testBit (i + 1) = b.testBit i := fun i => by
        rw [Nat.testBit_succ, show (2 * b) / 2 = b by omega]
      have t2 : ∀ i, (2 * b + 1).testBit (i + 1) = b.testBit i := fun i => by
        rw [Nat.testBit_succ, show (2 * b + 1) / 2 = b by omega]
      have t3 : (2 * b).testBit 0 = false := by rw [Nat.testBit_zero]; simp
      have t4 : (2 * b + 1).testBit 0 = true := by rw [Nat.testBit_zero]; simp
      simp only [t1, t2, t3, t4]
      show 0 + _ + 1 = 1 + _
      omega
/-- ints by their bits -/
theorem lo_nat (m : Int32) : m = nI m.toBitVec.toNat := by
  apply Int32.toBitVec_inj.mp
  show m.toBitVec = BitVec.ofNat 32 m.toBitVec.toNat
  rw [BitVec.ofNat_toNat]
  exact (BitVec.setWidth_eq _).symm
theorem lo_lt {m : Int32} {k : Nat} (h : ∀ i, k ≤ i → bt m i = false) : m.toBitVec.toNat < 2 ^ k := by
  apply Nat.lt_pow_two_of_testBit
  intro i hi
  exact h i hi
theorem lo_bn {a : Nat} (h : a < 2 ^ 32) (i : Nat) : bt (nI a) i = a.testBit i := by
  show (nI a).toBitVec.toNat.testBit i = _
  rw [pk_tn h]
theorem lo_i32 {m : Int32} (h : ∀ i, 16 ≤ i → bt m i = false) (h0 : m ≠ 0) : cq_c (bt (m &&& (m - 1))) 16 + 1 = cq_c (bt m) 16 ∧ ∀ i, bt (m &&& (m - 1)) i = true → bt m i = true := by
  refine ⟨?_, ?_⟩
  · have hl := lo_lt h
    have e := lo_nat m
    generalize m.toBitVec.toNat = a at hl e
    subst e
    have ha : a ≠ 0 := by intro z; subst z; exact h0 rfl
    have e1 : nI a - 1 = nI (a - 1) := pk_sub (show 1 ≤ a by omega)
    rw [e1, nx_and]
    have hle : a &&& (a - 1) ≤ a := Nat.and_le_left
    have f1 : bt (nI (a &&& (a - 1))) = fun i => (a &&& (a - 1)).testBit i := by
      funext i; exact lo_bn (by omega) i
    have f2 : bt (nI a) = fun i => a.testBit i := by
      funext i; exact lo_bn (by omega) i
    rw [f1, f2]
    exact lo_card 16 a hl ha
  · intro i z
    rw [b_and, Bool.and_eq_true] at z
    exact z.1
/-- a mask for every set -/
theorem lo_enc (T : Nat → Bool) : ∀ n, ∃ a, a < 2 ^ n ∧ ∀ r, r < n → a.testBit r = T r := by
  intro n
  induction n with
  | zero => exact ⟨0, by omega, fun r hr => absurd hr (Nat.not_lt_zero r)⟩
  | succ n ih =>
    obtain ⟨a, h1, h2⟩ := ih
    have hn : a.testBit n = false := Nat.testBit_lt_two_pow h1
    cases e : T n
    · refine ⟨a, by rw [Nat.pow_succ]; omega, fun r hr => ?_⟩
      by_cases z : r = n
      · rw [z, hn, e]
      · exact h2 r (by omega)
    · refine ⟨2 ^ n + a, by rw [Nat.pow_succ]; omega, fun r hr => ?_⟩
      by_cases z : r = n
      · rw [z, Nat.testBit_two_pow_add_eq, hn, e]; rfl
      · rw [Nat.testBit_two_pow_add_gt (by omega)]
        exact h2 r (by omega)
/-- sets without conflict; what may be reached out of a set m with z chosen -/
def mi_D (C : Nat → Nat → Prop) (T : Nat → Bool) : Prop := ∀ x y, T x = true → T y = true → x ≠ y → ¬ C x y
def mi_v (C : Nat → Nat → Prop) (m : Nat → Bool) (z v : Nat) : Prop := ∃ T : Nat → Bool, (∀ x, T x = true → m x = true) ∧ mi_D C T ∧ v = z + cq_c T 16
def mi_V (C : Nat → Nat → Prop) (n v : Nat) : Prop := mi_v C (fun x => decide (x < n)) 0 v
theorem mi_z {C : Nat → Nat → Prop} {m : Nat → Bool} {z : Nat} : mi_v C m z z :=
  ⟨fun _ => false, (fun x h => by cases h), (fun x y h => by cases h), by rw [cq_0 (fun _ _ => rfl)]; rfl⟩
theorem mi_b {C : Nat → Nat → Prop} {m : Nat → Bool} {z v : Nat} (h : mi_v C m z v) : v ≤ z + cq_c m 16 := by
  obtain ⟨T, h1, _, rfl⟩ := h
  have := cq_mono (n := 16) h1
  omega
def mi_I (C : Nat → Nat → Prop) (n w b : Nat) (rt : Nat → Int32) (zs : Nat → Nat) : Prop :=
  (∀ i, i < w → (∀ x, bt (rt i) x = true → x < n) ∧ cq_c (bt (rt i)) 16 + i ≤ n ∧ zs i + cq_c (bt (rt i)) 16 ≤ n) ∧ b ≤ n ∧ mi_V C n b ∧
  (∀ i, i < w → ∀ v, mi_v C (bt (rt i)) (zs i) v → mi_V C n v) ∧ (∀ v, mi_V C n v → v ≤ b ∨ ∃ i, i < w ∧ ∃ v', mi_v C (bt (rt i)) (zs i) v' ∧ v ≤ v')
def mi_u (rt : Nat → Int32) : Nat → Nat
  | 0 => 0
  | w + 1 => mi_u rt w + 2 ^ cq_c (bt (rt w)) 16
theorem mi_uc {rt rt' : Nat → Int32} {w : Nat} (h : ∀ i, i < w → rt' i = rt i) : mi_u rt' w = mi_u rt w := by
  induction w with
  | zero => rfl
  | succ w ih =>
    show mi_u rt' w + _ = mi_u rt w + _
    rw [ih (fun i hi => h i (by omega)), h w (Nat.lt_succ_self w)]
/-- one set off the stack, others on -/
theorem mi_step {C : Nat → Nat → Prop} {n w w' b b1 : Nat} {rt rt' : Nat → Int32} {zs zs' : Nat → Nat} (I : mi_I C n (w + 1) b rt zs) (hb : b1 = if b < zs w then zs w else b) (hw : w ≤ w') (hr : ∀ i, i < w → rt' i = rt i ∧ zs' i = zs i)
    (hs : ∀ i, w ≤ i → i < w' → (∀ x, bt (rt' i) x = true → x < n) ∧ cq_c (bt (rt' i)) 16 + i ≤ n ∧ zs' i + cq_c (bt (rt' i)) 16 ≤ n)
    (hl : ∀ i, w ≤ i → i < w' → ∀ v, mi_v C (bt (rt' i)) (zs' i) v → mi_v C (bt (rt w)) (zs w) v)
    (hu : ∀ v, mi_v C (bt (rt w)) (zs w) v → v ≤ b1 ∨ ∃ i, w ≤ i ∧ i < w' ∧ ∃ v', mi_v C (bt (rt' i)) (zs' i) v' ∧ v ≤ v') : mi_I C n w' b1 rt' zs' := by
  obtain ⟨i1, i2, i3, i4, i5⟩ := I
  have hw1 := i1 w (Nat.lt_succ_self w)
  have bb : b ≤ b1 := by rw [hb]; split <;> omega
  refine ⟨?_, ?_, ?_, ?_, ?_⟩
  · intro i hi
    by_cases z : i < w
    · rw [(hr i z).1, (hr i z).2]; exact i1 i (by omega)
    · exact hs i (by omega) hi
  · rw [hb]; split
    · omega
    · exact i2
  · rw [hb]; split
    · exact i4 w (Nat.lt_succ_self w) _ mi_z
    · exact i3
  · intro i hi v hv
    by_cases z : i < w
    · rw [(hr i z).1, (hr i z).2] at hv; exact i4 i (by omega) v hv
    · exact i4 w (Nat.lt_succ_self w) v (hl i (by omega) hi v hv)
  · intro v hv
    rcases i5 v hv with h | ⟨i, hi, v', h1, h2⟩
    · exact Or.inl (by omega)
    · by_cases z : i < w
      · refine Or.inr ⟨i, by omega, v', ?_, h2⟩
        rw [(hr i z).1, (hr i z).2]; exact h1
      · have : i = w := by omega
        subst this
        rcases hu v' h1 with h | ⟨j, j1, j2, v'', j3, j4⟩
        · exact Or.inl (by omega)
        · exact Or.inr ⟨j, j2, v'', j3, by omega⟩
theorem mi_sub {C : Nat → Nat → Prop} {m m' : Nat → Bool} {z v : Nat} (h : ∀ x, m' x = true → m x = true) (hv : mi_v C m' z v) : mi_v C m z v := by
  obtain ⟨T, h1, h2, h3⟩ := hv
  exact ⟨T, fun x hx => h x (h1 x hx), h2, h3⟩
/-- with the first one: what is left without conflict -/
theorem mi_with {C : Nat → Nat → Prop} {m m' : Nat → Bool} {z v f : Nat} (hf : f < 16) (hm : m f = true) (h : ∀ x, m' x = true ↔ m x = true ∧ ¬ C f x) (hs : ∀ x y, m x = true → m y = true → C x y → C y x) (hr : C f f) (hv : mi_v C m' (z + 1) v) : mi_v C m z v := by
  obtain ⟨T, h1, h2, h3⟩ := hv
  have tf : T f = false := by
    apply Bool.eq_false_iff.mpr
    intro w
    exact ((h f).mp (h1 f w)).2 hr
  refine ⟨im_u T f true, ?_, ?_, ?_⟩
  · intro x hx
    by_cases e : x = f
    · rw [e]; exact hm
    · rw [im_un e] at hx; exact ((h x).mp (h1 x hx)).1
  · intro x y hx hy hne
    by_cases e : x = f
    · subst e
      rw [im_un (fun q => hne q.symm)] at hy
      exact ((h y).mp (h1 y hy)).2
    · rw [im_un e] at hx
      by_cases e2 : y = f
      · subst e2
        intro c
        have hx' := (h x).mp (h1 x hx)
        exact hx'.2 (hs x y hx'.1 hm c)
      · rw [im_un e2] at hy
        exact h2 x y hx hy hne
  · rw [cq_add hf tf, h3]; omega
/-- a choice is with the first one or without -/
theorem mi_split {C : Nat → Nat → Prop} {m m1 m2 : Nat → Bool} {z v f : Nat} (hf : f < 16) (h1 : ∀ x, m1 x = true ↔ m x = true ∧ x ≠ f) (h2 : ∀ x, m2 x = true ↔ m x = true ∧ ¬ C f x) (hv : mi_v C m z v) : mi_v C m1 z v ∨ mi_v C m2 (z + 1) v := by
  obtain ⟨T, t1, t2, t3⟩ := hv
  cases e : T f
  · refine Or.inl ⟨T, fun x hx => (h1 x).mpr ⟨t1 x hx, ?_⟩, t2, t3⟩
    intro w; rw [w, e] at hx; cases hx
  · refine Or.inr ⟨im_u T f false, ?_, ?_, ?_⟩
    · intro x hx
      have hne : x ≠ f := by intro w; rw [w, im_us] at hx; cases hx
      rw [im_un hne] at hx
      exact (h2 x).mpr ⟨t1 x hx, t2 f x e hx (fun w => hne w.symm)⟩
    · intro x y hx hy hne
      have n1 : x ≠ f := by intro w; rw [w, im_us] at hx; cases hx
      have n2 : y ≠ f := by intro w; rw [w, im_us] at hy; cases hy
      rw [im_un n1] at hx
      rw [im_un n2] at hy
      exact t2 x y hx hy hne
    · have := cq_rem hf e
      omega
end SETS
end
section
/-! largest -/
section LARGEST
variable {xjc xfd xrc xsr xoc xwg : Int32} {xjA xjB xcA xjt xhs xps xso xlo xrj xre xrs xnd xnp xcf xwe xwc xwt xto xlk xnc xhd xro xpg xrt xsz xrg : Nat → Int32}
variable {yjs yrs : Int32} {yon ytw ysg yps yfr yln yjt yen yst ywt yhl ylk yhd yun yed yrv ymt ynx : Nat → Int32}
variable {A B : Nat → Nat} {nj : Nat} {sg : Nat → Bool}
theorem cq_z {T : Nat → Bool} {n : Nat} (h : cq_c T n = 0) : ∀ x, x < n → T x = false := by
  intro x hx
  apply Bool.eq_false_iff.mpr
  intro z
  have : 0 < hs_S T (fun _ => true) n := hs_pos.mpr ⟨x, hx, z, rfl⟩
  unfold cq_c at h
  omega
theorem xg_ones {post : Int32 → Prop} {m : Int32} (hm : ∀ i, 16 ≤ i → bt m i = false) (hp : post (nI (cq_c (bt m) 16))) : wpX_onesIn post (xjc, xfd, xrc, xsr, xoc, xwg, xjA, xjB, xcA, xjt, xhs, xps, xso, xlo, xrj, xre, xrs, xnd, xnp, xcf, xwe, xwc, xwt, xto, xlk, xnc, xhd, xro, xpg, xrt, xsz, xrg) m := by
  have loop : ∀ (d c : Nat) (m' : Int32), cq_c (bt m') 16 = d → (∀ i, 16 ≤ i → bt m' i = false) → c + d = cq_c (bt m) 16 → wX_onesIn_4 post xjc xfd xrc xsr xoc xwg xjA xjB xcA xjt xhs xps xso xlo xrj xre xrs xnd xnp xcf xwe xwc xwt xto xlk xnc xhd xro xpg xrt xsz xrg (d + 1) (nI c) m' := by
    intro d
    induction d with
    | zero =>
      intro c m' h1 h2 h3
      have z : m' = 0 := ib_z.mpr (fun i _ => by
        by_cases l : i < 16
        · exact cq_z h1 i l
        · exact h2 i (by omega))
      have ec : c = cq_c (bt m) 16 := h3
      refine br_t z ?_
      rw [ec]; exact hp
    | succ d ih =>
      intro c m' h1 h2 h3
      have z : m' ≠ 0 := by
        intro w; rw [w, cq_0 (fun x _ => b_0 x)] at h1; omega
      obtain ⟨l1, l2⟩ := lo_i32 h2 z
      refine br_f z (nm_e (nm_r (nI_1 c) (ih (c + 1) _ (by omega) ?_ (by omega))))
      intro i hi
      apply Bool.eq_false_iff.mpr
      intro w
      have := l2 i w
      rw [h2 i hi] at this; cases this
  exact Exists.intro (cq_c (bt m) 16 + 1) (loop _ 0 m rfl hm (Nat.zero_add _))
theorem xg_low {post : Int32 → Prop} {m : Int32} {f : Nat} (hf : f < 16) (h1 : bt m f = true) (h2 : ∀ i, i < f → bt m i = false) (hp : post (nI f)) : wpX_lowestIn post (xjc, xfd, xrc, xsr, xoc, xwg, xjA, xjB, xcA, xjt, xhs, xps, xso, xlo, xrj, xre, xrs, xnd, xnp, xcf, xwe, xwc, xwt, xto, xlk, xnc, xhd, xro, xpg, xrt, xsz, xrg) m := by
  have loop : ∀ (d i : Nat), i + d = f → wX_lowestIn_2 post m xjc xfd xrc xsr xoc xwg xjA xjB xcA xjt xhs xps xso xlo xrj xre xrs xnd xnp xcf xwe xwc xwt xto xlk xnc xhd xro xpg xrt xsz xrg (d + 1) (nI i) := by
    intro d
    induction d with
    | zero =>
      intro i hi
      have hi' : i = f := hi
      subst hi'
      refine br_f ?_ hp
      rw [ib_get _ (by omega), h1]; decide
    | succ d ih =>
      intro i hi
      refine br_t ?_ (nm_r (nI_1 i) (ih (i + 1) (by omega)))
      rw [ib_get _ (by omega), h2 i (by omega)]; rfl
  exact Exists.intro (f + 1) (loop f 0 (Nat.zero_add f))
theorem xg_look {pu : SX → Prop} {m : Int32} {w z : Nat} (hw : w < 20) (hz : z < 128) (h : pu (xjc, xfd, xrc, xsr, xoc, nI (w + 1), xjA, xjB, xcA, xjt, xhs, xps, xso, xlo, xrj, xre, xrs, xnd, xnp, xcf, xwe, xwc, xwt, xto, xlk, xnc, xhd, xro, xpg, upd xrt w m, upd xsz w (nI z), xrg)) : wpX_look pu (xjc, xfd, xrc, xsr, xoc, nI w, xjA, xjB, xcA, xjt, xhs, xps, xso, xlo, xrj, xre, xrs, xnd, xnp, xcf, xwe, xwc, xwt, xto, xlk, xnc, xhd, xro, xpg, xrt, xsz, xrg) m (nI z) := by
  have vw : vp_in (nI w) 20 := vp_in_nI hw (by omega)
  have cw : (nI w).toNatClampNeg = w := nI_clamp (by omega)
  refine And.intro vw (nm_r (e' := upd xrt w m) (by rw [cw]) (And.intro vw ?_))
  exact nm_r (e' := upd xsz w (nI z)) (by rw [cw, im_by hz]) (nm_r (nI_1 w) h)
theorem xg_32 {post : Int32 → SX → Prop} {C : Nat → Nat → Prop} {n : Nat} (hn : n ≤ 16) (hcf : ∀ r, r < n → ∀ x, bt (xcf r) x = true ↔ x < n ∧ C r x) (hsym : ∀ x y, C x y → C y x) (hrefl : ∀ x, C x x)
    (h : ∀ (M : Nat) (wg : Int32) (rt sz : Nat → Int32), mi_V C n M → (∀ v, mi_V C n v → v ≤ M) → post (nI M) (xjc, xfd, xrc, xsr, xoc, wg, xjA, xjB, xcA, xjt, xhs, xps, xso, xlo, xrj, xre, xrs, xnd, xnp, xcf, xwe, xwc, xwt, xto, xlk, xnc, xhd, xro, xpg, rt, sz, xrg)) :
    ∀ (N w b : Nat) (rt sz : Nat → Int32) (zs : Nat → Nat), mi_I C n w b rt zs → (∀ i, i < w → sz i = nI (zs i)) → mi_u rt w < N → wX_largest_32 post N (nI b) xjc xfd xrc xsr xoc (nI w) xjA xjB xcA xjt xhs xps xso xlo xrj xre xrs xnd xnp xcf xwe xwc xwt xto xlk xnc xhd xro xpg rt sz xrg := by
  intro N
  induction N with
  | zero => intro w b rt sz zs _ _ hu; omega
  | succ N ih =>
    intro w b rt sz zs I hz hu
    cases w with
    | zero =>
      refine br_t (Int32.le_refl _) (h b _ rt sz I.2.2.1 ?_)
      intro v hv
      rcases I.2.2.2.2 v hv with q | ⟨i, hi, _⟩
      · exact q
      · exact absurd hi (Nat.not_lt_zero i)
    | succ w =>
      obtain ⟨w1, w2, w3⟩ := I.1 w (Nat.lt_succ_self w)
      have hbn := I.2.1
      have hzw := hz w (Nat.lt_succ_self w)
      have vw : vp_in (nI w) 20 := vp_in_nI (by omega) (by omega)
      have cw : (nI w).toNatClampNeg = w := nI_clamp (by omega)
      have hb16 : ∀ i, 16 ≤ i → bt (rt w) i = false := by
        intro i hi
        apply Bool.eq_false_iff.mpr
        intro z; have := w1 i z; omega
      have hmu : mi_u rt (w + 1) = mi_u rt w + 2 ^ cq_c (bt (rt w)) 16 := rfl
      have hpos := Nat.two_pow_pos (cq_c (bt (rt w)) 16)
      refine br_f (nI_nle (by omega) (by omega)) (nm_r (nI_pred w) (And.intro vw ?_))
      refine nm_r (e' := rt w) (by rw [cw]) (And.intro vw ?_)
      refine nm_r (e' := nI (zs w)) (by rw [cw, hzw]) ?_
      have key : ∀ b1, b1 = (if b < zs w then zs w else b) → wX_largest_76 post (wX_largest_32 post N) (nI b1) (rt w) (nI (zs w)) xjc xfd xrc xsr xoc (nI w) xjA xjB xcA xjt xhs xps xso xlo xrj xre xrs xnd xnp xcf xwe xwc xwt xto xlk xnc xhd xro xpg rt sz xrg := by
        intro b1 hb1
        have hb1z : zs w ≤ b1 := by rw [hb1]; split <;> omega
        have hb1n : b1 ≤ n := by rw [hb1]; split <;> omega
        have drop : zs w + cq_c (bt (rt w)) 16 ≤ b1 → wX_largest_32 post N (nI b1) xjc xfd xrc xsr xoc (nI w) xjA xjB xcA xjt xhs xps xso xlo xrj xre xrs xnd xnp xcf xwe xwc xwt xto xlk xnc xhd xro xpg rt sz xrg := by
          intro hd
          refine ih w b1 rt sz zs (mi_step I hb1 (Nat.le_refl _) (fun i _ => ⟨rfl, rfl⟩) (fun i h1 h2 => by omega) (fun i h1 h2 => by omega) ?_) (fun i hi => hz i (by omega)) (by omega)
          intro v hv
          have := mi_b hv
          exact Or.inl (by omega)
        refine br_c ?_ ?_
        · intro z
          refine drop ?_
          have : cq_c (bt (rt w)) 16 = 0 := by rw [z]; exact cq_0 (fun x _ => b_0 x)
          omega
        · intro z
          refine xg_ones hb16 ?_
          rw [nI_add]
          refine pk_lt b1 (zs w + cq_c (bt (rt w)) 16) ?_ (fun q => drop q)
          intro hbig
          obtain ⟨f, hf, hf1, hf2⟩ : ∃ f, f < 16 ∧ bt (rt w) f = true ∧ ∀ i, i < f → bt (rt w) i = false := by
            rcases lq_least (fun i => bt (rt w) i = true) 16 with q | ⟨f, q1, q2, q3⟩
            · exfalso
              apply z
              refine ib_z.mpr (fun i _ => ?_)
              by_cases l : i < 16
              · exact Bool.eq_false_iff.mpr (q i l)
              · exact hb16 i (by omega)
            · exact ⟨f, q1, q2, fun i hi => Bool.eq_false_iff.mpr (q3 i hi)⟩
          have hfn := w1 f hf1
          have vf : vp_in (nI f) 16 := vp_in_nI hf (by omega)
          have cf : (nI f).toNatClampNeg = f := nI_clamp (by omega)
          refine xg_low hf hf1 hf2 ?_
          -- without and with the first one
          have e1 : ∀ x, bt (rt w &&& (((1 : Int32) <<< (nI f &&& 31)) ^^^ (-1))) x = true ↔ bt (rt w) x = true ∧ x ≠ f := by
            intro x
            rw [ib_clr _ (by omega), Bool.and_eq_true]
            constructor
            · rintro ⟨q1, q2⟩
              refine ⟨q1, fun e => ?_⟩
              rw [decide_eq_true e] at q2; cases q2
            · rintro ⟨q1, q2⟩
              refine ⟨q1, ?_⟩
              rw [decide_eq_false q2]; rfl
          have e2 : ∀ x, bt (rt w &&& (xcf f ^^^ (-1))) x = true ↔ bt (rt w) x = true ∧ ¬ C f x := by
            intro x
            rw [b_and, Bool.and_eq_true]
            constructor
            · rintro ⟨q1, q2⟩
              refine ⟨q1, fun e => ?_⟩
              have hx := w1 x q1
              rw [ib_not _ (by omega), (hcf f hfn x).mpr ⟨hx, e⟩] at q2; cases q2
            · rintro ⟨q1, q2⟩
              refine ⟨q1, ?_⟩
              have hx := w1 x q1
              rw [ib_not _ (by omega)]
              have : bt (xcf f) x = false := by
                apply Bool.eq_false_iff.mpr
                intro e
                exact q2 ((hcf f hfn x).mp e).2
              rw [this]; rfl
          generalize em1 : rt w &&& (((1 : Int32) <<< (nI f &&& 31)) ^^^ (-1)) = m1 at e1
          generalize em2 : rt w &&& (xcf f ^^^ (-1)) = m2 at e2
          have c1 : cq_c (bt m1) 16 + 1 ≤ cq_c (bt (rt w)) 16 := by
            refine cq_lt hf (fun x hx => ((e1 x).mp hx).1) ?_ hf1
            apply Bool.eq_false_iff.mpr
            intro q; exact ((e1 f).mp q).2 rfl
          have c2 : cq_c (bt m2) 16 + 1 ≤ cq_c (bt (rt w)) 16 := by
            refine cq_lt hf (fun x hx => ((e2 x).mp hx).1) ?_ hf1
            apply Bool.eq_false_iff.mpr
            intro q; exact ((e2 f).mp q).2 (hrefl f)
          refine nm_e (And.intro vf ?_)
          rw [cf]
          refine br_c ?_ ?_
          · -- no conflict among the others
            intro hz0
            have nc : ∀ x, bt m1 x = true → ¬ C f x := by
              intro x hx hc
              have hxn := w1 x ((e1 x).mp hx).1
              have := ib_and0.mp hz0 x (by omega)
              rw [hx, (hcf f hfn x).mpr ⟨hxn, hc⟩] at this; cases this
            refine And.intro vf ?_
            rw [cf, em2, nI_1]
            refine xg_look (by omega) (by omega) ?_
            refine ih (w + 1) b1 (upd rt w m2) (upd sz w (nI (zs w + 1))) (im_u zs w (zs w + 1)) (mi_step I hb1 (by omega) (fun i hi => ⟨pk_un (by omega), im_un (by omega)⟩) ?_ ?_ ?_) ?_ ?_
            · intro i q1 q2
              have : i = w := by omega
              subst this
              rw [pk_us, im_us]
              exact ⟨fun x hx => w1 x ((e2 x).mp hx).1, by omega, by omega⟩
            · intro i q1 q2 v hv
              have : i = w := by omega
              subst this
              rw [pk_us, im_us] at hv
              exact mi_with hf hf1 e2 (fun x y _ _ => hsym x y) (hrefl f) hv
            · intro v hv
              refine Or.inr ⟨w, Nat.le_refl _, Nat.lt_succ_self w, ?_⟩
              rw [pk_us, im_us]
              rcases mi_split hf e1 e2 hv with q | q
              · obtain ⟨T, t1, t2, t3⟩ := q
                exact ⟨v + 1, ⟨T, fun x hx => (e2 x).mpr ⟨((e1 x).mp (t1 x hx)).1, nc x (t1 x hx)⟩, t2, by omega⟩, by omega⟩
              · exact ⟨v, q, Nat.le_refl _⟩
            · intro i hi
              by_cases q : i = w
              · subst q; rw [pk_us, im_us]
              · rw [pk_un q, im_un q]; exact hz i (by omega)
            · have u1 : mi_u (upd rt w m2) (w + 1) = mi_u rt w + 2 ^ cq_c (bt m2) 16 := by
                show mi_u (upd rt w m2) w + 2 ^ cq_c (bt (upd rt w m2 w)) 16 = _
                rw [mi_uc (rt := rt) (fun i hi => pk_un (by omega)), pk_us]
              have u2 : 2 ^ cq_c (bt m2) 16 < 2 ^ cq_c (bt (rt w)) 16 := Nat.pow_lt_pow_right (by omega) (by omega)
              omega
          · -- both
            intro hz0
            obtain ⟨x, hx1, hx2⟩ : ∃ x, bt m1 x = true ∧ C f x := by
              apply Classical.byContradiction
              intro no
              apply hz0
              refine ib_and0.mpr (fun i hi => ?_)
              apply Bool.eq_false_iff.mpr
              intro q
              rw [Bool.and_eq_true] at q
              exact no ⟨i, q.1, ((hcf f hfn i).mp q.2).2⟩
            have hxn := w1 x ((e1 x).mp hx1).1
            have c3 : cq_c (bt m2) 16 + 1 ≤ cq_c (bt m1) 16 := by
              refine cq_lt (f := x) (by omega) ?_ ?_ hx1
              · intro y hy
                obtain ⟨y1, y2⟩ := (e2 y).mp hy
                refine (e1 y).mpr ⟨y1, fun e => ?_⟩
                rw [e] at y2; exact y2 (hrefl f)
              · apply Bool.eq_false_iff.mpr
                intro q; exact ((e2 x).mp q).2 hx2
            refine xg_look (by omega) (by omega) ?_
            refine And.intro vf ?_
            rw [cf, em2, nI_1]
            refine xg_look (by omega) (by omega) ?_
            have r1 : upd (upd rt w m1) (w + 1) m2 w = m1 := by rw [pk_un (by omega), pk_us]
            have z1 : im_u zs (w + 1) (zs w + 1) w = zs w := im_un (by omega)
            refine ih (w + 2) b1 (upd (upd rt w m1) (w + 1) m2) (upd (upd sz w (nI (zs w))) (w + 1) (nI (zs w + 1))) (im_u zs (w + 1) (zs w + 1)) (mi_step I hb1 (by omega) (fun i hi => ⟨?_, im_un (by omega)⟩) ?_ ?_ ?_) ?_ ?_
            · rw [pk_un (by omega), pk_un (by omega)]
            · intro i q1 q2
              by_cases q : i = w
              · subst q
                rw [r1, z1]
                exact ⟨fun x hx => w1 x ((e1 x).mp hx).1, by omega, by omega⟩
              · have : i = w + 1 := by omega
                subst this
                rw [pk_us, im_us]
                exact ⟨fun x hx => w1 x ((e2 x).mp hx).1, by omega, by omega⟩
            · intro i q1 q2 v hv
              by_cases q : i = w
              · subst q
                rw [r1, z1] at hv
                exact mi_sub (fun x hx => ((e1 x).mp hx).1) hv
              · have : i = w + 1 := by omega
                subst this
                rw [pk_us, im_us] at hv
                exact mi_with hf hf1 e2 (fun x y _ _ => hsym x y) (hrefl f) hv
            · intro v hv
              rcases mi_split hf e1 e2 hv with q | q
              · refine Or.inr ⟨w, Nat.le_refl _, by omega, v, ?_, Nat.le_refl _⟩
                rw [r1, z1]; exact q
              · refine Or.inr ⟨w + 1, by omega, by omega, v, ?_, Nat.le_refl _⟩
                rw [pk_us, im_us]; exact q
            · intro i hi
              by_cases q : i = w + 1
              · subst q; rw [pk_us, im_us]
              · rw [pk_un q, im_un q]
                by_cases q2 : i = w
                · subst q2; rw [pk_us]
                · rw [pk_un q2]; exact hz i (by omega)
            · have u1 : mi_u (upd (upd rt w m1) (w + 1) m2) (w + 2) = mi_u rt w + 2 ^ cq_c (bt m1) 16 + 2 ^ cq_c (bt m2) 16 := by
                show mi_u (upd (upd rt w m1) (w + 1) m2) w + 2 ^ cq_c (bt (upd (upd rt w m1) (w + 1) m2 w)) 16 + 2 ^ cq_c (bt (upd (upd rt w m1) (w + 1) m2 (w + 1))) 16 = _
                rw [mi_uc (rt := rt) (fun i hi => by rw [pk_un (by omega), pk_un (by omega)]), r1, pk_us]
              have u2 : 2 ^ cq_c (bt m2) 16 < 2 ^ cq_c (bt m1) 16 := Nat.pow_lt_pow_right (by omega) (by omega)
              have u3 : 2 ^ (cq_c (bt m1) 16 + 1) ≤ 2 ^ cq_c (bt (rt w)) 16 := Nat.pow_le_pow_right (by omega) c1
              rw [Nat.pow_succ] at u3
              omega
      refine pk_le (zs w) b ?_ ?_
      · intro q
        exact key b (by rw [if_neg (by omega)])
      · intro q
        exact key (zs w) (by rw [if_pos q])
theorem xg_full : ∀ n, n < 17 → ∀ x, x < 32 → bt (((1 : Int32) <<< (nI n &&& 31)) - 1) x = decide (x < n) := by decide +kernel
theorem xg_all {n : Nat} (hn : n ≤ 16) : bt (((1 : Int32) <<< (nI n &&& 31)) - 1) = fun x => decide (x < n) := by
  funext x
  by_cases h : x < 32
  · exact xg_full n (by omega) x h
  · rw [b_big (by omega), decide_eq_false (by omega)]
/-! the reference -/
theorem yg_against {post : Int32 → Prop} {r : Nat} (S : sk_St A B nj xjt) (Y : rp_Y (gr_L A B nj sg) (nI (gr_L A B nj sg).length) yfr yln yjt yen) (hr : r < (gr_L A B nj sg).length) (h : ∀ m, (∀ x, bt m x = true ↔ x < (gr_L A B nj sg).length ∧ x ≠ r ∧ (cy_P A B nj (gr_L A B nj sg) r x ∨ r = x)) → post m) : wpY_against post (nI nj, nI (gr_L A B nj sg).length, im_n A, im_n B, ysg, yps, yfr, yln, yjt, yen, yst, ywt, yhl, ylk, yhd, yun, yed, yrv, ymt, ynx) (nI r) := by
  have hl16 := @rv_len A B nj sg
  have loop : ∀ (d q : Nat) (m : Int32), q + d = (gr_L A B nj sg).length → (∀ x, bt m x = true ↔ x < q ∧ x ≠ r ∧ (cy_P A B nj (gr_L A B nj sg) r x ∨ r = x)) → wY_against_4 post (nI r) (nI nj) (nI (gr_L A B nj sg).length) (im_n A) (im_n B) ysg yps yfr yln yjt yen yst ywt yhl ylk yhd yun yed yrv ymt ynx (d + 1) m (nI q) := by
    intro d
    induction d with
    | zero =>
      intro q m hq hm
      have hq' : q = (gr_L A B nj sg).length := hq
      rw [hq'] at hm ⊢
      exact br_t (Int32.le_refl _) (h m hm)
    | succ d ih =>
      intro q m hq hm
      have hql : q < (gr_L A B nj sg).length := by omega
      refine br_f (nI_ge hql (by omega)) ?_
      have keep : ¬ (q ≠ r ∧ (cy_P A B nj (gr_L A B nj sg) r q ∨ r = q)) → ∀ x, bt m x = true ↔ x < q + 1 ∧ x ≠ r ∧ (cy_P A B nj (gr_L A B nj sg) r x ∨ r = x) := by
        intro no x
        rw [hm x]
        constructor
        · rintro ⟨a, b⟩; exact ⟨by omega, b⟩
        · rintro ⟨a, b⟩
          refine ⟨?_, b⟩
          by_cases e : x = q
          · subst e; exact absurd b no
          · omega
      refine pk_eq q r ?_ ?_
      · intro e
        exact nm_r (nI_1 q) (ih (q + 1) m (by omega) (keep (fun z => z.1 e)))
      · intro e
        refine yc_conf S Y hr hql ?_ ?_
        · intro z
          exact br_t rfl (nm_r (nI_1 q) (ih (q + 1) m (by omega) (keep (fun w => z w.2))))
        · intro z
          refine br_f (by decide) (nm_e (nm_r (nI_1 q) (ih (q + 1) _ (by omega) ?_)))
          intro x
          rw [ib_set _ (by omega), Bool.or_eq_true, decide_eq_true_iff, hm x]
          constructor
          · rintro (⟨a, b⟩ | a)
            · exact ⟨by omega, b⟩
            · subst a; exact ⟨by omega, e, z⟩
          · rintro ⟨a, b⟩
            by_cases w : x = q
            · exact Or.inr w
            · exact Or.inl ⟨by omega, b⟩
  refine Exists.intro ((gr_L A B nj sg).length + 1) (loop (gr_L A B nj sg).length 0 0 (Nat.zero_add _) ?_)
  intro x
  rw [b_0]
  exact ⟨(fun z => by cases z), fun z => absurd z.1 (Nat.not_lt_zero x)⟩
theorem yg_neg : ∀ j, j < 18 → nI j + (-100) < 0 := by decide +kernel
theorem yg_46 {post : Int32 → SY → Prop} {J : Int32 → Int32 → Prop} {n a b : Nat} (hn : n ≤ 16) (ha : a < 2 ^ n) (hb : b ≤ 16)
    (h1 : (∀ q, q < n → a.testBit q = true → yrv q &&& nI a = 0) → b < cq_c (fun i => a.testBit i) n → J (nI (cq_c (fun i => a.testBit i) n)) (nI (a + 1)))
    (h2 : ¬ ((∀ q, q < n → a.testBit q = true → yrv q &&& nI a = 0) ∧ b < cq_c (fun i => a.testBit i) n) → J (nI b) (nI (a + 1))) :
    ∀ (d r : Nat) (c : Int32), r + d = n → (((∀ q, q < r → a.testBit q = true → yrv q &&& nI a = 0) ∧ c = nI (cq_c (fun i => a.testBit i) r)) ∨ ((¬ ∀ q, q < r → a.testBit q = true → yrv q &&& nI a = 0) ∧ ∃ j, j ≤ r ∧ c = nI j + (-100))) →
    wY_largest_46 post J (nI b) (nI a) yjs (nI n) yon ytw ysg yps yfr yln yjt yen yst ywt yhl ylk yhd yun yed yrv ymt ynx (d + 1) c (nI r) := by
  have hp : 2 ^ n ≤ 2 ^ 16 := Nat.pow_le_pow_right (by omega) hn
  intro d
  induction d with
  | zero =>
    intro r c hr hc
    have hr' : r = n := hr
    subst hr'
    have cl := cq_le (T := fun i => a.testBit i) (n := r)
    refine br_t (Int32.le_refl _) ?_
    rcases hc with ⟨g1, g2⟩ | ⟨g1, j, hj, g2⟩
    · rw [g2]
      refine pk_le (cq_c (fun i => a.testBit i) r) b ?_ ?_
      · intro z; exact nm_r (nI_1 a) (h2 (fun w => by have := w.2; omega))
      · intro z; exact nm_r (nI_1 a) (h1 g1 z)
    · rw [g2]
      refine br_t ?_ (nm_r (nI_1 a) (h2 (fun w => g1 w.1)))
      exact Int32.le_trans (Int32.le_of_lt (yg_neg j (by omega))) (nI_pos' (by omega))
  | succ d ih =>
    intro r c hr hc
    have hrn : r < n := by omega
    have cr : (nI r).toNatClampNeg = r := nI_clamp (by omega)
    have cl := cq_le (T := fun i => a.testBit i) (n := r)
    have hcs : cq_c (fun i => a.testBit i) (r + 1) = cq_c (fun i => a.testBit i) r + (a.testBit r).toNat := cq_s
    refine br_f (nI_ge hrn (by omega)) ?_
    rw [ib_get _ (by omega), lo_bn (by omega)]
    refine im_bc1 ?_ ?_
    · intro z
      refine nm_r (nI_1 r) (ih (r + 1) c (by omega) ?_)
      have same : (∀ q, q < r + 1 → a.testBit q = true → yrv q &&& nI a = 0) ↔ ∀ q, q < r → a.testBit q = true → yrv q &&& nI a = 0 := by
        constructor
        · intro w q hq; exact w q (by omega)
        · intro w q hq t
          by_cases e : q = r
          · subst e; rw [z] at t; cases t
          · exact w q (by omega) t
      rw [same, hcs, z]
      rcases hc with g | ⟨g1, j, hj, g2⟩
      · exact Or.inl g
      · exact Or.inr ⟨g1, j, by omega, g2⟩
    · intro z
      refine And.intro (vp_in_nI (by omega) (by omega)) ?_
      rw [cr]
      refine br_c ?_ ?_
      · intro ok
        have same : (∀ q, q < r + 1 → a.testBit q = true → yrv q &&& nI a = 0) ↔ ∀ q, q < r → a.testBit q = true → yrv q &&& nI a = 0 := by
          constructor
          · intro w q hq; exact w q (by omega)
          · intro w q hq t
            by_cases e : q = r
            · subst e; exact ok
            · exact w q (by omega) t
        refine nm_e (nm_r (nI_1 r) (ih (r + 1) (c + 1) (by omega) ?_))
        rw [same, hcs, z]
        rcases hc with ⟨g1, g2⟩ | ⟨g1, j, hj, g2⟩
        · refine Or.inl ⟨g1, ?_⟩
          rw [g2, nI_1]; rfl
        · refine Or.inr ⟨g1, j + 1, by omega, ?_⟩
          rw [g2, ← nI_1, Int32.add_assoc, Int32.add_assoc, Int32.add_comm (-100) 1]
      · intro nok
        refine nm_r (nI_1 r) (ih (r + 1) (-100) (by omega) (Or.inr ⟨?_, 0, by omega, rfl⟩))
        intro w
        exact nok (w r (by omega) z)
theorem yg_pow : ∀ n, n < 17 → (1 : Int32) <<< (nI n &&& 31) = nI (2 ^ n) := by decide +kernel
theorem yg_31 {post : Int32 → SY → Prop} {C : Nat → Nat → Prop} {n : Nat} (hn : n ≤ 16) (hrv : ∀ r, r < n → ∀ x, bt (yrv r) x = true ↔ x < n ∧ x ≠ r ∧ C r x)
    (h : ∀ M : Nat, mi_V C n M → (∀ v, mi_V C n v → v ≤ M) → post (nI M) (yjs, nI n, yon, ytw, ysg, yps, yfr, yln, yjt, yen, yst, ywt, yhl, ylk, yhd, yun, yed, yrv, ymt, ynx)) :
    ∀ (d a b : Nat), a + d = 2 ^ n → mi_V C n b → (∀ a', a' < a → mi_D C (fun i => a'.testBit i) → cq_c (fun i => a'.testBit i) 16 ≤ b) → wY_largest_31 post yjs (nI n) yon ytw ysg yps yfr yln yjt yen yst ywt yhl ylk yhd yun yed yrv ymt ynx (d + 1) (nI b) (nI a) := by
  have hp : 2 ^ n ≤ 2 ^ 16 := Nat.pow_le_pow_right (by omega) hn
  have hbit : ∀ a, a < 2 ^ n → ∀ x, a.testBit x = true → x < n := by
    intro a ha x hx
    rcases Nat.lt_or_ge x n with l | l
    · exact l
    · rw [Nat.testBit_lt_two_pow (Nat.lt_of_lt_of_le ha (Nat.pow_le_pow_right (by omega) l))] at hx; cases hx
  intro d
  induction d with
  | zero =>
    intro a b ha hV hmax
    have ha' : a = 2 ^ n := ha
    subst ha'
    refine br_t (by rw [yg_pow n (by omega)]; exact Int32.le_refl _) (h b hV ?_)
    rintro v ⟨T, t1, t2, t3⟩
    obtain ⟨a', e1, e2⟩ := lo_enc T n
    have eT : (fun i => a'.testBit i) = T := by
      funext i
      by_cases l : i < n
      · exact e2 i l
      · have f1 : a'.testBit i = false := by
          apply Bool.eq_false_iff.mpr
          intro z; exact l (hbit a' e1 i z)
        have f2 : T i = false := by
          apply Bool.eq_false_iff.mpr
          intro z; exact l (of_decide_eq_true (t1 i z))
        rw [f1, f2]
    have := hmax a' e1 (by rw [eT]; exact t2)
    rw [eT] at this
    omega
  | succ d ih =>
    intro a b ha hV hmax
    have han : a < 2 ^ n := by omega
    have hb16 : b ≤ 16 := by
      obtain ⟨T, _, _, t3⟩ := hV
      have := cq_le (T := T) (n := 16)
      omega
    have hok : (∀ q, q < n → a.testBit q = true → yrv q &&& nI a = 0) ↔ mi_D C (fun i => a.testBit i) := by
      constructor
      · intro w x y hx hy hne hc
        have hxn := hbit a han x hx
        have hyn := hbit a han y hy
        have := ib_and0.mp (w x hxn hx) y (by omega)
        rw [(hrv x hxn y).mpr ⟨hyn, fun e => hne e.symm, hc⟩, lo_bn (by omega)] at this
        have hy' : a.testBit y = true := hy
        rw [hy'] at this; cases this
      · intro w q hq hqa
        refine ib_and0.mpr (fun i hi => ?_)
        apply Bool.eq_false_iff.mpr
        intro z
        rw [Bool.and_eq_true, lo_bn (by omega)] at z
        obtain ⟨z1, z2, z3⟩ := (hrv q hq i).mp z.1
        exact w q i hqa z.2 (fun e => z2 e.symm) z3
    have hcq : cq_c (fun i => a.testBit i) 16 = cq_c (fun i => a.testBit i) n := cq_up hn (hbit a han)
    refine br_f (by rw [yg_pow n (by omega)]; exact nI_ge han (by omega)) ?_
    refine Exists.intro (n + 1) ?_
    refine yg_46 hn han hb16 ?_ ?_ n 0 0 (Nat.zero_add n) (Or.inl ⟨fun q hq => absurd hq (Nat.not_lt_zero q), rfl⟩)
    · intro ok hbig
      refine ih (a + 1) _ (by omega) ?_ ?_
      · refine ⟨fun i => a.testBit i, fun x hx => decide_eq_true (hbit a han x hx), hok.mp ok, ?_⟩
        rw [hcq]; omega
      · intro a' ha' hD
        by_cases e : a' = a
        · subst e; rw [hcq]; exact Nat.le_refl _
        · have := hmax a' (by omega) hD
          omega
    · intro no
      refine ih (a + 1) b (by omega) hV ?_
      intro a' ha' hD
      by_cases e : a' = a
      · subst e
        rw [hcq]
        apply Classical.byContradiction
        intro z
        exact no ⟨hok.mpr hD, by omega⟩
      · exact hmax a' (by omega) hD
theorem yg_4 {post : Int32 → SY → Prop} {C : Nat → Nat → Prop} (S : sk_St A B nj xjt) (Y : rp_Y (gr_L A B nj sg) (nI (gr_L A B nj sg).length) yfr yln yjt yen) (hC : ∀ r q, r < (gr_L A B nj sg).length → q < (gr_L A B nj sg).length → (C r q ↔ cy_P A B nj (gr_L A B nj sg) r q ∨ r = q))
    (h : ∀ (M : Nat) (rv : Nat → Int32), mi_V C (gr_L A B nj sg).length M → (∀ v, mi_V C (gr_L A B nj sg).length v → v ≤ M) → post (nI M) (nI nj, nI (gr_L A B nj sg).length, im_n A, im_n B, ysg, yps, yfr, yln, yjt, yen, yst, ywt, yhl, ylk, yhd, yun, yed, rv, ymt, ynx)) :
    ∀ (d r : Nat) (rv : Nat → Int32), r + d = (gr_L A B nj sg).length → (∀ q, q < r → ∀ x, bt (rv q) x = true ↔ x < (gr_L A B nj sg).length ∧ x ≠ q ∧ C q x) → wY_largest_4 post 0 (nI nj) (nI (gr_L A B nj sg).length) (d + 1) (nI r) (im_n A) (im_n B) ysg yps yfr yln yjt yen yst ywt yhl ylk yhd yun yed rv ymt ynx := by
  have hl16 := @rv_len A B nj sg
  intro d
  induction d with
  | zero =>
    intro r rv hr hrv
    have hr' : r = (gr_L A B nj sg).length := hr
    rw [hr'] at hrv ⊢
    refine br_t (Int32.le_refl _) (Exists.intro (2 ^ (gr_L A B nj sg).length + 1) ?_)
    refine yg_31 (C := C) hl16 hrv (fun M m1 m2 => h M rv m1 m2) (2 ^ (gr_L A B nj sg).length) 0 0 (Nat.zero_add _) mi_z ?_
    intro a' ha'
    exact absurd ha' (Nat.not_lt_zero a')
  | succ d ih =>
    intro r rv hr hrv
    have hrl : r < (gr_L A B nj sg).length := by omega
    refine br_f (nI_ge hrl (by omega)) ?_
    refine yg_against S Y hrl ?_
    intro m hm
    refine And.intro (vp_in_nI (by omega) (by omega)) ?_
    refine nm_r (e' := upd rv r m) (by rw [nI_clamp (by omega)]) (nm_r (nI_1 r) (ih (r + 1) _ (by omega) ?_))
    intro q hq x
    by_cases e : q = r
    · subst e
      rw [pk_us, hm x]
      constructor
      · rintro ⟨z1, z2, z3⟩; exact ⟨z1, z2, (hC q x hrl z1).mpr z3⟩
      · rintro ⟨z1, z2, z3⟩; exact ⟨z1, z2, (hC q x hrl z1).mp z3⟩
    · rw [pk_un e]; exact hrv q (by omega) x
theorem xc_sym {rs nd np : Nat → Int32} {r q : Nat} (h : xc_B rs nd np r q) : xc_B rs nd np q r := by
  unfold xc_B at h ⊢
  rw [Int32.and_comm (rs q), Int32.xor_comm (np q), Int32.and_comm (nd q)]
  rcases h with h | h | h
  · exact Or.inl h.symm
  · exact Or.inr (Or.inl h)
  · exact Or.inr (Or.inr h)
theorem i_vc_largest {k : Nat} {u : SX} {v : SY} (I : i_Rel k u v) (hk : k + 3 ≤ 1536) : wpX_largest (fun r u' => wpY_largest (fun r' v' => r' = r ∧ i_Rel (k + 3) u' v') v) u := by
  refine zz_el (P := fun u v => wpX_largest (fun r u' => wpY_largest (fun r' v' => r' = r ∧ i_Rel (k + 3) u' v') v) u) ?_ I
  intro nj A B sg fd g xrc xwg xjt xso xlo xrj xre xrs xnd xnp xcf xwe xwc xrt xsz xrg yrs yfr yln yjt yen yrv ymt ynx h1 h2 h3 h4
  have hl16 := @rv_len A B nj sg
  have ey : yrs = nI (gr_L A B nj sg).length := h2.1
  subst ey
  unfold wpX_largest
  refine xr_find h1 h3 ?_
  intro we wc rc so lo rj re rs nd np cf R
  have ex : rc = nI (gr_L A B nj sg).length := R.1.1
  subst ex
  refine nm_e (nm_r (e' := upd xsz 0 (nI 0)) (by rw [im_by0]) ?_)
  have hall := xg_all hl16
  have hfull : cq_c (fun x => decide (x < (gr_L A B nj sg).length)) 16 = (gr_L A B nj sg).length := cq_full hl16
  have I0 : mi_I (xc_B rs nd np) (gr_L A B nj sg).length 1 0 (upd xrt 0 (((1 : Int32) <<< (nI (gr_L A B nj sg).length &&& 31)) - 1)) (fun _ => 0) := by
    refine ⟨?_, Nat.zero_le _, mi_z, ?_, ?_⟩
    · intro i hi
      have : i = 0 := by omega
      subst this
      rw [pk_us, hall, hfull]
      exact ⟨fun x hx => of_decide_eq_true hx, by omega, by show 0 + (gr_L A B nj sg).length ≤ (gr_L A B nj sg).length; omega⟩
    · intro i hi v hv
      have : i = 0 := by omega
      subst this
      rw [pk_us, hall] at hv
      exact hv
    · intro v hv
      refine Or.inr ⟨0, by omega, v, ?_, Nat.le_refl _⟩
      rw [pk_us, hall]
      exact hv
  refine Exists.intro (mi_u (upd xrt 0 (((1 : Int32) <<< (nI (gr_L A B nj sg).length &&& 31)) - 1)) 1 + 1) ?_
  refine xg_32 (C := xc_B rs nd np) (n := (gr_L A B nj sg).length) hl16 R.2 (fun x y => xc_sym) (fun x => Or.inl rfl) ?_ _ 1 0 _ _ (fun _ => 0) I0 ?_ (Nat.lt_succ_self _)
  · intro M wg rt sz m1 m2
    refine Exists.intro ((gr_L A B nj sg).length + 1) ?_
    refine yg_4 (C := xc_B rs nd np) h1 h2 (fun r q hr hq => cy_eq h1 R hr hq) ?_ (gr_L A B nj sg).length 0 yrv (Nat.zero_add _) (fun q hq => absurd hq (Nat.not_lt_zero q))
    intro M' rv n1 n2
    have e1 := m2 M' n1
    have e2 := n2 M m1
    have : M' = M := by omega
    subst this
    exact ⟨rfl, zz_in h1 h2 (fun _ => R) h4⟩
  · intro i hi
    have : i = 0 := by omega
    subst this
    rw [pk_us]
end LARGEST
end
