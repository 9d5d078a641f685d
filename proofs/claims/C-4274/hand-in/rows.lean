section
/-! pure rows to paste: stores, nI and lN arithmetic, masks, shifts, narrowing, branches by naturals (pk_le, pk_lt, pk_eq), loops (lp1 .. lp16: the measure of the state; rp1 ..: recursion), negatives. Take what you need -/
theorem pk_us {f : Nat → Int32} {k : Nat} {x : Int32} : upd f k x k = x := if_pos rfl
theorem pk_un {f : Nat → Int32} {k j : Nat} {x : Int32} (h : j ≠ k) : upd f k x j = f j := if_neg h
theorem pk_uLs {f : Nat → Int64} {k : Nat} {x : Int64} : vp_updL f k x k = x := if_pos rfl
theorem pk_uLn {f : Nat → Int64} {k j : Nat} {x : Int64} (h : j ≠ k) : vp_updL f k x j = f j := if_neg h
theorem pk_sub {a b : Nat} (h : b ≤ a) : nI a - nI b = nI (a - b) := by
  obtain ⟨c, rfl⟩ : ∃ c, a = c + b := ⟨a - b, by omega⟩
  rw [← nI_add, Int32.add_sub_cancel, Nat.add_sub_cancel]
theorem pk_m1 (n : Nat) : nI (n + 1) + (-1) = nI n := by
  rw [← nI_1, Int32.add_assoc, show (1 : Int32) + (-1) = 0 from rfl, Int32.add_zero]
theorem pk_mul (a b : Nat) : nI a * nI b = nI (a * b) := (Int32.ofNat_mul a b).symm
theorem pk_div {a d : Nat} (ha : a < 2 ^ 31) (h0 : 0 < d) (hd : d < 2 ^ 31) : nI a / nI d = nI (a / d) := by
  apply Int32.toInt_inj.mp
  rw [lg_idiv_nonneg (by rw [nI_toInt ha]; omega) (by rw [nI_toInt hd]; omega), nI_toInt ha, nI_toInt hd, nI_toInt (Nat.lt_of_le_of_lt (Nat.div_le_self a d) ha)]
  first | rfl | exact (Int.natCast_ediv _ _).symm
theorem pk_rem {a d : Nat} (ha : a < 2 ^ 31) (h0 : 0 < d) (hd : d < 2 ^ 31) : nI a - nI a / nI d * nI d = nI (a % d) := by
  rw [pk_div ha h0 hd, pk_mul, pk_sub (Nat.div_mul_le_self a d)]
  exact congrArg nI (by have := Nat.div_add_mod' a d; omega)
theorem pk_sub_toInt {a b : Nat} (ha : a < 2 ^ 30) (hb : b < 2 ^ 30) : (nI a - nI b).toInt = (a : Int) - b := by
  rw [Int32.toInt_sub, nI_toInt (by omega), nI_toInt (by omega)]
  exact Int.bmod_eq_of_le (by omega) (by omega)
theorem pk_sneg {a b : Nat} (hb : b < 2 ^ 30) (h : a < b) : nI a - nI b < 0 := by
  rw [Int32.lt_iff_toInt_lt, pk_sub_toInt (by omega) hb, show (0 : Int32).toInt = 0 from by decide]
  omega
theorem pk_ix (x : Int32) {n : Nat} (hn : n < 2 ^ 31) : x < 0 ∨ nI n ≤ x ∨ ∃ j : Nat, j < n ∧ x = nI j := by
  by_cases h : x < 0
  · exact Or.inl h
  · obtain ⟨j, hj, rfl⟩ := nI_of h
    by_cases h2 : j < n
    · exact Or.inr (Or.inr ⟨j, h2, rfl⟩)
    · exact Or.inr (Or.inl (nI_le (by omega) hj))
theorem pk_le {x y : Int32} {A B : Prop} (a b : Nat) (f : a ≤ b → A) (g : b < a → B) (hx : x = nI a := by rfl) (hy : y = nI b := by rfl) (ha : a < 2 ^ 31 := by omega) (hb : b < 2 ^ 31 := by omega) : (x ≤ y → A) ∧ (¬ x ≤ y → B) := by
  subst hx hy
  rw [nI_leI ha hb]
  exact ⟨f, fun z => g (by omega)⟩
theorem pk_lt {x y : Int32} {A B : Prop} (a b : Nat) (f : a < b → A) (g : b ≤ a → B) (hx : x = nI a := by rfl) (hy : y = nI b := by rfl) (ha : a < 2 ^ 31 := by omega) (hb : b < 2 ^ 31 := by omega) : (x < y → A) ∧ (¬ x < y → B) := by
  subst hx hy
  rw [nI_ltI ha hb]
  exact ⟨f, fun z => g (by omega)⟩
theorem pk_eq {x y : Int32} {A B : Prop} (a b : Nat) (f : a = b → A) (g : a ≠ b → B) (hx : x = nI a := by rfl) (hy : y = nI b := by rfl) (ha : a < 2 ^ 31 := by omega) (hb : b < 2 ^ 31 := by omega) : (x = y → A) ∧ (¬ x = y → B) := by
  subst hx hy
  rw [nI_eq ha hb]
  exact ⟨f, g⟩
theorem pk_in {x : Int32} (n N : Nat) (h : n < N) (hx : x = nI n := by rfl) (hN : N < 2 ^ 31 := by omega) : vp_in x N := by
  subst hx
  exact vp_in_nI h hN
theorem pk_cl {x : Int32} (n : Nat) (hx : x = nI n := by rfl) (h : n < 2 ^ 31 := by omega) : x.toNatClampNeg = n := by
  subst hx
  exact nI_clamp h
theorem pk_tn {n : Nat} (h : n < 2 ^ 32) : (nI n).toBitVec.toNat = n := Nat.mod_eq_of_lt h
theorem pk_and (x : Int32) {m : Int32} (k : Nat) (hm : m.toBitVec.toNat = 2 ^ k - 1) : x &&& m = nI (x.toBitVec.toNat % 2 ^ k) := by
  apply Int32.toBitVec_inj.mp
  apply BitVec.eq_of_toNat_eq
  rw [Int32.toBitVec_and, BitVec.toNat_and, hm, Nat.and_two_pow_sub_one_eq_mod]
  show _ = (BitVec.ofNat 32 _).toNat
  rw [BitVec.toNat_ofNat]
  exact (Nat.mod_eq_of_lt (Nat.lt_of_le_of_lt (Nat.mod_le _ _) x.toBitVec.isLt)).symm
theorem pk_andN {n : Nat} (h : n < 2 ^ 32) {m : Int32} (k : Nat) (hm : m.toBitVec.toNat = 2 ^ k - 1) : nI n &&& m = nI (n % 2 ^ k) := by
  rw [pk_and _ k hm, pk_tn h]
theorem pk_andE (x : Int32) {m : Int32} (k : Nat) (hm : m.toBitVec.toNat = 2 ^ k - 1) : ∃ j : Nat, j < 2 ^ k ∧ x &&& m = nI j := ⟨_, Nat.mod_lt _ (Nat.two_pow_pos k), pk_and x k hm⟩
theorem pk_andIn (x : Int32) {m : Int32} (k : Nat) (hm : m.toBitVec.toNat = 2 ^ k - 1) (hk : k ≤ 30) : vp_in (x &&& m) (2 ^ k) := by
  obtain ⟨j, hj, e⟩ := pk_andE x k hm
  rw [e]
  exact vp_in_nI hj (Nat.lt_of_le_of_lt (Nat.pow_le_pow_right (by decide) hk) (by decide))
theorem pk_shl (a s : Int32) (k : Nat) (hs : (s.toBitVec.smod 32).toNat = k) : (a <<< s).toBitVec.toNat = a.toBitVec.toNat * 2 ^ k % 2 ^ 32 := by
  show (a.toBitVec <<< (s.toBitVec.smod 32).toNat).toNat = _
  rw [hs, BitVec.toNat_shiftLeft, Nat.shiftLeft_eq]
theorem pk_shlN {n : Nat} (s : Int32) (k : Nat) (hs : (s.toBitVec.smod 32).toNat = k) (h : n * 2 ^ k < 2 ^ 32) : nI n <<< s = nI (n * 2 ^ k) := by
  apply Int32.toBitVec_inj.mp
  apply BitVec.eq_of_toNat_eq
  have hn : n < 2 ^ 32 := Nat.lt_of_le_of_lt (Nat.le_mul_of_pos_right n (Nat.two_pow_pos k)) h
  rw [pk_shl _ _ k hs, pk_tn hn, pk_tn h, Nat.mod_eq_of_lt h]
theorem pk_shr (a s : Int32) (k : Nat) (hs : (s.toBitVec.smod 32).toNat = k) : (a >>> s).toInt = a.toInt >>> k := by
  show (a.toBitVec.sshiftRight (s.toBitVec.smod 32).toNat).toInt = _
  rw [hs, BitVec.toInt_sshiftRight]
  rfl
theorem pk_shrN {n : Nat} (h : n < 2 ^ 31) (s : Int32) (k : Nat) (hs : (s.toBitVec.smod 32).toNat = k) : nI n >>> s = nI (n / 2 ^ k) := by
  apply Int32.toInt_inj.mp
  have h2 : n / 2 ^ k ≤ n := Nat.div_le_self _ _
  rw [pk_shr _ _ k hs, nI_toInt h, nI_toInt (by omega), Int.shiftRight_eq_div_pow]
  rfl
theorem pk_ushr (x s : Int32) (k : Nat) (hs : ((s.toUInt32 &&& Int32.toUInt32 31).toBitVec % 32).toNat = k) : (x.toUInt32 >>> (s.toUInt32 &&& Int32.toUInt32 31)).toInt32.toBitVec.toNat = x.toBitVec.toNat / 2 ^ k := by
  have e : (x.toUInt32 >>> (s.toUInt32 &&& Int32.toUInt32 31)).toInt32.toBitVec = x.toBitVec >>> k := by
    rw [← hs]
    exact UInt32.toBitVec_shiftRight _ _
  rw [e, BitVec.toNat_ushiftRight, Nat.shiftRight_eq_div_pow]
theorem pk_ushrN {n : Nat} (hn : n < 2 ^ 32) (s : Int32) (k : Nat) (hs : ((s.toUInt32 &&& Int32.toUInt32 31).toBitVec % 32).toNat = k) : ((nI n).toUInt32 >>> (s.toUInt32 &&& Int32.toUInt32 31)).toInt32 = nI (n / 2 ^ k) := by
  apply Int32.toBitVec_inj.mp
  apply BitVec.eq_of_toNat_eq
  rw [pk_ushr _ s k hs, pk_tn hn, pk_tn (Nat.lt_of_le_of_lt (Nat.div_le_self _ _) hn)]
theorem pk_nb (z : Int32) : narrow .byte (.int z.toInt8.toInt32) = .int z.toInt8.toInt32 := congrArg Value.int (by simp)
theorem pk_ns (z : Int32) : narrow .short (.int z.toInt16.toInt32) = .int z.toInt16.toInt32 := congrArg Value.int (by simp)
theorem pk_fb (r : Int32) : fits .byte (.int r.toInt8.toInt32) = true := by
  have ⟨a, b⟩ := lg_i2b_range r
  have h1 : (-128 : Int32).toInt = -128 := by decide
  have h2 : (127 : Int32).toInt = 127 := by decide
  simp only [fits, Bool.and_eq_true, decide_eq_true_eq, Int32.le_iff_toInt_le, h1, h2]
  omega
theorem pk_fs (r : Int32) : fits .short (.int r.toInt16.toInt32) = true := by
  have ⟨a, b⟩ := lg_i2s_range r
  have h1 : (-32768 : Int32).toInt = -32768 := by decide
  have h2 : (32767 : Int32).toInt = 32767 := by decide
  simp only [fits, Bool.and_eq_true, decide_eq_true_eq, Int32.le_iff_toInt_le, h1, h2]
  omega
theorem pk_charN {q : Nat} (hq : q < 65536) : narrow .char (.int (nI q)) = .int (nI q) ∧ fits .char (.int (nI q)) = true := by
  constructor
  · have e : (nI q).toUInt32.toUInt16.toUInt32.toInt32 = nI q := by
      apply Int32.toBitVec_inj.mp
      apply BitVec.eq_of_toNat_eq
      show (nI q).toUInt32.toUInt16.toUInt32.toNat = q % 2 ^ 32
      rw [UInt16.toNat_toUInt32, UInt32.toNat_toUInt16, show (nI q).toUInt32.toNat = q % 2 ^ 32 from rfl]
      omega
    exact congrArg Value.int e
  · have a : (0 : Int32) ≤ nI q := nI_pos' (by omega)
    have b : nI q ≤ 65535 := nI_le (b := 65535) (by omega) (by decide)
    show (decide ((0 : Int32) ≤ nI q) && decide (nI q ≤ 65535)) = true
    rw [decide_eq_true a, decide_eq_true b]
    rfl
theorem pk_char (x : Int32) : (x.toUInt32 % 65536).toInt32 = nI (x.toBitVec.toNat % 65536) := by
  apply Int32.toBitVec_inj.mp
  apply BitVec.eq_of_toNat_eq
  rw [pk_tn (by omega)]
  show (x.toUInt32 % 65536).toNat = _
  rw [UInt32.toNat_mod]
  rfl
theorem pk_nc (x : Int32) : narrow .char (.int (x.toUInt32 % 65536).toInt32) = .int (x.toUInt32 % 65536).toInt32 := by
  rw [pk_char]
  exact (pk_charN (Nat.mod_lt _ (by decide))).1
theorem pk_fc (x : Int32) : fits .char (.int (x.toUInt32 % 65536).toInt32) = true := by
  rw [pk_char]
  exact (pk_charN (Nat.mod_lt _ (by decide))).2
theorem pk_vb (z : Int32) : vp_nar .byte z.toInt8.toInt32 = z.toInt8.toInt32 := by rw [vp_nar_byte]; simp
theorem pk_vs (z : Int32) : vp_nar .short z.toInt16.toInt32 = z.toInt16.toInt32 := by rw [vp_nar_short]; simp
theorem pk_vc (z : Int32) : vp_nar .char (z.toUInt32 % 65536).toInt32 = (z.toUInt32 % 65536).toInt32 := Value.int.inj (pk_nc z)
/-! ===== Int32 by its bits: bt x i ===== -/
def bt (x : Int32) (i : Nat) : Bool := x.toBitVec.getLsbD i
theorem b_ext {x y : Int32} (h : ∀ i, i < 32 → bt x i = bt y i) : x = y := Int32.toBitVec_inj.mp (BitVec.eq_of_getLsbD_eq (fun i hi => h i hi))
theorem b_or (x y : Int32) (i : Nat) : bt (x ||| y) i = (bt x i || bt y i) := by unfold bt; rw [Int32.toBitVec_or, BitVec.getLsbD_or]
theorem b_and (x y : Int32) (i : Nat) : bt (x &&& y) i = (bt x i && bt y i) := by unfold bt; rw [Int32.toBitVec_and, BitVec.getLsbD_and]
theorem b_xor (x y : Int32) (i : Nat) : bt (x ^^^ y) i = (bt x i ^^ bt y i) := by unfold bt; rw [Int32.toBitVec_xor, BitVec.getLsbD_xor]
theorem b_big {x : Int32} {i : Nat} (h : 32 ≤ i) : bt x i = false := BitVec.getLsbD_of_ge _ _ h
theorem b_255 (i : Nat) : bt 255 i = decide (i < 8) := by
  rcases Nat.lt_or_ge i 32 with h | h
  · exact (by decide +kernel : ∀ i, i < 32 → bt 255 i = decide (i < 8)) i h
  · rw [b_big h, decide_eq_false (by omega)]
theorem b_65535 (i : Nat) : bt 65535 i = decide (i < 16) := by
  rcases Nat.lt_or_ge i 32 with h | h
  · exact (by decide +kernel : ∀ i, i < 32 → bt 65535 i = decide (i < 16)) i h
  · rw [b_big h, decide_eq_false (by omega)]
theorem b_m1 : ∀ i, i < 32 → bt (-1) i = true := by decide +kernel
theorem b_0 (i : Nat) : bt 0 i = false := BitVec.getLsbD_zero
theorem s_l : ∀ n, n < 32 → ((nI n &&& 31).toBitVec.smod 32).toNat = n := by decide +kernel
theorem s_u : ∀ n, n < 32 → (((nI n).toUInt32 &&& Int32.toUInt32 31).toBitVec % 32).toNat = n := by decide +kernel
theorem b_shl (n : Nat) (hn : n < 32) (x : Int32) {i : Nat} (hi : i < 32) : bt (x <<< (nI n &&& 31)) i = (decide (n ≤ i) && bt x (i - n)) := by
  unfold bt
  rw [Int32.toBitVec_shiftLeft]
  show (x.toBitVec <<< ((nI n &&& 31).toBitVec.smod 32).toNat).getLsbD i = _
  rw [s_l n hn, BitVec.getLsbD_shiftLeft]
  rcases Nat.lt_or_ge i n with h | h
  · simp [h, Nat.not_le.mpr h]
  · simp [hi, h, Nat.not_lt.mpr h]
theorem b_ushr (n : Nat) (hn : n < 32) (x : Int32) (i : Nat) : bt ((x.toUInt32 >>> ((nI n).toUInt32 &&& Int32.toUInt32 31)).toInt32) i = bt x (n + i) := by
  show (x.toUInt32 >>> ((nI n).toUInt32 &&& Int32.toUInt32 31)).toBitVec.getLsbD i = x.toUInt32.toBitVec.getLsbD (n + i)
  rw [UInt32.toBitVec_shiftRight]
  show (x.toUInt32.toBitVec >>> (((nI n).toUInt32 &&& Int32.toUInt32 31).toBitVec % 32).toNat).getLsbD i = _
  rw [s_u n hn, BitVec.getLsbD_ushiftRight]
theorem b_sshr (n : Nat) (hn : n < 32) (x : Int32) {i : Nat} (hi : i < 32) : bt (x >>> (nI n &&& 31)) i = if n + i < 32 then bt x (n + i) else bt x 31 := by
  unfold bt
  rw [Int32.toBitVec_shiftRight]
  show (x.toBitVec.sshiftRight ((nI n &&& 31).toBitVec.smod 32).toNat).getLsbD i = _
  rw [s_l n hn, BitVec.getLsbD_sshiftRight, BitVec.msb_eq_getLsbD_last]
  simp [hi]
theorem b_shl8 (x : Int32) {i : Nat} (hi : i < 32) : bt (x <<< ((8 : Int32) &&& 31)) i = (decide (8 ≤ i) && bt x (i - 8)) := b_shl 8 (by omega) x hi
theorem b_shl16 (x : Int32) {i : Nat} (hi : i < 32) : bt (x <<< ((16 : Int32) &&& 31)) i = (decide (16 ≤ i) && bt x (i - 16)) := b_shl 16 (by omega) x hi
theorem b_shl24 (x : Int32) {i : Nat} (hi : i < 32) : bt (x <<< ((24 : Int32) &&& 31)) i = (decide (24 ≤ i) && bt x (i - 24)) := b_shl 24 (by omega) x hi
theorem b_sshr8 (x : Int32) {i : Nat} (hi : i < 32) : bt (x >>> ((8 : Int32) &&& 31)) i = if 8 + i < 32 then bt x (8 + i) else bt x 31 := b_sshr 8 (by omega) x hi
end
section
/-! ===== arrays of naturals ===== -/
def ar_N (g : Nat → Nat) : Nat → Int32 := fun j => nI (g j)
def ar_P (g : Nat → Nat) : Nat → Int32 := fun j => nI (g j) + (-1)
def ar_u {α : Type} (g : Nat → α) (k : Nat) (v : α) : Nat → α := fun j => if j = k then v else g j
theorem ar_us {α : Type} {g : Nat → α} {k : Nat} {v : α} : ar_u g k v k = v := if_pos rfl
theorem ar_un {α : Type} {g : Nat → α} {k j : Nat} {v : α} (h : j ≠ k) : ar_u g k v j = g j := if_neg h
theorem ar_uu (g : Nat → Int32) (k : Nat) (v : Int32) : upd g k v = ar_u g k v := rfl
theorem ar_N0 : (fun _ => 0 : Nat → Int32) = ar_N (fun _ => 0) := funext fun _ => nI_0.symm
theorem ar_Nu {g : Nat → Nat} {k n : Nat} {i v : Int32} (hk : i.toNatClampNeg = k) (hv : v = nI n) : upd (ar_N g) i.toNatClampNeg v = ar_N (ar_u g k n) := by
  funext j
  rw [hk, hv]
  show (if j = k then nI n else nI (g j)) = nI (if j = k then n else g j)
  by_cases h : j = k
  · rw [if_pos h, if_pos h]
  · rw [if_neg h, if_neg h]
theorem ar_Pu {g : Nat → Nat} {k n : Nat} {i v : Int32} (hk : i.toNatClampNeg = k) (hv : v = nI n + (-1)) : upd (ar_P g) i.toNatClampNeg v = ar_P (ar_u g k n) := by
  funext j
  rw [hk, hv]
  show (if j = k then nI n + (-1) else nI (g j) + (-1)) = nI (if j = k then n else g j) + (-1)
  by_cases h : j = k
  · rw [if_pos h, if_pos h]
  · rw [if_neg h, if_neg h]
theorem ar_sh {n : Nat} (h : n < 32768) : (nI n).toInt16.toInt32 = nI n := lg_i2s_small (by rw [nI_toInt (by omega)]; omega) (by rw [nI_toInt (by omega)]; omega)
theorem ar_by {n : Nat} (h : n < 128) : (nI n).toInt8.toInt32 = nI n := lg_i2b_small (by rw [nI_toInt (by omega)]; omega) (by rw [nI_toInt (by omega)]; omega)
theorem ar_vs {n : Nat} (h : n < 32768) : vp_nar .short (nI n) = nI n := by rw [vp_nar_short]; exact ar_sh h
theorem ar_vs2 {n : Nat} (h : n < 32768) : vp_nar .short (nI n).toInt16.toInt32 = nI n := by rw [vp_nar_short, ar_sh h, ar_sh h]
theorem ar_vb {n : Nat} (h : n < 128) : vp_nar .byte (nI n) = nI n := by rw [vp_nar_byte]; exact ar_by h
theorem ar_vb2 {n : Nat} (h : n < 128) : vp_nar .byte (nI n).toInt8.toInt32 = nI n := by rw [vp_nar_byte, ar_by h, ar_by h]
theorem ar_vs0 : vp_nar .short 0 = nI 0 := by rw [vp_nar_short]; decide
theorem ar_vb0 : vp_nar .byte 0 = nI 0 := by rw [vp_nar_byte]; decide
theorem ar_vbm : vp_nar .byte (-1) = nI 0 + (-1) := by rw [vp_nar_byte]; decide
theorem ar_vz0 : vp_nar .boolean 0 = nI 0 := rfl
theorem ar_vz1 : vp_nar .boolean 1 = nI 1 := rfl
theorem ar_cl {n : Nat} (h : n < 2000000000) : (nI n).toNatClampNeg = n := nI_clamp (by omega)
/-! ===== the log, entry by entry ===== -/
def ar_lz (so wh : Nat → Nat) : Nat → Nat → Nat
  | 0, _ => 0
  | k + 1, c => if so (k + 1) < 2 ∧ wh (k + 1) = c then k + 1 else ar_lz so wh k c
def ar_vl (so wh : Nat → Nat) (af B : Nat → Int32) (k c : Nat) : Int32 := if ar_lz so wh k c = 0 then B c else af (ar_lz so wh k c)
def ar_lo (so bw : Nat → Nat) : Nat → Nat → Nat
  | 0, _ => 0
  | k + 1, t => if bw (k + 1) = t then (if so (k + 1) < 2 then k + 1 else 0) else ar_lo so bw k t
def ar_pe (so bw : Nat → Nat) : Nat → Nat → Nat
  | 0, _ => 0
  | k + 1, t => if bw (k + 1) = t ∧ ¬ so (k + 1) < 2 then k + 1 else ar_pe so bw k t
def ar_ct (bw : Nat → Nat) (e t : Nat) : Nat → Nat
  | 0 => 0
  | k + 1 => ar_ct bw e t k + (if bw (k + 1) = t ∧ e < k + 1 then 1 else 0)
/-- the pending writes from entry n along the links, down to lim -/
def ar_cn (so wh lk : Nat → Nat) (bf : Nat → Int32) (lim : Nat) : Nat → Nat → List (Nat × Int32)
  | 0, _ => []
  | f + 1, n => if n ≤ lim then [] else if so n = 0 then (wh n, bf n) :: ar_cn so wh lk bf lim f (lk n) else ar_cn so wh lk bf lim f (lk n)
def ar_c (so wh lk : Nat → Nat) (bf : Nat → Int32) (lim n : Nat) : List (Nat × Int32) := ar_cn so wh lk bf lim n n
section
variable {so wh bw lk so' wh' bw' lk' : Nat → Nat} {af bf B af' bf' : Nat → Int32}
theorem ar_lz_le : ∀ k c, ar_lz so wh k c ≤ k := by
  intro k c
  induction k with
  | zero => exact Nat.le_refl _
  | succ k ih =>
    unfold ar_lz
    by_cases h : so (k + 1) < 2 ∧ wh (k + 1) = c
    · rw [if_pos h]; exact Nat.le_refl _
    · rw [if_neg h]; omega
theorem ar_lz_st : ∀ m k c, k ≤ m → ar_lz so wh m c ≤ k → ar_lz so wh k c = ar_lz so wh m c := by
  intro m
  induction m with
  | zero => intro k c h _; have : k = 0 := by omega
            rw [this]
  | succ m ih =>
    intro k c hk hz
    by_cases e : k = m + 1
    · rw [e]
    · unfold ar_lz at hz
      by_cases h : so (m + 1) < 2 ∧ wh (m + 1) = c
      · rw [if_pos h] at hz; omega
      · rw [if_neg h] at hz
        rw [ih k c (by omega) hz]
        conv => rhs; unfold ar_lz
        rw [if_neg h]
theorem ar_lz_ge : ∀ m n c, 0 < n → n ≤ m → so n < 2 → wh n = c → n ≤ ar_lz so wh m c := by
  intro m
  induction m with
  | zero => intro n c h0 h1; omega
  | succ m ih =>
    intro n c h0 h1 hs hw
    unfold ar_lz
    by_cases h : so (m + 1) < 2 ∧ wh (m + 1) = c
    · rw [if_pos h]; exact h1
    · rw [if_neg h]
      by_cases e : n = m + 1
      · rw [e] at hs hw; exact absurd ⟨hs, hw⟩ h
      · exact ih n c h0 (by omega) hs hw
theorem ar_lz_at : ∀ m c, ar_lz so wh m c ≠ 0 → so (ar_lz so wh m c) < 2 ∧ wh (ar_lz so wh m c) = c := by
  intro m c
  induction m with
  | zero => intro h; exact absurd rfl h
  | succ m ih =>
    unfold ar_lz
    by_cases h : so (m + 1) < 2 ∧ wh (m + 1) = c
    · rw [if_pos h]; intro _; exact h
    · rw [if_neg h]; exact ih
theorem ar_lz_cg : ∀ k c, (∀ j, 0 < j → j ≤ k → so' j = so j ∧ wh' j = wh j) → ar_lz so' wh' k c = ar_lz so wh k c := by
  intro k c
  induction k with
  | zero => intro _; rfl
  | succ k ih =>
    intro h
    unfold ar_lz
    rw [(h (k + 1) (by omega) (by omega)).1, (h (k + 1) (by omega) (by omega)).2, ih (fun j h0 h1 => h j h0 (by omega))]
theorem ar_vl_st {m k c : Nat} (h : k ≤ m) (hz : ar_lz so wh m c ≤ k) : ar_vl so wh af B k c = ar_vl so wh af B m c := by
  unfold ar_vl; rw [ar_lz_st m k c h hz]
theorem ar_vl_cg {k c : Nat} (h : ∀ j, 0 < j → j ≤ k → so' j = so j ∧ wh' j = wh j ∧ af' j = af j) : ar_vl so' wh' af' B k c = ar_vl so wh af B k c := by
  unfold ar_vl
  rw [ar_lz_cg k c (fun j h0 h1 => ⟨(h j h0 h1).1, (h j h0 h1).2.1⟩)]
  by_cases z : ar_lz so wh k c = 0
  · rw [if_pos z, if_pos z]
  · rw [if_neg z, if_neg z]
    exact (h _ (by omega) (ar_lz_le k c)).2.2
theorem ar_lo_cg : ∀ k t, (∀ j, 0 < j → j ≤ k → so' j = so j ∧ bw' j = bw j) → ar_lo so' bw' k t = ar_lo so bw k t := by
  intro k t
  induction k with
  | zero => intro _; rfl
  | succ k ih =>
    intro h
    unfold ar_lo
    rw [(h (k + 1) (by omega) (by omega)).1, (h (k + 1) (by omega) (by omega)).2, ih (fun j h0 h1 => h j h0 (by omega))]
theorem ar_pe_cg : ∀ k t, (∀ j, 0 < j → j ≤ k → so' j = so j ∧ bw' j = bw j) → ar_pe so' bw' k t = ar_pe so bw k t := by
  intro k t
  induction k with
  | zero => intro _; rfl
  | succ k ih =>
    intro h
    unfold ar_pe
    rw [(h (k + 1) (by omega) (by omega)).1, (h (k + 1) (by omega) (by omega)).2, ih (fun j h0 h1 => h j h0 (by omega))]
theorem ar_ct_cg {e t : Nat} : ∀ k, (∀ j, 0 < j → j ≤ k → bw' j = bw j) → ar_ct bw' e t k = ar_ct bw e t k := by
  intro k
  induction k with
  | zero => intro _; rfl
  | succ k ih =>
    intro h
    unfold ar_ct
    rw [h (k + 1) (by omega) (by omega), ih (fun j h0 h1 => h j h0 (by omega))]
theorem ar_pe_le : ∀ k t, ar_pe so bw k t ≤ k := by
  intro k t
  induction k with
  | zero => exact Nat.le_refl _
  | succ k ih =>
    unfold ar_pe
    by_cases h : bw (k + 1) = t ∧ ¬ so (k + 1) < 2
    · rw [if_pos h]; exact Nat.le_refl _
    · rw [if_neg h]; omega
theorem ar_pe_ge : ∀ k n, 0 < n → n ≤ k → ¬ so n < 2 → n ≤ ar_pe so bw k (bw n) := by
  intro k n
  induction k with
  | zero => intro h0 h1; omega
  | succ k ih =>
    intro h0 h1 hs
    unfold ar_pe
    by_cases h : bw (k + 1) = bw n ∧ ¬ so (k + 1) < 2
    · rw [if_pos h]; exact h1
    · rw [if_neg h]
      by_cases e : n = k + 1
      · rw [e] at hs h; exact absurd ⟨rfl, hs⟩ h
      · exact ih h0 (by omega) hs
theorem ar_lo_or : ∀ k t, ar_lo so bw k t = 0 ∨ (bw (ar_lo so bw k t) = t ∧ ar_pe so bw k t < ar_lo so bw k t ∧ ar_lo so bw k t ≤ k) := by
  intro k t
  induction k with
  | zero => exact Or.inl rfl
  | succ k ih =>
    have hp := @ar_pe_le so bw k t
    unfold ar_lo ar_pe
    by_cases h : bw (k + 1) = t
    · by_cases h2 : so (k + 1) < 2
      · rw [if_pos h, if_pos h2, if_neg (fun z => z.2 h2)]
        exact Or.inr ⟨h, by omega, Nat.le_refl _⟩
      · rw [if_pos h, if_neg h2]; exact Or.inl rfl
    · rw [if_neg h, if_neg (fun z => h z.1)]
      rcases ih with ih | ⟨a, b, c⟩
      · exact Or.inl ih
      · exact Or.inr ⟨a, b, by omega⟩
theorem ar_lo_le (k t : Nat) : ar_lo so bw k t ≤ k := by
  rcases @ar_lo_or so bw k t with h | h
  · omega
  · exact h.2.2
theorem ar_ct_0 {e t : Nat} : ∀ k, k ≤ e → ar_ct bw e t k = 0 := by
  intro k
  induction k with
  | zero => intro _; rfl
  | succ k ih =>
    intro h
    unfold ar_ct
    rw [ih (by omega), if_neg (fun z => by omega)]
theorem ar_ct_lo : ∀ k t, ar_lo so bw k t = 0 → ar_ct bw (ar_pe so bw k t) t k = 0 := by
  intro k t
  induction k with
  | zero => intro _; rfl
  | succ k ih =>
    intro h
    unfold ar_lo at h
    by_cases h1 : bw (k + 1) = t
    · by_cases h2 : so (k + 1) < 2
      · rw [if_pos h1, if_pos h2] at h; omega
      · apply ar_ct_0
        unfold ar_pe
        rw [if_pos ⟨h1, h2⟩]; exact Nat.le_refl _
    · rw [if_neg h1] at h
      unfold ar_pe ar_ct
      rw [if_neg (fun z => h1 z.1), ih h, if_neg (fun z => h1 z.1)]
end
end
section
/-! ===== chains ===== -/
section
variable {so wh bw lk so' wh' bw' lk' : Nat → Nat} {af bf B af' bf' : Nat → Int32} {lim N : Nat}
theorem ar_cn_f (h : ∀ m, 0 < m → m ≤ N → lk m < m) : ∀ n, n ≤ N → ∀ f, n ≤ f → ar_cn so wh lk bf lim f n = ar_cn so wh lk bf lim n n := by
  intro n
  induction n using Nat.strongRecOn with
  | ind n ih =>
    intro hN f hf
    match n, ih, hN, hf with
    | 0, _, _, _ =>
      cases f with
      | zero => rfl
      | succ f => show (if 0 ≤ lim then _ else _) = _
                  rw [if_pos (Nat.zero_le _)]; rfl
    | n + 1, ih, hN, hf =>
      obtain ⟨g, rfl⟩ : ∃ g, f = g + 1 := ⟨f - 1, by omega⟩
      have hl := h (n + 1) (by omega) hN
      have e : ar_cn so wh lk bf lim g (lk (n + 1)) = ar_cn so wh lk bf lim n (lk (n + 1)) := by
        rw [ih (lk (n + 1)) hl (by omega) g (by omega), ih (lk (n + 1)) hl (by omega) n (by omega)]
      unfold ar_cn
      rw [e]
theorem ar_c_le {n : Nat} (h : n ≤ lim) : ar_c so wh lk bf lim n = [] := by
  unfold ar_c
  cases n with
  | zero => rfl
  | succ n => unfold ar_cn; rw [if_pos h]
theorem ar_c_0 : ar_c so wh lk bf lim 0 = [] := ar_c_le (Nat.zero_le _)
theorem ar_c_s (h : ∀ m, 0 < m → m ≤ N → lk m < m) {n : Nat} (hn : n ≤ N) (hl : lim < n) (hs : so n = 0) : ar_c so wh lk bf lim n = (wh n, bf n) :: ar_c so wh lk bf lim (lk n) := by
  unfold ar_c
  obtain ⟨m, rfl⟩ : ∃ m, n = m + 1 := ⟨n - 1, by omega⟩
  have hk := h (m + 1) (by omega) hn
  conv => lhs; unfold ar_cn
  rw [if_neg (by omega), if_pos hs, ar_cn_f h (lk (m + 1)) (by omega) m (by omega)]
theorem ar_c_o (h : ∀ m, 0 < m → m ≤ N → lk m < m) {n : Nat} (hn : n ≤ N) (hl : lim < n) (hs : so n ≠ 0) : ar_c so wh lk bf lim n = ar_c so wh lk bf lim (lk n) := by
  unfold ar_c
  obtain ⟨m, rfl⟩ : ∃ m, n = m + 1 := ⟨n - 1, by omega⟩
  have hk := h (m + 1) (by omega) hn
  conv => lhs; unfold ar_cn
  rw [if_neg (by omega), if_neg hs, ar_cn_f h (lk (m + 1)) (by omega) m (by omega)]
theorem ar_c_cg (h : ∀ m, 0 < m → m ≤ N → lk m < m) (e : ∀ j, 0 < j → j ≤ N → so' j = so j ∧ wh' j = wh j ∧ lk' j = lk j ∧ bf' j = bf j) :
    ∀ n, n ≤ N → ar_c so' wh' lk' bf' lim n = ar_c so wh lk bf lim n := by
  have h' : ∀ m, 0 < m → m ≤ N → lk' m < m := fun m h0 h1 => by rw [(e m h0 h1).2.2.1]; exact h m h0 h1
  intro n
  induction n using Nat.strongRecOn with
  | ind n ih =>
    intro hn
    by_cases hl : n ≤ lim
    · rw [ar_c_le hl, ar_c_le hl]
    · obtain ⟨e1, e2, e3, e4⟩ := e n (by omega) hn
      have hk := h n (by omega) hn
      by_cases hs : so n = 0
      · rw [ar_c_s h hn (by omega) hs, ar_c_s h' hn (by omega) (e1.trans hs), e2, e3, e4, ih (lk n) hk (by omega)]
      · rw [ar_c_o h hn (by omega) hs, ar_c_o h' hn (by omega) (fun z => hs (e1.symm.trans z)), e3, ih (lk n) hk (by omega)]
end
/-! ===== rolling back ===== -/
def ar_in (P : List (Nat × Int32)) (c : Nat) : Prop := ∃ p, p ∈ P ∧ p.1 = c
def ar_uv : List (Nat × Int32) → Nat → Int32 → Int32
  | [], _, v => v
  | p :: P, c, v => ar_uv P c (if p.1 = c then p.2 else v)
theorem ar_in_nil {c : Nat} : ¬ ar_in [] c := fun ⟨_, h, _⟩ => nomatch h
theorem ar_in_hd {c : Nat} {o : Int32} {P : List (Nat × Int32)} : ar_in ((c, o) :: P) c := ⟨(c, o), List.mem_cons_self .., rfl⟩
theorem ar_in_tl {c : Nat} {p : Nat × Int32} {P : List (Nat × Int32)} (h : ar_in P c) : ar_in (p :: P) c := by
  obtain ⟨q, hq, e⟩ := h
  exact ⟨q, List.mem_cons_of_mem _ hq, e⟩
theorem ar_in_cs {c : Nat} {p : Nat × Int32} {P : List (Nat × Int32)} (h : ar_in (p :: P) c) : p.1 = c ∨ ar_in P c := by
  obtain ⟨q, hq, e⟩ := h
  rcases List.mem_cons.mp hq with z | z
  · exact Or.inl (by rw [← z]; exact e)
  · exact Or.inr ⟨q, z, e⟩
theorem ar_uv_ni {P : List (Nat × Int32)} {c : Nat} : ∀ v, ¬ ar_in P c → ar_uv P c v = v := by
  induction P with
  | nil => intro v _; rfl
  | cons p P ih =>
    intro v h
    unfold ar_uv
    rw [if_neg (fun z => h ⟨p, List.mem_cons_self .., z⟩)]
    exact ih v (fun z => h (ar_in_tl z))
def ar_ro (P : Nat → List (Nat × Int32)) (c : Nat) (v : Int32) : Nat → Int32
  | 0 => v
  | t + 1 => ar_uv (P t) c (ar_ro P c v t)
theorem ar_ro_1 {P : Nat → List (Nat × Int32)} {c t : Nat} {v : Int32} (ht : t < 3) (h : ∀ u, u < 3 → u ≠ t → ¬ ar_in (P u) c) : ar_ro P c v 3 = ar_uv (P t) c v := by
  show ar_uv (P 2) c (ar_uv (P 1) c (ar_uv (P 0) c v)) = _
  rcases (show t = 0 ∨ t = 1 ∨ t = 2 by omega) with rfl | rfl | rfl
  · rw [ar_uv_ni _ (h 2 (by omega) (by omega)), ar_uv_ni _ (h 1 (by omega) (by omega))]
  · rw [ar_uv_ni _ (h 2 (by omega) (by omega)), ar_uv_ni v (h 0 (by omega) (by omega))]
  · rw [ar_uv_ni v (h 0 (by omega) (by omega)), ar_uv_ni v (h 1 (by omega) (by omega))]
theorem ar_ro_cg {P P' : Nat → List (Nat × Int32)} {c : Nat} {v : Int32} : ∀ n, (∀ u w, u < n → ar_uv (P' u) c w = ar_uv (P u) c w) → ar_ro P' c v n = ar_ro P c v n := by
  intro n
  induction n with
  | zero => intro _; rfl
  | succ n ih =>
    intro h
    unfold ar_ro
    rw [ih (fun u w hu => h u w (by omega)), h n _ (by omega)]
def ar_RB (P : Nat → List (Nat × Int32)) (s C : Nat → Int32) : Prop :=
  (∀ t u c, t < 3 → u < 3 → t ≠ u → ar_in (P t) c → ¬ ar_in (P u) c) ∧ ∀ c, c < 16 → ar_ro P c (s c) 3 = C c
section
variable {P P' : Nat → List (Nat × Int32)} {s s' C : Nat → Int32} {t c : Nat}
theorem ar_RB_push {v : Int32} (h : ar_RB P s C) (ht : t < 3) (hP : P' t = (c, s c) :: P t) (hu : ∀ u, u < 3 → u ≠ t → P' u = P u) (hn : ∀ u, u < 3 → u ≠ t → ¬ ar_in (P u) c)
    (hs : ∀ x, x < 16 → s' x = if x = c then v else s x) : ar_RB P' s' C := by
  refine ⟨fun a b x ha hb hab hi => ?_, fun x hx => ?_⟩
  · by_cases ea : a = t
    · have eb : b ≠ t := fun z => hab (ea.trans z.symm)
      rw [hu b hb eb]
      rw [ea, hP] at hi
      rcases ar_in_cs hi with z | z
      · rw [← z]; exact hn b hb eb
      · exact h.1 t b x ht hb (fun z => eb z.symm) z
    · rw [hu a ha ea] at hi
      by_cases eb : b = t
      · rw [eb, hP]
        intro z
        rcases ar_in_cs z with z | z
        · rw [← z] at hi; exact hn a ha ea hi
        · exact h.1 a t x ha ht ea hi z
      · rw [hu b hb eb]; exact h.1 a b x ha hb hab hi
  · rw [hs x hx, ← h.2 x hx]
    by_cases e : x = c
    · rw [if_pos e, e, ar_ro_1 ht hn, ar_ro_1 ht (fun u hu3 hut => by rw [hu u hu3 hut]; exact hn u hu3 hut), hP]
      show ar_uv (P t) c (if c = c then s c else v) = _
      rw [if_pos rfl]
    · rw [if_neg e]
      refine ar_ro_cg 3 (fun u w hu3 => ?_)
      by_cases eu : u = t
      · rw [eu, hP]
        show ar_uv (P t) x (if c = x then s c else w) = _
        rw [if_neg (fun z => e z.symm)]
      · rw [hu u hu3 eu]
theorem ar_RB_pop {o : Int32} (h : ar_RB P s C) (ht : t < 3) (hP : P t = (c, o) :: P' t) (hu : ∀ u, u < 3 → u ≠ t → P' u = P u)
    (hs : ∀ x, x < 16 → s' x = if x = c then o else s x) : ar_RB P' s' C := by
  have sub : ∀ u x, u < 3 → ar_in (P' u) x → ar_in (P u) x := by
    intro u x hu3 hi
    by_cases e : u = t
    · rw [e] at hi ⊢; rw [hP]; exact ar_in_tl hi
    · rw [hu u hu3 e] at hi; exact hi
  refine ⟨fun a b x ha hb hab hi hj => h.1 a b x ha hb hab (sub a x ha hi) (sub b x hb hj), fun x hx => ?_⟩
  rw [hs x hx, ← h.2 x hx]
  by_cases e : x = c
  · have hn : ∀ u, u < 3 → u ≠ t → ¬ ar_in (P u) c := fun u hu3 hut => h.1 t u c ht hu3 (fun z => hut z.symm) (by rw [hP]; exact ar_in_hd)
    rw [if_pos e, e, ar_ro_1 ht hn, ar_ro_1 ht (fun u hu3 hut => by rw [hu u hu3 hut]; exact hn u hu3 hut), hP]
    show _ = ar_uv (P' t) c (if c = c then o else s c)
    rw [if_pos rfl]
  · rw [if_neg e]
    refine ar_ro_cg 3 (fun u w hu3 => ?_)
    by_cases eu : u = t
    · rw [eu, hP]
      show _ = ar_uv (P' t) x (if c = x then o else w)
      rw [if_neg (fun z => e z.symm)]
    · rw [hu u hu3 eu]
theorem ar_RB_same (h : ar_RB P s C) (hP : ∀ u, u < 3 → P' u = P u) (hs : ∀ x, x < 16 → s' x = s x) : ar_RB P' s' C := by
  refine ⟨fun a b x ha hb hab hi => ?_, fun x hx => ?_⟩
  · rw [hP a ha] at hi; rw [hP b hb]; exact h.1 a b x ha hb hab hi
  · rw [hs x hx, ← h.2 x hx]
    exact ar_ro_cg 3 (fun u w hu3 => by rw [hP u hu3])
theorem ar_RB_nil (h : ar_RB P s C) (hP : ∀ u, u < 3 → P u = []) : ∀ x, x < 16 → s x = C x := by
  intro x hx
  rw [← h.2 x hx]
  show _ = ar_uv (P 2) x (ar_uv (P 1) x (ar_uv (P 0) x (s x)))
  rw [hP 0 (by omega), hP 1 (by omega), hP 2 (by omega)]
  rfl
theorem ar_RB_mk (hP : ∀ u, u < 3 → P u = []) : ar_RB P s s := by
  refine ⟨fun a b x ha hb hab hi => ?_, fun x hx => ?_⟩
  · rw [hP a ha] at hi; exact absurd hi ar_in_nil
  · show ar_uv (P 2) x (ar_uv (P 1) x (ar_uv (P 0) x (s x))) = _
    rw [hP 0 (by omega), hP 1 (by omega), hP 2 (by omega)]
    rfl
end
/-! ===== the log up to an entry ===== -/
def ar_WF (so bw wh lk : Nat → Nat) (le : Nat) : Prop := ∀ n, 0 < n → n ≤ le → so n ≤ 3 ∧ bw n < 3 ∧ wh n < 16 ∧ lk n < n
def ar_w1 (P : Nat → List (Nat × Int32)) (lo : Nat → Nat) (t : Nat) : Nat := (P t).length + (if lo t = 0 then 0 else 1)
def ar_wt (P : Nat → List (Nat × Int32)) (lo : Nat → Nat) : Nat := ar_w1 P lo 0 + ar_w1 P lo 1 + ar_w1 P lo 2
def ar_Q (so bw wh lk : Nat → Nat) (bf : Nat → Int32) (k t : Nat) : List (Nat × Int32) := ar_c so wh lk bf 0 (ar_lo so bw k t)
def ar_G (so bw wh lk : Nat → Nat) (bf af B C : Nat → Int32) (k : Nat) : Prop :=
  ar_RB (ar_Q so bw wh lk bf k) (ar_vl so wh af B k) C ∧ k + ar_wt (ar_Q so bw wh lk bf k) (ar_lo so bw k) ≤ 264
theorem ar_wt_d {P P' : Nat → List (Nat × Int32)} {lo lo' : Nat → Nat} {t d : Nat} (ht : t < 3) (h : ar_w1 P' lo' t + d = ar_w1 P lo t) (hu : ∀ u, u < 3 → u ≠ t → ar_w1 P' lo' u = ar_w1 P lo u) :
    ar_wt P' lo' + d = ar_wt P lo := by
  unfold ar_wt
  rcases (show t = 0 ∨ t = 1 ∨ t = 2 by omega) with rfl | rfl | rfl
  · rw [hu 1 (by omega) (by omega), hu 2 (by omega) (by omega)]; omega
  · rw [hu 0 (by omega) (by omega), hu 2 (by omega) (by omega)]; omega
  · rw [hu 0 (by omega) (by omega), hu 1 (by omega) (by omega)]; omega
theorem ar_wt_ge {P : Nat → List (Nat × Int32)} {lo : Nat → Nat} {t : Nat} (ht : t < 3) : ar_w1 P lo t ≤ ar_wt P lo := by
  unfold ar_wt
  rcases (show t = 0 ∨ t = 1 ∨ t = 2 by omega) with rfl | rfl | rfl <;> omega
theorem ar_wt_le {P : Nat → List (Nat × Int32)} {lo : Nat → Nat} (h : ∀ u, u < 3 → (P u).length ≤ 20) : ar_wt P lo ≤ 63 := by
  have q : ∀ u, u < 3 → ar_w1 P lo u ≤ 21 := by
    intro u hu
    have := h u hu
    unfold ar_w1
    by_cases z : lo u = 0
    · rw [if_pos z]; omega
    · rw [if_neg z]; omega
  unfold ar_wt
  have a := q 0 (by omega)
  have b := q 1 (by omega)
  have c := q 2 (by omega)
  omega
end
section
/-! ===== one entry more ===== -/
section
variable {so bw wh lk : Nat → Nat} {bf af B C : Nat → Int32} {le kd t c l : Nat} {o v : Int32}
theorem ar_ux {α : Type} {g : Nat → α} {n : Nat} {w : α} {j : Nat} (h : j ≤ n) : ar_u g (n + 1) w j = g j := ar_un (by omega)
theorem ar_ap_lz {k x : Nat} (h : k ≤ le) : ar_lz (ar_u so (le + 1) kd) (ar_u wh (le + 1) c) k x = ar_lz so wh k x := ar_lz_cg k x (fun j _ h1 => ⟨ar_ux (by omega), ar_ux (by omega)⟩)
theorem ar_ap_lz1 {x : Nat} (h : kd < 2) : ar_lz (ar_u so (le + 1) kd) (ar_u wh (le + 1) c) (le + 1) x = if x = c then le + 1 else ar_lz so wh le x := by
  conv => lhs; unfold ar_lz
  rw [ar_us, ar_us, ar_ap_lz (Nat.le_refl _)]
  by_cases e : x = c
  · rw [if_pos e, if_pos ⟨h, e.symm⟩]
  · rw [if_neg e, if_neg (fun z => e z.2.symm)]
theorem ar_ap_lz2 {x : Nat} (h : ¬ kd < 2) : ar_lz (ar_u so (le + 1) kd) (ar_u wh (le + 1) c) (le + 1) x = ar_lz so wh le x := by
  conv => lhs; unfold ar_lz
  rw [ar_us, ar_us, ar_ap_lz (Nat.le_refl _), if_neg (fun z => h z.1)]
theorem ar_ap_vl {k x : Nat} (h : k ≤ le) : ar_vl (ar_u so (le + 1) kd) (ar_u wh (le + 1) c) (upd af (le + 1) v) B k x = ar_vl so wh af B k x := ar_vl_cg (fun j _ h1 => ⟨ar_ux (by omega), ar_ux (by omega), ar_ux (by omega)⟩)
theorem ar_ap_vl1 {x : Nat} (h : kd < 2) : ar_vl (ar_u so (le + 1) kd) (ar_u wh (le + 1) c) (upd af (le + 1) v) B (le + 1) x = if x = c then v else ar_vl so wh af B le x := by
  unfold ar_vl
  rw [ar_ap_lz1 h]
  by_cases e : x = c
  · rw [if_pos e, if_pos e, if_neg (by omega)]; exact pk_us
  · rw [if_neg e, if_neg e]
    by_cases z : ar_lz so wh le x = 0
    · rw [if_pos z, if_pos z]
    · rw [if_neg z, if_neg z]
      have := @ar_lz_le so wh le x
      exact pk_un (by omega)
theorem ar_ap_vl2 {x : Nat} (h : ¬ kd < 2) : ar_vl (ar_u so (le + 1) kd) (ar_u wh (le + 1) c) (upd af (le + 1) v) B (le + 1) x = ar_vl so wh af B le x := by
  unfold ar_vl
  rw [ar_ap_lz2 h]
  by_cases z : ar_lz so wh le x = 0
  · rw [if_pos z, if_pos z]
  · rw [if_neg z, if_neg z]
    have := @ar_lz_le so wh le x
    exact pk_un (by omega)
theorem ar_ap_lo {k u : Nat} (h : k ≤ le) : ar_lo (ar_u so (le + 1) kd) (ar_u bw (le + 1) t) k u = ar_lo so bw k u := ar_lo_cg k u (fun j _ h1 => ⟨ar_ux (by omega), ar_ux (by omega)⟩)
theorem ar_ap_lo1 {u : Nat} : ar_lo (ar_u so (le + 1) kd) (ar_u bw (le + 1) t) (le + 1) u = if t = u then (if kd < 2 then le + 1 else 0) else ar_lo so bw le u := by
  conv => lhs; unfold ar_lo
  rw [ar_us, ar_us, ar_ap_lo (Nat.le_refl _)]
theorem ar_ap_lou {u : Nat} (h : u ≠ t) : ar_lo (ar_u so (le + 1) kd) (ar_u bw (le + 1) t) (le + 1) u = ar_lo so bw le u := by rw [ar_ap_lo1, if_neg (fun z => h z.symm)]
theorem ar_ap_lot (h : kd < 2) : ar_lo (ar_u so (le + 1) kd) (ar_u bw (le + 1) t) (le + 1) t = le + 1 := by rw [ar_ap_lo1, if_pos rfl, if_pos h]
theorem ar_ap_lo2 (h : ¬ kd < 2) : ar_lo (ar_u so (le + 1) kd) (ar_u bw (le + 1) t) (le + 1) t = 0 := by rw [ar_ap_lo1, if_pos rfl, if_neg h]
theorem ar_ap_pe {k u : Nat} (h : k ≤ le) : ar_pe (ar_u so (le + 1) kd) (ar_u bw (le + 1) t) k u = ar_pe so bw k u := ar_pe_cg k u (fun j _ h1 => ⟨ar_ux (by omega), ar_ux (by omega)⟩)
theorem ar_ap_pe1 {u : Nat} : ar_pe (ar_u so (le + 1) kd) (ar_u bw (le + 1) t) (le + 1) u = if t = u ∧ ¬ kd < 2 then le + 1 else ar_pe so bw le u := by
  conv => lhs; unfold ar_pe
  rw [ar_us, ar_us, ar_ap_pe (Nat.le_refl _)]
theorem ar_ap_ct {e u : Nat} : ar_ct (ar_u bw (le + 1) t) e u (le + 1) = ar_ct bw e u le + if t = u ∧ e < le + 1 then 1 else 0 := by
  conv => lhs; unfold ar_ct
  rw [ar_us, ar_ct_cg le (fun j _ h1 => ar_ux (by omega))]
theorem ar_ap_WF (h : ar_WF so bw wh lk le) (hk : kd ≤ 3) (ht : t < 3) (hc : c < 16) (hl : l ≤ le) : ar_WF (ar_u so (le + 1) kd) (ar_u bw (le + 1) t) (ar_u wh (le + 1) c) (ar_u lk (le + 1) l) (le + 1) := by
  intro n h0 h1
  by_cases e : n = le + 1
  · rw [e, ar_us, ar_us, ar_us, ar_us]; exact ⟨hk, ht, hc, by omega⟩
  · rw [ar_un e, ar_un e, ar_un e, ar_un e]; exact h n h0 (by omega)
theorem ar_ap_c (h : ar_WF so bw wh lk le) {lim n : Nat} (hn : n ≤ le) : ar_c (ar_u so (le + 1) kd) (ar_u wh (le + 1) c) (ar_u lk (le + 1) l) (upd bf (le + 1) o) lim n = ar_c so wh lk bf lim n :=
  ar_c_cg (N := le) (fun m h0 h1 => (h m h0 h1).2.2.2) (fun j _ h1 => ⟨ar_ux h1, ar_ux h1, ar_ux h1, ar_ux h1⟩) n hn
theorem ar_ap_c0 (h : ar_WF so bw wh lk le) {lim : Nat} (hk : kd = 0) (hl : l ≤ le) (hlim : lim ≤ le) : ar_c (ar_u so (le + 1) kd) (ar_u wh (le + 1) c) (ar_u lk (le + 1) l) (upd bf (le + 1) o) lim (le + 1) = (c, o) :: ar_c so wh lk bf lim l := by
  have h' : ∀ m, 0 < m → m ≤ le + 1 → (ar_u lk (le + 1) l) m < m := by
    intro m h0 h1
    by_cases e : m = le + 1
    · rw [e, ar_us]; omega
    · rw [ar_un e]; exact (h m h0 (by omega)).2.2.2
  rw [ar_c_s h' (Nat.le_refl _) (by omega) (by rw [ar_us]; exact hk), ar_us, ar_us, ar_ap_c h hl]
  show (c, upd bf (le + 1) o (le + 1)) :: _ = _
  rw [pk_us]
theorem ar_ap_c1 (h : ar_WF so bw wh lk le) {lim : Nat} (hk : kd ≠ 0) (hl : l ≤ le) (hlim : lim ≤ le) : ar_c (ar_u so (le + 1) kd) (ar_u wh (le + 1) c) (ar_u lk (le + 1) l) (upd bf (le + 1) o) lim (le + 1) = ar_c so wh lk bf lim l := by
  have h' : ∀ m, 0 < m → m ≤ le + 1 → (ar_u lk (le + 1) l) m < m := by
    intro m h0 h1
    by_cases e : m = le + 1
    · rw [e, ar_us]; omega
    · rw [ar_un e]; exact (h m h0 (by omega)).2.2.2
  rw [ar_c_o h' (Nat.le_refl _) (by omega) (by rw [ar_us]; exact hk), ar_us, ar_ap_c h hl]
theorem ar_ap_Q (h : ar_WF so bw wh lk le) {k u : Nat} (hk : k ≤ le) : ar_Q (ar_u so (le + 1) kd) (ar_u bw (le + 1) t) (ar_u wh (le + 1) c) (ar_u lk (le + 1) l) (upd bf (le + 1) o) k u = ar_Q so bw wh lk bf k u := by
  unfold ar_Q
  rw [ar_ap_lo hk]
  exact ar_ap_c h (Nat.le_trans (ar_lo_le k u) hk)
theorem ar_ap_Qu (h : ar_WF so bw wh lk le) {u : Nat} (hu : u ≠ t) : ar_Q (ar_u so (le + 1) kd) (ar_u bw (le + 1) t) (ar_u wh (le + 1) c) (ar_u lk (le + 1) l) (upd bf (le + 1) o) (le + 1) u = ar_Q so bw wh lk bf le u := by
  unfold ar_Q
  rw [ar_ap_lo1, if_neg (fun z => hu z.symm)]
  exact ar_ap_c h (ar_lo_le le u)
theorem ar_ap_Qt0 (h : ar_WF so bw wh lk le) (hk : kd = 0) (hl : l ≤ le) : ar_Q (ar_u so (le + 1) kd) (ar_u bw (le + 1) t) (ar_u wh (le + 1) c) (ar_u lk (le + 1) l) (upd bf (le + 1) o) (le + 1) t = (c, o) :: ar_c so wh lk bf 0 l := by
  unfold ar_Q
  rw [ar_ap_lo1, if_pos rfl, if_pos (by omega)]
  exact ar_ap_c0 h hk hl (Nat.zero_le _)
theorem ar_ap_Qt1 (h : ar_WF so bw wh lk le) (hk : kd = 1) (hl : l ≤ le) : ar_Q (ar_u so (le + 1) kd) (ar_u bw (le + 1) t) (ar_u wh (le + 1) c) (ar_u lk (le + 1) l) (upd bf (le + 1) o) (le + 1) t = ar_c so wh lk bf 0 l := by
  unfold ar_Q
  rw [ar_ap_lo1, if_pos rfl, if_pos (by omega)]
  exact ar_ap_c1 h (by omega) hl (Nat.zero_le _)
theorem ar_ap_Qt2 (hk : ¬ kd < 2) : ar_Q (ar_u so (le + 1) kd) (ar_u bw (le + 1) t) (ar_u wh (le + 1) c) (ar_u lk (le + 1) l) (upd bf (le + 1) o) (le + 1) t = [] := by
  unfold ar_Q
  rw [ar_ap_lo1, if_pos rfl, if_neg hk]
  exact ar_c_0
theorem ar_ap_G (h : ar_WF so bw wh lk le) {k : Nat} (hk : k ≤ le) (hG : ar_G so bw wh lk bf af B C k) : ar_G (ar_u so (le + 1) kd) (ar_u bw (le + 1) t) (ar_u wh (le + 1) c) (ar_u lk (le + 1) l) (upd bf (le + 1) o) (upd af (le + 1) v) B C k := by
  have e1 : ar_Q (ar_u so (le + 1) kd) (ar_u bw (le + 1) t) (ar_u wh (le + 1) c) (ar_u lk (le + 1) l) (upd bf (le + 1) o) k = ar_Q so bw wh lk bf k := funext fun u => ar_ap_Q h hk
  have e2 : ar_lo (ar_u so (le + 1) kd) (ar_u bw (le + 1) t) k = ar_lo so bw k := funext fun u => ar_ap_lo hk
  have e3 : ar_vl (ar_u so (le + 1) kd) (ar_u wh (le + 1) c) (upd af (le + 1) v) B k = ar_vl so wh af B k := funext fun u => ar_ap_vl hk
  unfold ar_G
  rw [e1, e2, e3]
  exact hG
/-- a write: the rollback is the same -/
theorem ar_ap_G0 (h : ar_WF so bw wh lk le) (hG : ar_G so bw wh lk bf af B C le) (ht : t < 3) (hk : kd = 0) (hl : l = ar_lo so bw le t) (ho : o = ar_vl so wh af B le c)
    (hn : ∀ u, u < 3 → u ≠ t → ¬ ar_in (ar_Q so bw wh lk bf le u) c) (hle : le + 1 ≤ 201) (hw : ∀ u, u < 3 → (ar_Q (ar_u so (le + 1) kd) (ar_u bw (le + 1) t) (ar_u wh (le + 1) c) (ar_u lk (le + 1) l) (upd bf (le + 1) o) (le + 1) u).length ≤ 20) :
    ar_G (ar_u so (le + 1) kd) (ar_u bw (le + 1) t) (ar_u wh (le + 1) c) (ar_u lk (le + 1) l) (upd bf (le + 1) o) (upd af (le + 1) v) B C (le + 1) := by
  refine ⟨ar_RB_push (c := c) (v := v) hG.1 ht ?_ (fun u _ hu => ar_ap_Qu h hu) hn (fun x _ => ar_ap_vl1 (by omega)), ?_⟩
  · rw [ar_ap_Qt0 h hk (by rw [hl]; exact ar_lo_le le t), ho, hl]; rfl
  · have := ar_wt_le (lo := ar_lo (ar_u so (le + 1) kd) (ar_u bw (le + 1) t) (le + 1)) hw
    omega
/-- an undoing -/
theorem ar_ap_G1 (h : ar_WF so bw wh lk le) (hG : ar_G so bw wh lk bf af B C le) (ht : t < 3) (hk : kd = 1) (hl : l ≤ le) (hq : ar_Q so bw wh lk bf le t = (c, v) :: ar_c so wh lk bf 0 l) :
    ar_G (ar_u so (le + 1) kd) (ar_u bw (le + 1) t) (ar_u wh (le + 1) c) (ar_u lk (le + 1) l) (upd bf (le + 1) o) (upd af (le + 1) v) B C (le + 1) := by
  have q := ar_ap_Qt1 (bf := bf) (kd := kd) (t := t) (c := c) (o := o) h hk hl
  refine ⟨ar_RB_pop (c := c) (o := v) (t := t) hG.1 ht (by rw [q, hq]) (fun u _ hu => ar_ap_Qu h hu) (fun x _ => ar_ap_vl1 (by omega)), ?_⟩
  have hz : ar_lo so bw le t ≠ 0 := by
    intro z
    unfold ar_Q at hq
    rw [z, ar_c_0] at hq
    exact nomatch hq
  have e := ar_wt_d (P := ar_Q so bw wh lk bf le) (lo := ar_lo so bw le) (P' := ar_Q (ar_u so (le + 1) kd) (ar_u bw (le + 1) t) (ar_u wh (le + 1) c) (ar_u lk (le + 1) l) (upd bf (le + 1) o) (le + 1)) (lo' := ar_lo (ar_u so (le + 1) kd) (ar_u bw (le + 1) t) (le + 1)) (d := 1) ht (by
      unfold ar_w1
      rw [q, hq, ar_ap_lot (show kd < 2 by omega), if_neg hz, if_neg (by omega), List.length_cons]) (fun u _ hu => by
      unfold ar_w1
      rw [ar_ap_Qu h hu, ar_ap_lou hu])
  have := hG.2
  omega
/-- an end of a transaction with nothing pending -/
theorem ar_ap_G2 (h : ar_WF so bw wh lk le) (hG : ar_G so bw wh lk bf af B C le) (ht : t < 3) (hk : ¬ kd < 2) (hq : ar_Q so bw wh lk bf le t = []) (hz : ar_lo so bw le t ≠ 0 ∨ le + ar_wt (ar_Q so bw wh lk bf le) (ar_lo so bw le) < 264) :
    ar_G (ar_u so (le + 1) kd) (ar_u bw (le + 1) t) (ar_u wh (le + 1) c) (ar_u lk (le + 1) l) (upd bf (le + 1) o) (upd af (le + 1) v) B C (le + 1) := by
  have q := ar_ap_Qt2 (so := so) (bw := bw) (wh := wh) (lk := lk) (bf := bf) (le := le) (t := t) (c := c) (l := l) (o := o) hk
  refine ⟨ar_RB_same hG.1 (fun u _ => ?_) (fun x _ => ar_ap_vl2 hk), ?_⟩
  · by_cases e : u = t
    · rw [e, q, hq]
    · exact ar_ap_Qu h e
  · have hu : ∀ u, u < 3 → u ≠ t → ar_w1 (ar_Q (ar_u so (le + 1) kd) (ar_u bw (le + 1) t) (ar_u wh (le + 1) c) (ar_u lk (le + 1) l) (upd bf (le + 1) o) (le + 1)) (ar_lo (ar_u so (le + 1) kd) (ar_u bw (le + 1) t) (le + 1)) u = ar_w1 (ar_Q so bw wh lk bf le) (ar_lo so bw le) u := fun u _ hu => by
      unfold ar_w1
      rw [ar_ap_Qu h hu, ar_ap_lou hu]
    have := hG.2
    by_cases z : ar_lo so bw le t = 0
    · have e := ar_wt_d (P := ar_Q so bw wh lk bf le) (lo := ar_lo so bw le) (P' := ar_Q (ar_u so (le + 1) kd) (ar_u bw (le + 1) t) (ar_u wh (le + 1) c) (ar_u lk (le + 1) l) (upd bf (le + 1) o) (le + 1)) (lo' := ar_lo (ar_u so (le + 1) kd) (ar_u bw (le + 1) t) (le + 1)) (d := 0) ht (by
        unfold ar_w1
        rw [q, hq, ar_ap_lo2 hk, z]; rfl) hu
      rcases hz with hz | hz
      · exact absurd z hz
      · omega
    · have e := ar_wt_d (P := ar_Q so bw wh lk bf le) (lo := ar_lo so bw le) (P' := ar_Q (ar_u so (le + 1) kd) (ar_u bw (le + 1) t) (ar_u wh (le + 1) c) (ar_u lk (le + 1) l) (upd bf (le + 1) o) (le + 1)) (lo' := ar_lo (ar_u so (le + 1) kd) (ar_u bw (le + 1) t) (le + 1)) (d := 1) ht (by
        unfold ar_w1
        rw [q, hq, ar_ap_lo2 hk, if_neg z, if_pos rfl]) hu
      omega
end
end
section
/-! ===== the pool and the disk ===== -/
def ar_cp (d : Nat → Int32) (a : Nat) (s : Nat → Int32) (b i : Nat) : Nat → Int32 := fun c => if a ≤ c ∧ c < a + i then s (b + (c - a)) else d c
theorem ar_cp0 {d s : Nat → Int32} {a b : Nat} : ar_cp d a s b 0 = d := funext fun c => if_neg (by omega)
theorem ar_cp1 {d s : Nat → Int32} {a b i : Nat} : upd (ar_cp d a s b i) (a + i) (s (b + i)) = ar_cp d a s b (i + 1) := by
  funext c
  show (if c = a + i then s (b + i) else if a ≤ c ∧ c < a + i then s (b + (c - a)) else d c) = if a ≤ c ∧ c < a + (i + 1) then s (b + (c - a)) else d c
  by_cases e : c = a + i
  · rw [if_pos e, if_pos (by omega), show c - a = i by omega]
  · rw [if_neg e]
    by_cases h : a ≤ c ∧ c < a + i
    · rw [if_pos h, if_pos (by omega)]
    · rw [if_neg h, if_neg (by omega)]
theorem ar_cp_in {d s : Nat → Int32} {f p c : Nat} (h : c / 4 = p) : ar_cp d (4 * p) s (4 * f) 4 c = s (4 * f + c % 4) := by
  show (if 4 * p ≤ c ∧ c < 4 * p + 4 then s (4 * f + (c - 4 * p)) else d c) = _
  rw [if_pos (by omega), show c - 4 * p = c % 4 by omega]
theorem ar_cp_out {d s : Nat → Int32} {f p c : Nat} (h : c / 4 ≠ p) : ar_cp d (4 * p) s (4 * f) 4 c = d c := if_neg (by omega)
def ar_PL (fc hd : Nat) (cv : Nat → Int32) (cm : Nat → Nat) (dc : Nat → Int32) (dn pg : Nat → Nat) (fl : Nat → Int32) (fn ch : Nat → Nat) : Prop :=
  (1 ≤ fc ∧ fc ≤ 3 ∧ hd < fc) ∧
  (∀ f, f < 3 → pg f ≤ 4 ∧ (fc ≤ f → pg f = 0)) ∧
  (∀ f g, f < 3 → g < 3 → pg f ≠ 0 → pg f = pg g → f = g) ∧
  (∀ f p, f < 3 → pg f = p + 1 → fn f = cm p ∧ (ch f = 0 → dn p = cm p)) ∧
  (∀ f c, f < 3 → c < 16 → pg f = c / 4 + 1 → fl (4 * f + c % 4) = cv c ∧ (ch f = 0 → dc c = cv c)) ∧
  (∀ p, p < 4 → (∀ f, f < 3 → pg f ≠ p + 1) → dn p = cm p) ∧
  (∀ c, c < 16 → (∀ f, f < 3 → pg f ≠ c / 4 + 1) → dc c = cv c)
def ar_DL (Z : Nat → Nat → Nat) (V : Nat → Nat → Int32) (le se fr n : Nat) (cv : Nat → Int32) (cm : Nat → Nat) (dc : Nat → Int32) (dn pg ch : Nat → Nat) : Prop :=
  (se ≤ le ∧ 1 ≤ fr ∧ fr ≤ n ∧ fr ≤ se + 1 ∧ n ≤ le + 1) ∧
  (∀ p, p < 4 → dn p ≤ se ∧ cm p ≤ le) ∧
  (∀ c, c < 16 → (Z se c ≤ dn (c / 4) ∨ Z se c < fr) → dc c = V se c) ∧
  (∀ c, c < 16 → (Z le c ≤ cm (c / 4) ∨ Z le c < n) → cv c = V le c) ∧
  (∀ c, c < 16 → (Z le c ≤ cm (c / 4) ∨ Z le c ≤ se)) ∧
  (∀ f p, f < 3 → pg f = p + 1 → ch f ≤ le) ∧
  (∀ f c, f < 3 → c < 16 → pg f = c / 4 + 1 → ch f ≠ 0 → (Z le c ≤ dn (c / 4) ∨ Z le c < ch f) → dc c = V le c)
def ar_ZV (Z : Nat → Nat → Nat) (V : Nat → Nat → Int32) : Prop := (∀ k c, Z k c ≤ k) ∧ ∀ k m c, k ≤ m → Z m c ≤ k → Z k c = Z m c ∧ V k c = V m c
theorem ar_zv {so wh : Nat → Nat} {af B : Nat → Int32} : ar_ZV (ar_lz so wh) (ar_vl so wh af B) := ⟨ar_lz_le, fun k m c h z => ⟨ar_lz_st m k c h z, ar_vl_st h z⟩⟩
section
variable {Z : Nat → Nat → Nat} {V : Nat → Nat → Int32} {le se fr n fc hd : Nat} {cv dc fl : Nat → Int32} {cm dn pg fn ch : Nat → Nat}
/-- a changed page goes out -/
theorem ar_wp_PL {f p : Nat} (h : ar_PL fc hd cv cm dc dn pg fl fn ch) (hf : f < 3) (hp : pg f = p + 1) :
    ar_PL fc hd cv cm (ar_cp dc (4 * p) fl (4 * f) 4) (ar_u dn p (fn f)) pg fl fn (ar_u ch f 0) := by
  obtain ⟨a1, a2, a3, a4, a5, a6, a7⟩ := h
  have q4 : p < 4 := by have := (a2 f hf).1; omega
  refine ⟨a1, a2, a3, fun g q hg hq => ?_, fun g c hg hc hq => ?_, fun q hq hn => ?_, fun c hc hn => ?_⟩
  · by_cases e : g = f
    · have eq : q = p := by rw [e, hp] at hq; omega
      rw [e, eq]
      exact ⟨(a4 f p hf hp).1, fun _ => by rw [ar_us]; exact (a4 f p hf hp).1⟩
    · have eq : q ≠ p := fun z => e (a3 g f hg hf (by omega) (by rw [hq, hp, z]))
      rw [ar_un e, ar_un eq]
      exact a4 g q hg hq
  · by_cases e : g = f
    · have eq : c / 4 = p := by rw [e, hp] at hq; omega
      rw [e]
      rw [e] at hq
      refine ⟨(a5 f c hf hc hq).1, fun _ => ?_⟩
      rw [ar_cp_in eq]
      exact (a5 f c hf hc hq).1
    · have eq : c / 4 ≠ p := fun z => e (a3 g f hg hf (by omega) (by rw [hq, hp, z]))
      rw [ar_un e, ar_cp_out eq]
      exact a5 g c hg hc hq
  · have eq : q ≠ p := fun z => hn f hf (by rw [hp, z])
    rw [ar_un eq]
    exact a6 q hq hn
  · have eq : c / 4 ≠ p := fun z => hn f hf (by rw [hp, z])
    rw [ar_cp_out eq]
    exact a7 c hc hn
theorem ar_wp_DL {f p s : Nat} (hZ : ar_ZV Z V) (h : ar_PL fc hd cv cm dc dn pg fl fn ch) (d : ar_DL Z V le se fr n cv cm dc dn pg ch) (hf : f < 3) (hp : pg f = p + 1) (hs : s = if fn f ≤ se then se else fn f) :
    ar_DL Z V le s fr n cv cm (ar_cp dc (4 * p) fl (4 * f) 4) (ar_u dn p (fn f)) pg (ar_u ch f 0) := by
  obtain ⟨a1, a2, a3, a4, a5, a6, a7⟩ := h
  obtain ⟨b1, b2, b3, b4, b5, b6, b7⟩ := d
  have q4 : p < 4 := by have := (a2 f hf).1; omega
  have ef := (a4 f p hf hp).1
  have hcm := (b2 p q4).2
  have s1 : se ≤ s := by rw [hs]; by_cases z : fn f ≤ se
                         · rw [if_pos z]; exact Nat.le_refl _
                         · rw [if_neg z]; omega
  have s2 : fn f ≤ s := by rw [hs]; by_cases z : fn f ≤ se
                           · rw [if_pos z]; exact z
                           · rw [if_neg z]; exact Nat.le_refl _
  have s3 : s ≤ le := by rw [hs]; by_cases z : fn f ≤ se
                         · rw [if_pos z]; exact b1.1
                         · rw [if_neg z]; omega
  refine ⟨⟨s3, b1.2.1, b1.2.2.1, by omega, b1.2.2.2.2⟩, fun q hq => ?_, fun c hc hz => ?_, b4, fun c hc => ?_, fun g q hg hq => ?_, fun g c hg hc hq hch hz => ?_⟩
  · by_cases e : q = p
    · rw [e, ar_us]; exact ⟨s2, hcm⟩
    · rw [ar_un e]; exact ⟨Nat.le_trans (b2 q hq).1 s1, (b2 q hq).2⟩
  · by_cases e : c / 4 = p
    · rw [e, ar_us] at hz
      have hle : Z le c ≤ s := by rcases b5 c hc with z | z
                                  · rw [e] at z; omega
                                  · omega
      obtain ⟨z1, z2⟩ := hZ.2 s le c s3 hle
      rw [ar_cp_in e, (a5 f c hf hc (by rw [hp, e])).1, z2]
      apply b4 c hc
      rw [e]
      rw [z1] at hz
      rcases hz with hz | hz
      · exact Or.inl (by omega)
      · exact Or.inr (by omega)
    · rw [ar_un e] at hz
      have hd1 := (b2 (c / 4) (by omega)).1
      have hle : Z s c ≤ se := by rcases hz with hz | hz
                                  · omega
                                  · omega
      obtain ⟨z1, z2⟩ := hZ.2 se s c s1 hle
      rw [ar_cp_out e, ← z2]
      exact b3 c hc (by rw [z1]; exact hz)
  · rcases b5 c hc with z | z
    · exact Or.inl z
    · exact Or.inr (by omega)
  · by_cases e : g = f
    · rw [e, ar_us]; exact Nat.zero_le _
    · rw [ar_un e]; exact b6 g q hg hq
  · by_cases e : g = f
    · rw [e, ar_us] at hch; exact absurd rfl hch
    · have eq : c / 4 ≠ p := fun z => e (a3 g f hg hf (by omega) (by rw [hq, hp, z]))
      rw [ar_un e] at hch hz
      rw [ar_un eq] at hz
      rw [ar_cp_out eq]
      exact b7 g c hg hc hq hch hz
/-- a page comes in, into a frame that is free or unchanged -/
theorem ar_br_PL {f p hd' : Nat} (h : ar_PL fc hd cv cm dc dn pg fl fn ch) (hf : f < fc) (hp : p < 4) (hn : ∀ g, g < 3 → pg g ≠ p + 1) (hc : pg f ≠ 0 → ch f = 0) (hh : hd' < fc) :
    ar_PL fc hd' cv cm dc dn (ar_u pg f (p + 1)) (ar_cp fl (4 * f) dc (4 * p) 4) (ar_u fn f (dn p)) (ar_u ch f 0) := by
  obtain ⟨a1, a2, a3, a4, a5, a6, a7⟩ := h
  have hf3 : f < 3 := by omega
  have fl_o : ∀ g c, g ≠ f → ar_cp fl (4 * f) dc (4 * p) 4 (4 * g + c % 4) = fl (4 * g + c % 4) := fun g c e => if_neg (by omega)
  have fl_i : ∀ c, c / 4 = p → ar_cp fl (4 * f) dc (4 * p) 4 (4 * f + c % 4) = dc c := fun c e => by
    show (if 4 * f ≤ 4 * f + c % 4 ∧ 4 * f + c % 4 < 4 * f + 4 then dc (4 * p + (4 * f + c % 4 - 4 * f)) else _) = _
    rw [if_pos (by omega), show 4 * p + (4 * f + c % 4 - 4 * f) = c by omega]
  refine ⟨⟨a1.1, a1.2.1, hh⟩, fun g hg => ?_, fun g g' hg hg' h0 he => ?_, fun g q hg hq => ?_, fun g c hg hc' hq => ?_, fun q hq hn' => ?_, fun c hc' hn' => ?_⟩
  · by_cases e : g = f
    · rw [e, ar_us]; exact ⟨by omega, fun z => by omega⟩
    · rw [ar_un e]; exact a2 g hg
  · by_cases e : g = f
    · by_cases e' : g' = f
      · rw [e, e']
      · rw [e, ar_us, ar_un e'] at he
        exact absurd he.symm (hn g' hg')
    · by_cases e' : g' = f
      · rw [e', ar_us, ar_un e] at he
        exact absurd he (hn g hg)
      · rw [ar_un e, ar_un e'] at he
        rw [ar_un e] at h0
        exact a3 g g' hg hg' h0 he
  · by_cases e : g = f
    · rw [e, ar_us] at hq
      have eq : q = p := by omega
      rw [e, eq, ar_us]
      exact ⟨a6 p hp hn, fun _ => a6 p hp hn⟩
    · rw [ar_un e] at hq
      rw [ar_un e, ar_un e]
      exact a4 g q hg hq
  · by_cases e : g = f
    · rw [e, ar_us] at hq
      have eq : c / 4 = p := by omega
      rw [e, fl_i c eq]
      have := a7 c hc' (fun g hg => by rw [eq]; exact hn g hg)
      exact ⟨this, fun _ => this⟩
    · rw [ar_un e] at hq
      rw [fl_o g c e, ar_un e]
      exact a5 g c hg hc' hq
  · by_cases z : pg f = q + 1
    · exact (a4 f q hf3 z).2 (hc (by omega))
    · refine a6 q hq (fun g hg => ?_)
      by_cases e : g = f
      · rw [e]; exact z
      · have := hn' g hg
        rw [ar_un e] at this
        exact this
  · by_cases z : pg f = c / 4 + 1
    · exact (a5 f c hf3 hc' z).2 (hc (by omega))
    · refine a7 c hc' (fun g hg => ?_)
      by_cases e : g = f
      · rw [e]; exact z
      · have := hn' g hg
        rw [ar_un e] at this
        exact this
theorem ar_br_DL {f p : Nat} (d : ar_DL Z V le se fr n cv cm dc dn pg ch) : ar_DL Z V le se fr n cv cm dc dn (ar_u pg f (p + 1)) (ar_u ch f 0) := by
  obtain ⟨b1, b2, b3, b4, b5, b6, b7⟩ := d
  refine ⟨b1, b2, b3, b4, b5, fun g q hg hq => ?_, fun g c hg hc hq hch hz => ?_⟩
  · by_cases e : g = f
    · rw [e, ar_us]; exact Nat.zero_le _
    · rw [ar_un e] at hq ⊢; exact b6 g q hg hq
  · by_cases e : g = f
    · rw [e, ar_us] at hch; exact absurd rfl hch
    · rw [ar_un e] at hq hch hz; exact b7 g c hg hc hq hch hz
/-- a value goes into a page of the pool under the number m -/
theorem ar_ae_PL {f c m : Nat} {v : Int32} (h : ar_PL fc hd cv cm dc dn pg fl fn ch) (hf : f < 3) (hc : c < 16) (hp : pg f = c / 4 + 1) (hm : 0 < m) :
    ar_PL fc hd (upd cv c v) (ar_u cm (c / 4) m) dc dn pg (upd fl (4 * f + c % 4) v) (ar_u fn f m) (if ch f = 0 then ar_u ch f m else ch) := by
  obtain ⟨a1, a2, a3, a4, a5, a6, a7⟩ := h
  have ch1 : (if ch f = 0 then ar_u ch f m else ch) f ≠ 0 := by
    by_cases z : ch f = 0
    · rw [if_pos z, ar_us]; omega
    · rw [if_neg z]; exact z
  have ch2 : ∀ g, g ≠ f → (if ch f = 0 then ar_u ch f m else ch) g = ch g := by
    intro g e
    by_cases z : ch f = 0
    · rw [if_pos z, ar_un e]
    · rw [if_neg z]
  refine ⟨a1, a2, a3, fun g q hg hq => ?_, fun g x hg hx hq => ?_, fun q hq hn => ?_, fun x hx hn => ?_⟩
  · by_cases e : g = f
    · have eq : q = c / 4 := by rw [e, hp] at hq; omega
      rw [e, eq, ar_us, ar_us]
      exact ⟨rfl, fun z => absurd z ch1⟩
    · have eq : q ≠ c / 4 := fun z => e (a3 g f hg hf (by omega) (by rw [hq, hp, z]))
      rw [ar_un e, ar_un eq, ch2 g e]
      exact a4 g q hg hq
  · by_cases e : g = f
    · have eq : x / 4 = c / 4 := by rw [e, hp] at hq; omega
      rw [e] at hq ⊢
      refine ⟨?_, fun z => absurd z ch1⟩
      by_cases ex : x = c
      · rw [ex, pk_us, pk_us]
      · rw [pk_un ex, pk_un (by omega)]; exact (a5 f x hf hx hq).1
    · have eq : x / 4 ≠ c / 4 := fun z => e (a3 g f hg hf (by omega) (by rw [hq, hp, z]))
      have ex : x ≠ c := fun z => eq (by rw [z])
      rw [ch2 g e, pk_un ex, pk_un (by omega)]
      exact a5 g x hg hx hq
  · have eq : q ≠ c / 4 := fun z => hn f hf (by rw [hp, z])
    rw [ar_un eq]; exact a6 q hq hn
  · have ex : x ≠ c := fun z => hn f hf (by rw [hp, z])
    rw [pk_un ex]; exact a7 x hx hn
/-- one entry is done again -/
theorem ar_re_DL {f c : Nat} {v : Int32} (h : ar_PL fc hd cv cm dc dn pg fl fn ch) (d : ar_DL Z V le se fr n cv cm dc dn pg ch) (hf : f < 3) (hc : c < 16) (hp : pg f = c / 4 + 1) (hn : n ≤ le) (hg : fn f < n)
    (h1 : n ≤ Z le c) (h2 : ∀ x, Z le x = n → x = c) (h3 : Z le c = n → V le c = v) :
    ar_DL Z V le se fr (n + 1) (upd cv c v) (ar_u cm (c / 4) n) dc dn pg (if ch f = 0 then ar_u ch f n else ch) := by
  obtain ⟨a1, a2, a3, a4, a5, a6, a7⟩ := h
  obtain ⟨b1, b2, b3, b4, b5, b6, b7⟩ := d
  have ef := (a4 f (c / 4) hf hp).1
  have n0 : 0 < n := by omega
  have ch2 : ∀ g, g ≠ f → (if ch f = 0 then ar_u ch f n else ch) g = ch g := by
    intro g e
    by_cases z : ch f = 0
    · rw [if_pos z, ar_un e]
    · rw [if_neg z]
  refine ⟨⟨b1.1, b1.2.1, by omega, b1.2.2.2.1, by omega⟩, fun q hq => ?_, b3, fun x hx hz => ?_, fun x hx => ?_, fun g q hg hq => ?_, fun g x hg' hx hq hch hz => ?_⟩
  · by_cases e : q = c / 4
    · rw [e, ar_us]; exact ⟨(b2 _ (by omega)).1, hn⟩
    · rw [ar_un e]; exact b2 q hq
  · by_cases ex : x = c
    · rw [ex, pk_us]
      rw [ex, ar_us] at hz
      exact (h3 (by omega)).symm
    · rw [pk_un ex]
      have zn : Z le x ≠ n := fun z => ex (h2 x z)
      apply b4 x hx
      by_cases e : x / 4 = c / 4
      · rw [e, ar_us] at hz; exact Or.inr (by omega)
      · rw [ar_un e] at hz
        rcases hz with hz | hz
        · exact Or.inl hz
        · exact Or.inr (by omega)
  · by_cases e : x / 4 = c / 4
    · rw [e, ar_us]
      rcases b5 x hx with z | z
      · rw [e] at z; exact Or.inl (by omega)
      · exact Or.inr z
    · rw [ar_un e]; exact b5 x hx
  · by_cases e : g = f
    · rw [e]
      by_cases z : ch f = 0
      · rw [if_pos z, ar_us]; exact hn
      · rw [if_neg z]; exact b6 f q hf (by rw [← e]; exact hq)
    · rw [ch2 g e]; exact b6 g q hg hq
  · by_cases e : g = f
    · rw [e] at hq hz
      by_cases z : ch f = 0
      · rw [if_pos z, ar_us] at hz
        have eq : x / 4 = c / 4 := by omega
        have q1 := (a4 f (x / 4) hf hq)
        rw [(a5 f x hf hx hq).2 z]
        apply b4 x hx
        rcases hz with hz | hz
        · exact Or.inl (by rw [← q1.2 z]; exact hz)
        · exact Or.inr hz
      · rw [if_neg z] at hz
        exact b7 f x hf hx hq z hz
    · rw [ch2 g e] at hch hz
      exact b7 g x hg' hx hq hch hz
/-- an entry that is in its page already, or is an end -/
theorem ar_sk_DL (d : ar_DL Z V le se fr n cv cm dc dn pg ch) (hn : n ≤ le) (h2 : ∀ x, x < 16 → Z le x = n → n ≤ cm (x / 4)) : ar_DL Z V le se fr (n + 1) cv cm dc dn pg ch := by
  obtain ⟨b1, b2, b3, b4, b5, b6, b7⟩ := d
  refine ⟨⟨b1.1, b1.2.1, by omega, b1.2.2.2.1, by omega⟩, b2, b3, fun x hx hz => b4 x hx ?_, b5, b6, b7⟩
  by_cases e : Z le x = n
  · exact Or.inl (by rw [e]; exact h2 x hx e)
  · rcases hz with hz | hz
    · exact Or.inl hz
    · exact Or.inr (by omega)
/-- an entry is appended, and its value goes into its page -/
theorem ar_ap_DL {Z' : Nat → Nat → Nat} {V' : Nat → Nat → Int32} {f c : Nat} {v : Int32} (hZ : ar_ZV Z V) (h : ar_PL fc hd cv cm dc dn pg fl fn ch) (d : ar_DL Z V le se fr (le + 1) cv cm dc dn pg ch) (hf : f < 3) (hc : c < 16) (hp : pg f = c / 4 + 1)
    (z1 : ∀ k x, k ≤ le → Z' k x = Z k x ∧ V' k x = V k x) (z2 : ∀ x, Z' (le + 1) x = if x = c then le + 1 else Z le x) (z3 : ∀ x, V' (le + 1) x = if x = c then v else V le x) :
    ar_DL Z' V' (le + 1) se fr (le + 1 + 1) (upd cv c v) (ar_u cm (c / 4) (le + 1)) dc dn pg (if ch f = 0 then ar_u ch f (le + 1) else ch) := by
  obtain ⟨a1, a2, a3, a4, a5, a6, a7⟩ := h
  obtain ⟨b1, b2, b3, b4, b5, b6, b7⟩ := d
  have cva : ∀ x, x < 16 → cv x = V le x := fun x hx => b4 x hx (Or.inr (by have := hZ.1 le x; omega))
  have ch2 : ∀ g, g ≠ f → (if ch f = 0 then ar_u ch f (le + 1) else ch) g = ch g := by
    intro g e
    by_cases z : ch f = 0
    · rw [if_pos z, ar_un e]
    · rw [if_neg z]
  refine ⟨⟨by omega, b1.2.1, by omega, b1.2.2.2.1, by omega⟩, fun q hq => ?_, fun x hx hz => ?_, fun x hx _ => ?_, fun x hx => ?_, fun g q hg hq => ?_, fun g x hg hx hq hch hz => ?_⟩
  · by_cases e : q = c / 4
    · rw [e, ar_us]; exact ⟨(b2 _ (by omega)).1, by omega⟩
    · rw [ar_un e]; exact ⟨(b2 q hq).1, by have := (b2 q hq).2; omega⟩
  · rw [(z1 se x b1.1).2]
    rw [(z1 se x b1.1).1] at hz
    exact b3 x hx hz
  · rw [z3]
    by_cases e : x = c
    · rw [if_pos e, e, pk_us]
    · rw [if_neg e, pk_un e]; exact cva x hx
  · rw [z2]
    by_cases e : x = c
    · rw [if_pos e, e, ar_us]; exact Or.inl (Nat.le_refl _)
    · rw [if_neg e]
      by_cases e' : x / 4 = c / 4
      · rw [e', ar_us]; exact Or.inl (by have := hZ.1 le x; omega)
      · rw [ar_un e']; exact b5 x hx
  · by_cases e : g = f
    · rw [e]
      by_cases z : ch f = 0
      · rw [if_pos z, ar_us]; omega
      · rw [if_neg z]; have := b6 f q hf (by rw [← e]; exact hq); omega
    · rw [ch2 g e]; have := b6 g q hg hq; omega
  · rw [z2] at hz
    rw [z3]
    have hdn := (b2 (x / 4) (by omega)).1
    by_cases ex : x = c
    · exfalso
      rw [if_pos ex] at hz
      rcases hz with hz | hz
      · omega
      · by_cases e : g = f
        · rw [e] at hz
          by_cases z : ch f = 0
          · rw [if_pos z, ar_us] at hz; omega
          · rw [if_neg z] at hz
            have := b6 f (c / 4) hf hp
            omega
        · rw [ch2 g e] at hz
          have := b6 g (x / 4) hg hq
          omega
    · rw [if_neg ex] at hz ⊢
      by_cases e : g = f
      · rw [e] at hz hq
        by_cases z : ch f = 0
        · rw [(a5 f x hf hx hq).2 z]; exact cva x hx
        · rw [if_neg z] at hz; exact b7 f x hf hx hq z hz
      · rw [ch2 g e] at hz hch
        exact b7 g x hg hx hq hch hz
/-- an end is appended -/
theorem ar_en_DL {Z' : Nat → Nat → Nat} {V' : Nat → Nat → Int32} (d : ar_DL Z V le se fr (le + 1) cv cm dc dn pg ch) (hZ : ar_ZV Z V)
    (z1 : ∀ k x, k ≤ le → Z' k x = Z k x ∧ V' k x = V k x) (z2 : ∀ x, Z' (le + 1) x = Z le x) (z3 : ∀ x, V' (le + 1) x = V le x) :
    ar_DL Z' V' (le + 1) se fr (le + 1 + 1) cv cm dc dn pg ch := by
  obtain ⟨b1, b2, b3, b4, b5, b6, b7⟩ := d
  refine ⟨⟨by omega, b1.2.1, by omega, b1.2.2.2.1, by omega⟩, fun q hq => ⟨(b2 q hq).1, by have := (b2 q hq).2; omega⟩, fun x hx hz => ?_, fun x hx _ => ?_, fun x hx => ?_, fun g q hg hq => by have := b6 g q hg hq; omega, fun g x hg hx hq hch hz => ?_⟩
  · rw [(z1 se x b1.1).2]
    rw [(z1 se x b1.1).1] at hz
    exact b3 x hx hz
  · rw [z3]; exact b4 x hx (Or.inr (by have := hZ.1 le x; omega))
  · rw [z2]; exact b5 x hx
  · rw [z2] at hz; rw [z3]; exact b7 g x hg hx hq hch hz
/-- the safe end grows -/
theorem ar_se_DL {s : Nat} (hZ : ar_ZV Z V) (d : ar_DL Z V le se fr n cv cm dc dn pg ch) (h1 : se ≤ s) (h2 : s ≤ le) : ar_DL Z V le s fr n cv cm dc dn pg ch := by
  obtain ⟨b1, b2, b3, b4, b5, b6, b7⟩ := d
  refine ⟨⟨h2, b1.2.1, b1.2.2.1, by omega, b1.2.2.2.2⟩, fun q hq => ⟨by have := (b2 q hq).1; omega, (b2 q hq).2⟩, fun c hc hz => ?_, b4, fun x hx => ?_, b6, b7⟩
  · have hd1 := (b2 (c / 4) (by omega)).1
    have hle : Z s c ≤ se := by rcases hz with hz | hz <;> omega
    obtain ⟨z1, z2⟩ := hZ.2 se s c h1 hle
    rw [← z2]
    exact b3 c hc (by rw [z1]; exact hz)
  · rcases b5 x hx with z | z
    · exact Or.inl z
    · exact Or.inr (by omega)
end
end
section
/-! ===== reads and sums ===== -/
theorem ar_Nv {g : Nat → Nat} {k : Nat} (h : k < 2000000000) : ar_N g (nI k).toNatClampNeg = nI (g k) := by rw [ar_cl h]; rfl
theorem ar_Iv {g : Nat → Int32} {k : Nat} (h : k < 2000000000) : g (nI k).toNatClampNeg = g k := by rw [ar_cl h]
theorem ar_Pv0 {g : Nat → Nat} {k : Nat} (h : k < 2000000000) (e : g k = 0) : ar_P g (nI k).toNatClampNeg = -1 := by
  rw [ar_cl h]; show nI (g k) + (-1) = -1; rw [e]; decide
theorem ar_Pv1 {g : Nat → Nat} {k p : Nat} (h : k < 2000000000) (e : g k = p + 1) : ar_P g (nI k).toNatClampNeg = nI p := by
  rw [ar_cl h]; show nI (g k) + (-1) = nI p; rw [e]; exact pk_m1 p
theorem ar_Pne {g : Nat → Nat} {k p : Nat} (h : k < 2000000000) (hp : p < 4) (hg : g k ≤ 4) (e : g k ≠ p + 1) : ¬ ar_P g (nI k).toNatClampNeg = nI p := by
  by_cases z : g k = 0
  · rw [ar_Pv0 h z]
    intro y
    have := congrArg Int32.toInt y
    rw [nI_toInt (by omega), show (-1 : Int32).toInt = -1 by decide] at this
    omega
  · obtain ⟨q, hq⟩ : ∃ q, g k = q + 1 := ⟨g k - 1, by omega⟩
    rw [ar_Pv1 h hq, nI_eq (by omega) (by omega)]
    omega
theorem ar_m4 (a : Nat) : (4 : Int32) * nI a = nI (4 * a) := pk_mul 4 a
theorem ar_4 (a b : Nat) : (4 : Int32) * nI a + nI b = nI (4 * a + b) := by rw [ar_m4, nI_add]
theorem ar_and3 {c : Nat} (h : c < 2000000000) : nI c &&& 3 = nI (c % 4) := pk_andN (by omega) 2 (by decide)
theorem ar_shr2 {c : Nat} (h : c < 2000000000) : nI c >>> ((2 : Int32) &&& 31) = nI (c / 4) := pk_shrN (by omega) _ 2 (by decide)
section
variable {se ce le fc hd sl : Nat} {dc bf af fl hl : Nat → Int32} {dn cl cf so bw wh lk mv pg fn ch rn wr la mk : Nat → Nat}
/-! ===== writePage ===== -/
theorem ar_w51 {post : SX → Prop} {f p : Nat} (hf : f < 3) (hp : p < 4) (hn : fn f < 32768) (h : post ((nI se), (nI ce), (nI le), (nI fc), (nI hd), (nI sl), (ar_cp dc (4 * p) fl (4 * f) 4), (ar_N (ar_u dn p (fn f))), (ar_N cl), (ar_N cf), (ar_N so), (ar_N bw), (ar_N wh), bf, af, (ar_N lk), (ar_N mv), (ar_P pg), fl, (ar_N fn), (ar_N (ar_u ch f 0)), (ar_N rn), hl, (ar_N wr), (ar_N la), (ar_N mk))) :
    ∀ d i, i + d = 4 → wX_writePage_51 post (nI f) (nI p) (nI se) (nI ce) (nI le) (nI fc) (nI hd) (nI sl) (d + 1) (nI i) (ar_cp dc (4 * p) fl (4 * f) i) (ar_N dn) (ar_N cl) (ar_N cf) (ar_N so) (ar_N bw) (ar_N wh) bf af (ar_N lk) (ar_N mv) (ar_P pg) fl (ar_N fn) (ar_N ch) (ar_N rn) hl (ar_N wr) (ar_N la) (ar_N mk) := by
  intro d
  induction d with
  | zero =>
    intro i hi
    have e : i = 4 := by omega
    subst e
    rw [wX_writePage_51]
    exact br_t (show (4 : Int32) ≤ nI 4 by decide) ⟨vp_in_nI hf (by omega), vp_in_nI hp (by omega), nm_r (ar_Nu (ar_cl (by omega)) (by rw [ar_Nv (by omega), ar_vs hn])) ⟨vp_in_nI hf (by omega), nm_r (ar_Nu (ar_cl (by omega)) ar_vs0) h⟩⟩
  | succ d ih =>
    intro i hi
    rw [wX_writePage_51]
    refine br_f (nI_ge (b := 4) (by omega) (by omega)) ⟨by rw [ar_4]; exact vp_in_nI (by omega) (by omega), by rw [ar_4]; exact vp_in_nI (by omega) (by omega), nm_r (e' := ar_cp dc (4 * p) fl (4 * f) (i + 1)) ?_ (nm_r (nI_1 i) (ih (i + 1) (by omega)))⟩
    rw [ar_4, ar_4, ar_cl (by omega), ar_cl (by omega), ar_cp1]
theorem ar_wP0 {post : SX → Prop} {f : Nat} (hf : f < 3) (hp : pg f ≤ 4) (h0 : pg f = 0 ∨ ch f = 0) (h : post ((nI se), (nI ce), (nI le), (nI fc), (nI hd), (nI sl), dc, (ar_N dn), (ar_N cl), (ar_N cf), (ar_N so), (ar_N bw), (ar_N wh), bf, af, (ar_N lk), (ar_N mv), (ar_P pg), fl, (ar_N fn), (ar_N ch), (ar_N rn), hl, (ar_N wr), (ar_N la), (ar_N mk))) : wpX_writePage post ((nI se), (nI ce), (nI le), (nI fc), (nI hd), (nI sl), dc, (ar_N dn), (ar_N cl), (ar_N cf), (ar_N so), (ar_N bw), (ar_N wh), bf, af, (ar_N lk), (ar_N mv), (ar_P pg), fl, (ar_N fn), (ar_N ch), (ar_N rn), hl, (ar_N wr), (ar_N la), (ar_N mk)) (nI f) := by
  have v : vp_in (nI f) 3 := vp_in_nI hf (by omega)
  by_cases z : pg f = 0
  · exact ⟨v, br_t (by rw [ar_Pv0 (by omega) z]; decide) h⟩
  · obtain ⟨q, hq⟩ : ∃ q, pg f = q + 1 := ⟨pg f - 1, by omega⟩
    have hc : ch f = 0 := by omega
    exact ⟨v, br_f (by rw [ar_Pv1 (by omega) hq]; exact nI_pos (by omega)) ⟨v, br_t (by rw [ar_Nv (by omega), hc]; rfl) h⟩⟩
theorem ar_wP1 {post : SX → Prop} {f p s : Nat} (hf : f < 3) (hp : p < 4) (hq : pg f = p + 1) (hc : ch f ≠ 0) (hc2 : ch f < 32768) (hn : fn f < 32768) (hse : se < 32768) (hs : s = if fn f ≤ se then se else fn f)
    (h : post ((nI s), (nI ce), (nI le), (nI fc), (nI hd), (nI sl), (ar_cp dc (4 * p) fl (4 * f) 4), (ar_N (ar_u dn p (fn f))), (ar_N cl), (ar_N cf), (ar_N so), (ar_N bw), (ar_N wh), bf, af, (ar_N lk), (ar_N mv), (ar_P pg), fl, (ar_N fn), (ar_N (ar_u ch f 0)), (ar_N rn), hl, (ar_N wr), (ar_N la), (ar_N mk))) : wpX_writePage post ((nI se), (nI ce), (nI le), (nI fc), (nI hd), (nI sl), dc, (ar_N dn), (ar_N cl), (ar_N cf), (ar_N so), (ar_N bw), (ar_N wh), bf, af, (ar_N lk), (ar_N mv), (ar_P pg), fl, (ar_N fn), (ar_N ch), (ar_N rn), hl, (ar_N wr), (ar_N la), (ar_N mk)) (nI f) := by
  have v : vp_in (nI f) 3 := vp_in_nI hf (by omega)
  have e1 : ¬ ar_P pg (nI f).toNatClampNeg < 0 := by rw [ar_Pv1 (by omega) hq]; exact nI_pos (by omega)
  have e2 : ¬ ar_N ch (nI f).toNatClampNeg = 0 := by rw [ar_Nv (by omega)]; exact nI_ne0 (by omega) (by omega)
  by_cases z : fn f ≤ se
  · have es : s = se := by rw [hs, if_pos z]
    subst es
    have e3 : ar_N fn (nI f).toNatClampNeg ≤ nI s := by rw [ar_Nv (by omega)]; exact nI_le z (by omega)
    exact ⟨v, br_f e1 ⟨v, br_f e2 ⟨v, br_t e3 ⟨v, nm_r (ar_Pv1 (by omega) hq) ⟨5, by have := ar_w51 hf hp hn h 4 0 rfl; rw [ar_cp0] at this; exact this⟩⟩⟩⟩⟩
  · have es : s = fn f := by rw [hs, if_neg z]
    subst es
    have e3 : ¬ ar_N fn (nI f).toNatClampNeg ≤ nI se := by rw [ar_Nv (by omega)]; exact nI_ge (by omega) (by omega)
    exact ⟨v, br_f e1 ⟨v, br_f e2 ⟨v, br_f e3 ⟨v, nm_r (ar_Nv (by omega)) ⟨v, nm_r (ar_Pv1 (by omega) hq) ⟨5, by have := ar_w51 (se := fn f) hf hp hn h 4 0 rfl; rw [ar_cp0] at this; exact this⟩⟩⟩⟩⟩⟩
variable {Z : Nat → Nat → Nat} {V : Nat → Nat → Int32} {fr n : Nat} {cv : Nat → Int32} {cm : Nat → Nat}
theorem ar_WP {f : Nat} (hZ : ar_ZV Z V) (h : ar_PL fc hd cv cm dc dn pg fl fn ch) (d : ar_DL Z V le se fr n cv cm dc dn pg ch) (hle : le ≤ 300) (hf : f < 3) :
    ∃ se' dc' dn' ch', ar_PL fc hd cv cm dc' dn' pg fl fn ch' ∧ ar_DL Z V le se' fr n cv cm dc' dn' pg ch' ∧ se ≤ se' ∧ (pg f ≠ 0 → ch' f = 0) ∧ (∀ g, ch g = 0 → ch' g = 0) ∧
      ∀ (hd : Nat) (post : SX → Prop), post ((nI se'), (nI ce), (nI le), (nI fc), (nI hd), (nI sl), dc', (ar_N dn'), (ar_N cl), (ar_N cf), (ar_N so), (ar_N bw), (ar_N wh), bf, af, (ar_N lk), (ar_N mv), (ar_P pg), fl, (ar_N fn), (ar_N ch'), (ar_N rn), hl, (ar_N wr), (ar_N la), (ar_N mk)) → wpX_writePage post ((nI se), (nI ce), (nI le), (nI fc), (nI hd), (nI sl), dc, (ar_N dn), (ar_N cl), (ar_N cf), (ar_N so), (ar_N bw), (ar_N wh), bf, af, (ar_N lk), (ar_N mv), (ar_P pg), fl, (ar_N fn), (ar_N ch), (ar_N rn), hl, (ar_N wr), (ar_N la), (ar_N mk)) (nI f) := by
  have p4 := (h.2.1 f hf).1
  have sle := d.1.1
  by_cases z : pg f = 0
  · exact ⟨se, dc, dn, ch, h, d, Nat.le_refl _, fun y => absurd z y, fun g y => y, fun hd post hp => ar_wP0 hf p4 (Or.inl z) hp⟩
  · by_cases zc : ch f = 0
    · exact ⟨se, dc, dn, ch, h, d, Nat.le_refl _, fun _ => zc, fun g y => y, fun hd post hp => ar_wP0 hf p4 (Or.inr zc) hp⟩
    · obtain ⟨p, hq⟩ : ∃ p, pg f = p + 1 := ⟨pg f - 1, by omega⟩
      have c1 := d.2.2.2.2.2.1 f p hf hq
      have c2 : fn f ≤ le := by rw [(h.2.2.2.1 f p hf hq).1]; exact (d.2.1 p (by omega)).2
      refine ⟨if fn f ≤ se then se else fn f, ar_cp dc (4 * p) fl (4 * f) 4, ar_u dn p (fn f), ar_u ch f 0, ar_wp_PL h hf hq, ar_wp_DL hZ h d hf hq rfl, ?_, fun _ => ar_us, fun g y => ?_, fun hd post hp => ar_wP1 hf (by omega) hq zc (by omega) (by omega) (by omega) rfl hp⟩
      · by_cases y : fn f ≤ se
        · rw [if_pos y]; exact Nat.le_refl _
        · rw [if_neg y]; omega
      · by_cases e : g = f
        · rw [e, ar_us]
        · rw [ar_un e]; exact y
theorem ar_WA2 (hZ : ar_ZV Z V) (hle : le ≤ 300) : ∀ d i se dc dn ch, i + d = fc → ar_PL fc hd cv cm dc dn pg fl fn ch → ar_DL Z V le se fr n cv cm dc dn pg ch → (∀ g, g < i → pg g ≠ 0 → ch g = 0) →
    ∃ se' dc' dn' ch', ar_PL fc hd cv cm dc' dn' pg fl fn ch' ∧ ar_DL Z V le se' fr n cv cm dc' dn' pg ch' ∧ se ≤ se' ∧ (∀ g, g < fc → pg g ≠ 0 → ch' g = 0) ∧
      ∀ (post : SX → Prop), post ((nI se'), (nI ce), (nI le), (nI fc), (nI hd), (nI sl), dc', (ar_N dn'), (ar_N cl), (ar_N cf), (ar_N so), (ar_N bw), (ar_N wh), bf, af, (ar_N lk), (ar_N mv), (ar_P pg), fl, (ar_N fn), (ar_N ch'), (ar_N rn), hl, (ar_N wr), (ar_N la), (ar_N mk)) → wX_writeAllPages_2 post (d + 1) (nI i) (nI se) (nI ce) (nI le) (nI fc) (nI hd) (nI sl) dc (ar_N dn) (ar_N cl) (ar_N cf) (ar_N so) (ar_N bw) (ar_N wh) bf af (ar_N lk) (ar_N mv) (ar_P pg) fl (ar_N fn) (ar_N ch) (ar_N rn) hl (ar_N wr) (ar_N la) (ar_N mk) := by
  intro d
  induction d with
  | zero =>
    intro i se dc dn ch hi h dl hg
    have e : i = fc := by omega
    subst e
    refine ⟨se, dc, dn, ch, h, dl, Nat.le_refl _, hg, fun post hp => ?_⟩
    rw [wX_writeAllPages_2]
    exact br_t (nI_le (Nat.le_refl _) (by have := h.1.2.1; omega)) hp
  | succ d ih =>
    intro i se dc dn ch hi h dl hg
    have f3 := h.1.2.1
    obtain ⟨se1, dc1, dn1, ch1, h1, d1, s1, c1, k1, w1⟩ := ar_WP (ce := ce) (sl := sl) (cl := cl) (cf := cf) (so := so) (bw := bw) (wh := wh) (bf := bf) (af := af) (lk := lk) (mv := mv) (rn := rn) (hl := hl) (wr := wr) (la := la) (mk := mk) (f := i) hZ h dl hle (by omega)
    obtain ⟨se2, dc2, dn2, ch2, h2, d2, s2, c2, w2⟩ := ih (i + 1) se1 dc1 dn1 ch1 (by omega) h1 d1 (fun g hgi hp => by
      by_cases e : g = i
      · rw [e]; exact c1 (by rw [← e]; exact hp)
      · exact k1 g (hg g (by omega) hp))
    refine ⟨se2, dc2, dn2, ch2, h2, d2, by omega, c2, fun post hp => ?_⟩
    rw [wX_writeAllPages_2]
    exact br_f (nI_ge (by omega) (by omega)) (w1 hd _ (nm_r (nI_1 i) (w2 post hp)))
theorem ar_WA (hZ : ar_ZV Z V) (h : ar_PL fc hd cv cm dc dn pg fl fn ch) (dl : ar_DL Z V le se fr n cv cm dc dn pg ch) (hle : le ≤ 300) :
    ∃ se' dc' dn' ch', ar_PL fc hd cv cm dc' dn' pg fl fn ch' ∧ ar_DL Z V le se' fr n cv cm dc' dn' pg ch' ∧ se ≤ se' ∧ (∀ c, c < 16 → dc' c = cv c) ∧
      ∀ (post : SX → Prop), post ((nI se'), (nI ce), (nI le), (nI fc), (nI hd), (nI sl), dc', (ar_N dn'), (ar_N cl), (ar_N cf), (ar_N so), (ar_N bw), (ar_N wh), bf, af, (ar_N lk), (ar_N mv), (ar_P pg), fl, (ar_N fn), (ar_N ch'), (ar_N rn), hl, (ar_N wr), (ar_N la), (ar_N mk)) → wpX_writeAllPages post ((nI se), (nI ce), (nI le), (nI fc), (nI hd), (nI sl), dc, (ar_N dn), (ar_N cl), (ar_N cf), (ar_N so), (ar_N bw), (ar_N wh), bf, af, (ar_N lk), (ar_N mv), (ar_P pg), fl, (ar_N fn), (ar_N ch), (ar_N rn), hl, (ar_N wr), (ar_N la), (ar_N mk)) := by
  obtain ⟨se', dc', dn', ch', h', d', s', c', w'⟩ := ar_WA2 (ce := ce) (sl := sl) (cl := cl) (cf := cf) (so := so) (bw := bw) (wh := wh) (bf := bf) (af := af) (lk := lk) (mv := mv) (rn := rn) (hl := hl) (wr := wr) (la := la) (mk := mk) hZ hle fc 0 se dc dn ch (by omega) h dl (fun g hg => by omega)
  refine ⟨se', dc', dn', ch', h', d', s', fun c hc => ?_, fun post hp => ⟨fc + 1, w' post hp⟩⟩
  obtain ⟨a1, a2, a3, a4, a5, a6, a7⟩ := h'
  by_cases z : ∃ f, f < 3 ∧ pg f = c / 4 + 1
  · obtain ⟨f, hf, hq⟩ := z
    have : f < fc := by
      by_cases y : f < fc
      · exact y
      · have := (a2 f hf).2 (by omega); omega
    exact (a5 f c hf hc hq).2 (c' f this (by omega))
  · exact a7 c hc (fun f hf hq => z ⟨f, hf, hq⟩)
end
end
section
section
variable {se ce le fc hd sl : Nat} {dc bf af fl hl : Nat → Int32} {dn cl cf so bw wh lk mv pg fn ch rn wr la mk : Nat → Nat}
/-! ===== bringIn ===== -/
theorem ar_w75 {post : Int32 → SX → Prop} {f p : Nat} (hf : f < 3) (hp : p < 4) (hn : dn p < 32768) (h : post (nI f) ((nI se), (nI ce), (nI le), (nI fc), (nI hd), (nI sl), dc, (ar_N dn), (ar_N cl), (ar_N cf), (ar_N so), (ar_N bw), (ar_N wh), bf, af, (ar_N lk), (ar_N mv), (ar_P pg), (ar_cp fl (4 * f) dc (4 * p) 4), (ar_N (ar_u fn f (dn p))), (ar_N (ar_u ch f 0)), (ar_N rn), hl, (ar_N wr), (ar_N la), (ar_N mk))) :
    ∀ d i, i + d = 4 → wX_bringIn_75 post (nI p) (nI f) (nI se) (nI ce) (nI le) (nI fc) (nI hd) (nI sl) (d + 1) (nI i) dc (ar_N dn) (ar_N cl) (ar_N cf) (ar_N so) (ar_N bw) (ar_N wh) bf af (ar_N lk) (ar_N mv) (ar_P pg) (ar_cp fl (4 * f) dc (4 * p) i) (ar_N fn) (ar_N ch) (ar_N rn) hl (ar_N wr) (ar_N la) (ar_N mk) := by
  intro d
  induction d with
  | zero =>
    intro i hi
    have e : i = 4 := by omega
    subst e
    rw [wX_bringIn_75]
    exact br_t (show (4 : Int32) ≤ nI 4 by decide) ⟨vp_in_nI hp (by omega), vp_in_nI hf (by omega), nm_r (ar_Nu (ar_cl (by omega)) (by rw [ar_Nv (by omega), ar_vs hn])) ⟨vp_in_nI hf (by omega), nm_r (ar_Nu (ar_cl (by omega)) ar_vs0) h⟩⟩
  | succ d ih =>
    intro i hi
    rw [wX_bringIn_75]
    refine br_f (nI_ge (b := 4) (by omega) (by omega)) ⟨by rw [ar_4]; exact vp_in_nI (by omega) (by omega), by rw [ar_4]; exact vp_in_nI (by omega) (by omega), nm_r (e' := ar_cp fl (4 * f) dc (4 * p) (i + 1)) ?_ (nm_r (nI_1 i) (ih (i + 1) (by omega)))⟩
    rw [ar_4, ar_4, ar_cl (by omega), ar_cl (by omega), ar_cp1]
theorem ar_b2f {post : Int32 → SX → Prop} {f p : Nat} (hp : p < 4) (hf : f < fc) (hfc : fc ≤ 3) (hq : pg f = p + 1) (h4 : ∀ g, g < 3 → pg g ≤ 4) (hn : ∀ g, g < f → pg g ≠ p + 1) (h : post (nI f) ((nI se), (nI ce), (nI le), (nI fc), (nI hd), (nI sl), dc, (ar_N dn), (ar_N cl), (ar_N cf), (ar_N so), (ar_N bw), (ar_N wh), bf, af, (ar_N lk), (ar_N mv), (ar_P pg), fl, (ar_N fn), (ar_N ch), (ar_N rn), hl, (ar_N wr), (ar_N la), (ar_N mk))) :
    ∀ d i, i + d = f → wX_bringIn_2 post (nI p) (nI se) (nI ce) (nI le) (nI fc) (nI hd) (nI sl) dc (ar_N dn) (ar_N cl) (ar_N cf) (ar_N so) (ar_N bw) (ar_N wh) bf af (ar_N lk) (ar_N mv) (ar_P pg) fl (ar_N fn) (ar_N ch) (ar_N rn) hl (ar_N wr) (ar_N la) (ar_N mk) (d + 1) (nI i) := by
  intro d
  induction d with
  | zero =>
    intro i hi
    have e : i = f := by omega
    subst e
    rw [wX_bringIn_2]
    exact br_f (nI_ge hf (by omega)) ⟨vp_in_nI (by omega) (by omega), br_t (ar_Pv1 (by omega) hq) h⟩
  | succ d ih =>
    intro i hi
    rw [wX_bringIn_2]
    exact br_f (nI_ge (by omega) (by omega)) ⟨vp_in_nI (by omega) (by omega), br_f (ar_Pne (by omega) hp (h4 i (by omega)) (hn i (by omega))) (nm_r (nI_1 i) (ih (i + 1) (by omega)))⟩
theorem ar_b2n {post : Int32 → SX → Prop} {p hd' : Nat} (hp : p < 4) (hfc : fc ≤ 3) (hh : hd < fc) (hd1 : hd' = if hd + 1 < fc then hd + 1 else 0) (h4 : ∀ g, g < 3 → pg g ≤ 4) (hn : ∀ g, g < fc → pg g ≠ p + 1) (h : wX_bringIn_57 post (nI p) (nI hd) (nI hd') (nI se) (nI ce) (nI le) (nI fc) (nI hd) (nI sl) dc (ar_N dn) (ar_N cl) (ar_N cf) (ar_N so) (ar_N bw) (ar_N wh) bf af (ar_N lk) (ar_N mv) (ar_P pg) fl (ar_N fn) (ar_N ch) (ar_N rn) hl (ar_N wr) (ar_N la) (ar_N mk)) :
    ∀ d i, i + d = fc → wX_bringIn_2 post (nI p) (nI se) (nI ce) (nI le) (nI fc) (nI hd) (nI sl) dc (ar_N dn) (ar_N cl) (ar_N cf) (ar_N so) (ar_N bw) (ar_N wh) bf af (ar_N lk) (ar_N mv) (ar_P pg) fl (ar_N fn) (ar_N ch) (ar_N rn) hl (ar_N wr) (ar_N la) (ar_N mk) (d + 1) (nI i) := by
  intro d
  induction d with
  | zero =>
    intro i hi
    have e : i = fc := by omega
    rw [e, wX_bringIn_2]
    refine br_t (nI_le (Nat.le_refl _) (by omega)) ?_
    by_cases z : hd + 1 < fc
    · rw [if_pos z] at hd1
      subst hd1
      rw [nI_1]
      exact br_f (nI_ge z (by omega)) h
    · rw [if_neg z] at hd1
      subst hd1
      rw [nI_1]
      exact br_t (nI_le (by omega) (by omega)) h
  | succ d ih =>
    intro i hi
    rw [wX_bringIn_2]
    exact br_f (nI_ge (by omega) (by omega)) ⟨vp_in_nI (by omega) (by omega), br_f (ar_Pne (by omega) hp (h4 i (by omega)) (hn i (by omega))) (nm_r (nI_1 i) (ih (i + 1) (by omega)))⟩
variable {Z : Nat → Nat → Nat} {V : Nat → Nat → Int32} {fr n : Nat} {cv : Nat → Int32} {cm : Nat → Nat}
theorem ar_BR {p : Nat} (hZ : ar_ZV Z V) (h : ar_PL fc hd cv cm dc dn pg fl fn ch) (d : ar_DL Z V le se fr n cv cm dc dn pg ch) (hle : le ≤ 300) (hp : p < 4) :
    ∃ f hd' se' dc' dn' pg' fl' fn' ch', f < 3 ∧ pg' f = p + 1 ∧ ar_PL fc hd' cv cm dc' dn' pg' fl' fn' ch' ∧ ar_DL Z V le se' fr n cv cm dc' dn' pg' ch' ∧ se ≤ se' ∧
      ∀ (post : Int32 → SX → Prop), post (nI f) ((nI se'), (nI ce), (nI le), (nI fc), (nI hd'), (nI sl), dc', (ar_N dn'), (ar_N cl), (ar_N cf), (ar_N so), (ar_N bw), (ar_N wh), bf, af, (ar_N lk), (ar_N mv), (ar_P pg'), fl', (ar_N fn'), (ar_N ch'), (ar_N rn), hl, (ar_N wr), (ar_N la), (ar_N mk)) → wpX_bringIn post ((nI se), (nI ce), (nI le), (nI fc), (nI hd), (nI sl), dc, (ar_N dn), (ar_N cl), (ar_N cf), (ar_N so), (ar_N bw), (ar_N wh), bf, af, (ar_N lk), (ar_N mv), (ar_P pg), fl, (ar_N fn), (ar_N ch), (ar_N rn), hl, (ar_N wr), (ar_N la), (ar_N mk)) (nI p) := by
  have f3 := h.1.2.1
  have hh := h.1.2.2
  by_cases z : ∃ f, f < 3 ∧ pg f = p + 1
  · obtain ⟨f, hf, hq⟩ := z
    have hfc : f < fc := by
      by_cases y : f < fc
      · exact y
      · have := (h.2.1 f hf).2 (by omega); omega
    exact ⟨f, hd, se, dc, dn, pg, fl, fn, ch, hf, hq, h, d, Nat.le_refl _, fun post hpo => ⟨f + 1, ar_b2f hp hfc f3 hq (fun g hg => (h.2.1 g hg).1) (fun g hg e => by have := h.2.2.1 g f (by omega) hf (by omega) (by rw [e, hq]); omega) hpo f 0 (by omega)⟩⟩
  · have hnp : ∀ g, g < 3 → pg g ≠ p + 1 := fun g hg e => z ⟨g, hg, e⟩
    obtain ⟨se1, dc1, dn1, ch1, h1, d1, s1, c1, k1, w1⟩ := ar_WP (ce := ce) (sl := sl) (cl := cl) (cf := cf) (so := so) (bw := bw) (wh := wh) (bf := bf) (af := af) (lk := lk) (mv := mv) (rn := rn) (hl := hl) (wr := wr) (la := la) (mk := mk) (f := hd) hZ h d hle (by omega)
    have hh' : (if hd + 1 < fc then hd + 1 else 0) < fc := by
      by_cases y : hd + 1 < fc
      · rw [if_pos y]; exact y
      · rw [if_neg y]; omega
    have hdn := (d1.2.1 p hp).1
    have hsl := d1.1.1
    refine ⟨hd, if hd + 1 < fc then hd + 1 else 0, se1, dc1, dn1, ar_u pg hd (p + 1), ar_cp fl (4 * hd) dc1 (4 * p) 4, ar_u fn hd (dn1 p), ar_u ch1 hd 0, by omega, ar_us, ar_br_PL h1 hh hp hnp c1 hh', ar_br_DL d1, s1, fun post hpo => ⟨fc + 1, ar_b2n hp f3 hh rfl (fun g hg => (h.2.1 g hg).1) (fun g hg => hnp g (by omega)) ?_ fc 0 (by omega)⟩⟩
    unfold wX_bringIn_57
    refine w1 _ _ ⟨vp_in_nI (by omega) (by omega), nm_r (ar_Pu (n := p + 1) (ar_cl (by omega)) (by rw [ar_vb2 (by omega), pk_m1])) ⟨5, ?_⟩⟩
    have := ar_w75 (fc := fc) (pg := ar_u pg hd (p + 1)) (se := se1) (dc := dc1) (dn := dn1) (ch := ch1) (fl := fl) (fn := fn) (f := hd) (p := p) (hd := if hd + 1 < fc then hd + 1 else 0) (by omega) hp (by omega) hpo 4 0 rfl
    rw [ar_cp0] at this
    exact this
/-! ===== append, apply ===== -/
theorem ar_AP {post : SX → Prop} {kd t c l : Nat} {o v : Int32} (hle : le < 300) (hk : kd < 128) (ht : t < 3) (hc : c < 128) (hli : l < 32768)
    (h : post ((nI se), (nI ce), (nI (le + 1)), (nI fc), (nI hd), (nI sl), dc, (ar_N dn), (ar_N cl), (ar_N cf), (ar_N (ar_u so (le + 1) kd)), (ar_N (ar_u bw (le + 1) t)), (ar_N (ar_u wh (le + 1) c)), (upd bf (le + 1) o), (upd af (le + 1) v), (ar_N (ar_u lk (le + 1) l)), (ar_N mv), (ar_P pg), fl, (ar_N fn), (ar_N ch), (ar_N rn), hl, (ar_N wr), (ar_N (ar_u la t (le + 1))), (ar_N mk))) :
    wpX_append post ((nI se), (nI ce), (nI le), (nI fc), (nI hd), (nI sl), dc, (ar_N dn), (ar_N cl), (ar_N cf), (ar_N so), (ar_N bw), (ar_N wh), bf, af, (ar_N lk), (ar_N mv), (ar_P pg), fl, (ar_N fn), (ar_N ch), (ar_N rn), hl, (ar_N wr), (ar_N la), (ar_N mk)) (nI kd) (nI t) (nI c) o v (nI l) := by
  have w : vp_in (nI (le + 1)) 301 := vp_in_nI (by omega) (by omega)
  have e : (nI (le + 1)).toNatClampNeg = le + 1 := ar_cl (by omega)
  exact nm_r (nI_1 le) ⟨w, nm_r (ar_Nu e (ar_vb2 hk)) ⟨w, nm_r (ar_Nu e (ar_vb2 (by omega))) ⟨w, nm_r (ar_Nu e (ar_vb2 hc)) ⟨w, nm_r (by rw [e]) ⟨w, nm_r (by rw [e]) ⟨w, nm_r (ar_Nu e (ar_vs2 hli)) ⟨vp_in_nI ht (by omega), nm_r (ar_Nu (ar_cl (by omega)) (ar_vs2 (by omega))) h⟩⟩⟩⟩⟩⟩⟩
theorem ar_AE {post : SX → Prop} {f c m : Nat} {v : Int32} (hf : f < 3) (hc : c < 16) (hm : m ≤ 300) (hch : ch f < 32768)
    (h : post ((nI se), (nI ce), (nI le), (nI fc), (nI hd), (nI sl), dc, (ar_N dn), (ar_N cl), (ar_N cf), (ar_N so), (ar_N bw), (ar_N wh), bf, af, (ar_N lk), (ar_N mv), (ar_P pg), (upd fl (4 * f + c % 4) v), (ar_N (ar_u fn f m)), (ar_N (if ch f = 0 then ar_u ch f m else ch)), (ar_N rn), hl, (ar_N wr), (ar_N la), (ar_N mk))) : wpX_applyEntry post ((nI se), (nI ce), (nI le), (nI fc), (nI hd), (nI sl), dc, (ar_N dn), (ar_N cl), (ar_N cf), (ar_N so), (ar_N bw), (ar_N wh), bf, af, (ar_N lk), (ar_N mv), (ar_P pg), fl, (ar_N fn), (ar_N ch), (ar_N rn), hl, (ar_N wr), (ar_N la), (ar_N mk)) (nI f) (nI c) v (nI m) := by
  have w : vp_in (nI f) 3 := vp_in_nI hf (by omega)
  have e : (nI f).toNatClampNeg = f := ar_cl (by omega)
  refine ⟨by rw [ar_and3 (by omega), ar_4]; exact vp_in_nI (by omega) (by omega), nm_r (e' := upd fl (4 * f + c % 4) v) (by rw [ar_and3 (by omega), ar_4, ar_cl (by omega)]) ⟨w, nm_r (ar_Nu e (ar_vs2 (by omega))) ⟨w, ?_⟩⟩⟩
  by_cases z : ch f = 0
  · rw [if_pos z] at h
    exact br_t (by rw [ar_Nv (by omega), z]; rfl) ⟨w, nm_r (ar_Nu e (ar_vs2 (by omega))) h⟩
  · rw [if_neg z] at h
    exact br_f (by rw [ar_Nv (by omega)]; exact nI_ne0 (by omega) (by omega)) h
theorem ar_AY {post : SX → Prop} {f c : Nat} {v : Int32} (hf : f < 3) (hc : c < 16) (hm : le ≤ 300) (hch : ch f < 32768)
    (h : post ((nI se), (nI ce), (nI le), (nI fc), (nI hd), (nI sl), dc, (ar_N dn), (ar_N cl), (ar_N cf), (ar_N so), (ar_N bw), (ar_N wh), bf, af, (ar_N lk), (ar_N mv), (ar_P pg), (upd fl (4 * f + c % 4) v), (ar_N (ar_u fn f le)), (ar_N (if ch f = 0 then ar_u ch f le else ch)), (ar_N rn), hl, (ar_N wr), (ar_N la), (ar_N mk))) : wpX_apply post ((nI se), (nI ce), (nI le), (nI fc), (nI hd), (nI sl), dc, (ar_N dn), (ar_N cl), (ar_N cf), (ar_N so), (ar_N bw), (ar_N wh), bf, af, (ar_N lk), (ar_N mv), (ar_P pg), fl, (ar_N fn), (ar_N ch), (ar_N rn), hl, (ar_N wr), (ar_N la), (ar_N mk)) (nI f) (nI c) v := by
  unfold wpX_apply
  exact ar_AE hf hc hm hch h
end
end
section
/-! ===== bits of held ===== -/
def ar_hb (h : Int32) (c : Nat) : Prop := bt h c = true
theorem ar_b1 : ∀ i, i < 32 → bt 1 i = decide (i = 0) := by decide +kernel
theorem ar_hb_iff {h : Int32} {c : Nat} (hc : c < 31) : ((h >>> (nI c &&& 31)) &&& 1) = 0 ↔ ¬ ar_hb h c := by
  have e : ∀ i, i < 32 → bt ((h >>> (nI c &&& 31)) &&& 1) i = (if i = 0 then bt h c else false) := by
    intro i hi
    rw [b_and, ar_b1 i hi]
    by_cases z : i = 0
    · rw [if_pos z, z, b_sshr c (by omega) h (by omega), if_pos (by omega), Nat.add_zero]
      simp
    · rw [if_neg z, decide_eq_false z, Bool.and_false]
  constructor
  · intro z y
    have := e 0 (by omega)
    rw [z, b_0, if_pos rfl] at this
    exact Bool.noConfusion (this.trans y)
  · intro z
    refine b_ext (fun i hi => ?_)
    rw [e i hi, b_0]
    by_cases y : i = 0
    · rw [if_pos y]
      exact Bool.eq_false_iff.mpr z
    · rw [if_neg y]
theorem ar_hb_0 {c : Nat} : ¬ ar_hb 0 c := fun z => Bool.noConfusion ((b_0 c).symm.trans z)
theorem ar_hb_or {h : Int32} {c x : Nat} (hc : c < 16) (hx : x < 16) : ar_hb (h ||| ((1 : Int32) <<< (nI c &&& 31))) x ↔ x = c ∨ ar_hb h x := by
  unfold ar_hb
  rw [b_or, b_shl c (by omega) 1 (by omega), Bool.or_eq_true, Bool.and_eq_true, decide_eq_true_eq]
  constructor
  · rintro (z | ⟨z1, z2⟩)
    · exact Or.inr z
    · rw [ar_b1 (x - c) (by omega), decide_eq_true_eq] at z2
      exact Or.inl (by omega)
  · rintro (z | z)
    · right
      rw [z]
      exact ⟨Nat.le_refl _, by rw [Nat.sub_self]; rfl⟩
    · exact Or.inl z
/-! ===== locks, links, latest entries of running transactions ===== -/
def ar_K (so bw rn : Nat → Nat) (le n : Nat) : Prop := rn (bw n) = 1 ∧ ar_pe so bw le (bw n) < n ∧ n ≤ le
def ar_TL (so bw wh lk rn : Nat → Nat) (hl : Nat → Int32) (la : Nat → Nat) (le : Nat) : Prop :=
  (∀ n, ar_K so bw rn le n → ar_hb (hl (bw n)) (wh n) ∧ (lk n = 0 ∨ (ar_K so bw rn le (lk n) ∧ bw (lk n) = bw n))) ∧
  (∀ t c, t < 3 → c < 16 → rn t = 1 → ar_hb (hl t) c → ar_K so bw rn le (ar_lz so wh le c) ∧ bw (ar_lz so wh le c) = t) ∧
  (∀ t, t < 3 → rn t = 1 → la t = ar_lo so bw le t) ∧
  (∀ t, t < 3 → rn t ≠ 1 → ar_lo so bw le t = 0)
def ar_yl (lc : Nat → Nat) (ld : Nat → Int32) (t : Nat) : Nat → List (Nat × Int32)
  | 0 => []
  | i + 1 => (lc (20 * t + i), ld (20 * t + i)) :: ar_yl lc ld t i
def ar_T1 (so bw wh lk : Nat → Nat) (bf : Nat → Int32) (lc : Nat → Nat) (ld : Nat → Int32) (le t lat mkt mmt lit wrt : Nat) : Prop :=
  ar_c so wh lk bf 0 lat = ar_yl lc ld t lit ∧ (ar_c so wh lk bf mkt lat).length + mmt = lit ∧ lit ≤ wrt ∧ wrt ≤ 20 ∧ mkt ≤ le ∧ ar_ct bw (ar_pe so bw le t) t le + lit = 2 * wrt
theorem ar_yl_len {lc : Nat → Nat} {ld : Nat → Int32} {t : Nat} : ∀ i, (ar_yl lc ld t i).length = i := by
  intro i
  induction i with
  | zero => rfl
  | succ i ih => unfold ar_yl; rw [List.length_cons, ih]
theorem ar_yl_cg {lc lc' : Nat → Nat} {ld ld' : Nat → Int32} {t : Nat} : ∀ i, (∀ j, j < i → lc' (20 * t + j) = lc (20 * t + j) ∧ ld' (20 * t + j) = ld (20 * t + j)) → ar_yl lc' ld' t i = ar_yl lc ld t i := by
  intro i
  induction i with
  | zero => intro _; rfl
  | succ i ih => intro h; unfold ar_yl; rw [(h i (by omega)).1, (h i (by omega)).2, ih (fun j hj => h j (by omega))]
section
variable {so bw wh lk rn la : Nat → Nat} {bf af B C hl hl' : Nat → Int32} {le kd t c l : Nat} {o v : Int32}
theorem ar_K_so {n : Nat} (h : ar_K so bw rn le n) : so n < 2 ∧ 0 < n := by
  obtain ⟨_, h1, h2⟩ := h
  have h0 : 0 < n := by omega
  refine ⟨?_, h0⟩
  by_cases z : so n < 2
  · exact z
  · have := ar_pe_ge (so := so) (bw := bw) le n h0 h2 z
    omega
theorem ar_lo_no : ∀ k, ar_lo so bw k t = 0 → ∀ n, ar_pe so bw k t < n → n ≤ k → bw n ≠ t := by
  intro k
  induction k with
  | zero => intro _ n h1 h2; omega
  | succ k ih =>
    intro h n h1 h2
    unfold ar_lo at h
    unfold ar_pe at h1
    by_cases e : bw (k + 1) = t
    · by_cases e2 : so (k + 1) < 2
      · rw [if_pos e, if_pos e2] at h; omega
      · rw [if_pos ⟨e, e2⟩] at h1; omega
    · rw [if_neg e] at h
      rw [if_neg (fun z => e z.1)] at h1
      by_cases en : n = k + 1
      · rw [en]; exact e
      · exact ih h n h1 (by omega)
theorem ar_lo_K (h : rn t = 1) (hz : ar_lo so bw le t ≠ 0) : ar_K so bw rn le (ar_lo so bw le t) ∧ bw (ar_lo so bw le t) = t := by
  rcases @ar_lo_or so bw le t with z | ⟨z1, z2, z3⟩
  · exact absurd z hz
  · unfold ar_K
    rw [z1]
    exact ⟨⟨h, z2, z3⟩, rfl⟩
/-- the cells of a chain are held -/
theorem ar_ch_hb (hW : ar_WF so bw wh lk le) (h : ∀ n, ar_K so bw rn le n → ar_hb (hl (bw n)) (wh n) ∧ (lk n = 0 ∨ (ar_K so bw rn le (lk n) ∧ bw (lk n) = bw n))) {x : Nat} :
    ∀ n, ar_K so bw rn le n → ar_in (ar_c so wh lk bf 0 n) x → ar_hb (hl (bw n)) x := by
  intro n
  induction n using Nat.strongRecOn with
  | ind n ih =>
    intro hK hi
    obtain ⟨h1, h2⟩ := h n hK
    have n0 := (ar_K_so hK).2
    have hlk := (hW n n0 hK.2.2).2.2.2
    have hL : ∀ m, 0 < m → m ≤ le → lk m < m := fun m h0 h1 => (hW m h0 h1).2.2.2
    have rest : ar_in (ar_c so wh lk bf 0 (lk n)) x → ar_hb (hl (bw n)) x := by
      intro hi
      rcases h2 with z | ⟨z1, z2⟩
      · rw [z, ar_c_0] at hi; exact absurd hi ar_in_nil
      · rw [← z2]; exact ih (lk n) hlk z1 hi
    by_cases hs : so n = 0
    · rw [ar_c_s hL hK.2.2 n0 hs] at hi
      rcases ar_in_cs hi with z | z
      · rw [← z]; exact h1
      · exact rest z
    · rw [ar_c_o hL hK.2.2 n0 hs] at hi
      exact rest hi
theorem ar_Q_hb (hW : ar_WF so bw wh lk le) (h : ar_TL so bw wh lk rn hl la le) {u x : Nat} (hu : u < 3) (hi : ar_in (ar_Q so bw wh lk bf le u) x) : rn u = 1 ∧ ar_hb (hl u) x := by
  unfold ar_Q at hi
  by_cases r : rn u = 1
  · by_cases z : ar_lo so bw le u = 0
    · rw [z, ar_c_0] at hi; exact absurd hi ar_in_nil
    · obtain ⟨k1, k2⟩ := ar_lo_K r z
      have := ar_ch_hb hW h.1 _ k1 hi
      rw [k2] at this
      exact ⟨r, this⟩
  · rw [h.2.2.2 u hu r, ar_c_0] at hi; exact absurd hi ar_in_nil
theorem ar_ap_K (hk : kd < 2) {n : Nat} (h : ar_K so bw rn le n) : ar_K (ar_u so (le + 1) kd) (ar_u bw (le + 1) t) rn (le + 1) n := by
  obtain ⟨h1, h2, h3⟩ := h
  unfold ar_K
  rw [ar_un (show n ≠ le + 1 by omega), ar_ap_pe1, if_neg (fun z => z.2 hk)]
  exact ⟨h1, h2, by omega⟩
theorem ar_ap_TL (hT : ar_TL so bw wh lk rn hl la le) (hk : kd < 2) (ht : t < 3) (hr : rn t = 1) (h1 : ∀ u, u ≠ t → hl' u = hl u) (h2 : ∀ x, x < 16 → (ar_hb (hl' t) x ↔ x = c ∨ ar_hb (hl t) x)) (hc : c < 16)
    (hW : ar_WF so bw wh lk le) (h3 : ∀ u, u < 3 → u ≠ t → rn u = 1 → ¬ ar_hb (hl u) c) (h4 : l = 0 ∨ (ar_K so bw rn le l ∧ bw l = t)) :
    ar_TL (ar_u so (le + 1) kd) (ar_u bw (le + 1) t) (ar_u wh (le + 1) c) (ar_u lk (le + 1) l) rn hl' (ar_u la t (le + 1)) (le + 1) := by
  obtain ⟨a1, a2, a3, a4⟩ := hT
  have kn : ar_K (ar_u so (le + 1) kd) (ar_u bw (le + 1) t) rn (le + 1) (le + 1) := by
    unfold ar_K
    rw [ar_us, ar_ap_pe1, if_neg (fun z => z.2 hk)]
    exact ⟨hr, Nat.lt_succ_of_le (ar_pe_le le t), Nat.le_refl _⟩
  refine ⟨fun n hK => ?_, fun u x hu hx hru hb => ?_, fun u hu hru => ?_, fun u hu hru => ?_⟩
  · by_cases e : n = le + 1
    · subst e
      rw [ar_us, ar_us, ar_us]
      refine ⟨(h2 c hc).mpr (Or.inl rfl), ?_⟩
      rcases h4 with z | ⟨z1, z2⟩
      · exact Or.inl z
      · refine Or.inr ⟨ar_ap_K hk z1, ?_⟩
        rw [ar_un (show l ≠ le + 1 by have := z1.2.2; omega)]
        exact z2
    · have hK' : ar_K so bw rn le n := by
        unfold ar_K at hK ⊢
        rw [ar_un e, ar_ap_pe1, if_neg (fun z => z.2 hk)] at hK
        exact ⟨hK.1, hK.2.1, by omega⟩
      obtain ⟨q1, q2⟩ := a1 n hK'
      have hw := hW n (ar_K_so hK').2 hK'.2.2
      rw [ar_un e, ar_un e, ar_un e]
      constructor
      · by_cases eb : bw n = t
        · rw [eb] at q1 ⊢
          exact (h2 _ hw.2.2.1).mpr (Or.inr q1)
        · rw [h1 _ eb]; exact q1
      · rcases q2 with z | ⟨z1, z2⟩
        · exact Or.inl z
        · refine Or.inr ⟨ar_ap_K hk z1, ?_⟩
          rw [ar_un (show lk n ≠ le + 1 by have := z1.2.2; omega)]
          exact z2
  · rw [ar_ap_lz1 hk]
    by_cases ex : x = c
    · rw [if_pos ex, ar_us]
      refine ⟨kn, ?_⟩
      by_cases eu : u = t
      · exact eu.symm
      · rw [h1 u eu, ex] at hb
        exact absurd hb (h3 u hu eu hru)
    · rw [if_neg ex]
      have hb' : ar_hb (hl u) x := by
        by_cases eu : u = t
        · rw [eu] at hb ⊢
          rcases (h2 x hx).mp hb with z | z
          · exact absurd z ex
          · exact z
        · rw [h1 u eu] at hb; exact hb
      obtain ⟨q1, q2⟩ := a2 u x hu hx hru hb'
      refine ⟨ar_ap_K hk q1, ?_⟩
      rw [ar_un (show ar_lz so wh le x ≠ le + 1 by have := q1.2.2; omega)]
      exact q2
  · by_cases eu : u = t
    · rw [eu, ar_us, ar_ap_lot hk]
    · rw [ar_un eu, ar_ap_lou eu]; exact a3 u hu hru
  · have eu : u ≠ t := fun z => hru (by rw [z]; exact hr)
    rw [ar_ap_lou eu]; exact a4 u hu hru
/-- an end -/
theorem ar_en_TL (hT : ar_TL so bw wh lk rn hl la le) (hk : ¬ kd < 2) (ht : t < 3) : ar_TL (ar_u so (le + 1) kd) (ar_u bw (le + 1) t) (ar_u wh (le + 1) c) (ar_u lk (le + 1) l) (ar_u rn t 0) hl (ar_u la t (le + 1)) (le + 1) := by
  obtain ⟨a1, a2, a3, a4⟩ := hT
  have kk : ∀ n, ar_K so bw rn le n → bw n ≠ t → ar_K (ar_u so (le + 1) kd) (ar_u bw (le + 1) t) (ar_u rn t 0) (le + 1) n := by
    intro n h e
    obtain ⟨h1, h2, h3⟩ := h
    unfold ar_K
    rw [ar_un (show n ≠ le + 1 by omega), ar_ap_pe1, if_neg (fun z => e z.1.symm), ar_un e]
    exact ⟨h1, h2, by omega⟩
  refine ⟨fun n hK => ?_, fun u x hu hx hru hb => ?_, fun u hu hru => ?_, fun u hu hru => ?_⟩
  · have e : n ≠ le + 1 := by
      intro e
      have := hK.1
      rw [e, ar_us, ar_us] at this
      omega
    have eb : bw n ≠ t := by
      intro z
      have := hK.1
      rw [ar_un e, z, ar_us] at this
      omega
    have hK' : ar_K so bw rn le n := by
      unfold ar_K at hK ⊢
      rw [ar_un e, ar_ap_pe1, if_neg (fun z => eb z.1.symm), ar_un eb] at hK
      exact ⟨hK.1, hK.2.1, by omega⟩
    obtain ⟨q1, q2⟩ := a1 n hK'
    rw [ar_un e, ar_un e, ar_un e]
    refine ⟨q1, ?_⟩
    rcases q2 with z | ⟨z1, z2⟩
    · exact Or.inl z
    · refine Or.inr ⟨kk _ z1 (by rw [z2]; exact eb), ?_⟩
      rw [ar_un (show lk n ≠ le + 1 by have := z1.2.2; omega)]
      exact z2
  · have eu : u ≠ t := by
      intro z
      rw [z, ar_us] at hru
      omega
    rw [ar_un eu] at hru
    obtain ⟨q1, q2⟩ := a2 u x hu hx hru hb
    rw [ar_ap_lz2 hk]
    refine ⟨kk _ q1 (by rw [q2]; exact eu), ?_⟩
    rw [ar_un (show ar_lz so wh le x ≠ le + 1 by have := q1.2.2; omega)]
    exact q2
  · have eu : u ≠ t := by
      intro z
      rw [z, ar_us] at hru
      omega
    rw [ar_un eu] at hru ⊢
    rw [ar_ap_lou eu]
    exact a3 u hu hru
  · by_cases eu : u = t
    · rw [eu, ar_ap_lo2 hk]
    · rw [ar_un eu] at hru
      rw [ar_ap_lou eu]; exact a4 u hu hru
/-- a beginning -/
theorem ar_be_TL (hT : ar_TL so bw wh lk rn hl la le) (ht : t < 3) (hr : rn t ≠ 1) : ar_TL so bw wh lk (ar_u rn t 1) (upd hl t 0) (ar_u la t 0) le := by
  obtain ⟨a1, a2, a3, a4⟩ := hT
  have no := ar_lo_no (so := so) (bw := bw) (t := t) le (a4 t ht hr)
  have kk : ∀ n, ar_K so bw rn le n → ar_K so bw (ar_u rn t 1) le n := by
    intro n h
    have e : bw n ≠ t := fun z => hr (by rw [← z]; exact h.1)
    unfold ar_K
    rw [ar_un e]
    exact h
  refine ⟨fun n hK => ?_, fun u x hu hx hru hb => ?_, fun u hu hru => ?_, fun u hu hru => ?_⟩
  · have eb : bw n ≠ t := by
      intro z
      have h2 := hK.2.1
      rw [z] at h2
      exact no n h2 hK.2.2 z
    have hK' : ar_K so bw rn le n := by
      unfold ar_K at hK ⊢
      rw [ar_un eb] at hK
      exact hK
    obtain ⟨q1, q2⟩ := a1 n hK'
    rw [pk_un eb]
    refine ⟨q1, ?_⟩
    rcases q2 with z | ⟨z1, z2⟩
    · exact Or.inl z
    · exact Or.inr ⟨kk _ z1, z2⟩
  · by_cases eu : u = t
    · rw [eu, pk_us] at hb; exact absurd hb ar_hb_0
    · rw [ar_un eu] at hru
      rw [pk_un eu] at hb
      obtain ⟨q1, q2⟩ := a2 u x hu hx hru hb
      exact ⟨kk _ q1, q2⟩
  · by_cases eu : u = t
    · rw [eu, ar_us, a4 t ht hr]
    · rw [ar_un eu] at hru ⊢; exact a3 u hu hru
  · by_cases eu : u = t
    · rw [eu, ar_us] at hru; exact absurd rfl hru
    · rw [ar_un eu] at hru; exact a4 u hu hru
variable {lc : Nat → Nat} {ld : Nat → Int32} {u lat mkt mmt lit wrt : Nat}
theorem ar_ap_T1u (hW : ar_WF so bw wh lk le) (h : ar_T1 so bw wh lk bf lc ld le u lat mkt mmt lit wrt) (hu : u ≠ t) (hlat : lat ≤ le) : ar_T1 (ar_u so (le + 1) kd) (ar_u bw (le + 1) t) (ar_u wh (le + 1) c) (ar_u lk (le + 1) l) (upd bf (le + 1) o) lc ld (le + 1) u lat mkt mmt lit wrt := by
  obtain ⟨a1, a2, a3, a4, a5, a6⟩ := h
  unfold ar_T1
  rw [ar_ap_c hW hlat, ar_ap_c hW hlat, ar_ap_pe1, if_neg (fun z => hu z.1.symm), ar_ap_ct, if_neg (fun z => hu z.1.symm)]
  exact ⟨a1, a2, a3, a4, by omega, a6⟩
/-- an undoing of t's: the chain from n is left, the head is popped -/
theorem ar_ap_T1p {n : Nat} (hW : ar_WF so bw wh lk le) (h : ar_T1 so bw wh lk bf lc ld le t lat mkt mmt (lit + 1) wrt) (hk : kd = 1) (hn0 : 0 < n) (hn : n ≤ le) (hs : so n = 0) (hlim : mkt < n)
    (e0 : ar_c so wh lk bf 0 lat = ar_c so wh lk bf 0 n) (e1 : (ar_c so wh lk bf mkt lat).length = (ar_c so wh lk bf mkt n).length) (hlk : l = lk n) :
    ar_T1 (ar_u so (le + 1) kd) (ar_u bw (le + 1) t) (ar_u wh (le + 1) c) (ar_u lk (le + 1) l) (upd bf (le + 1) o) lc ld (le + 1) t (le + 1) mkt mmt lit wrt ∧ wh n = lc (20 * t + lit) ∧ bf n = ld (20 * t + lit) := by
  obtain ⟨a1, a2, a3, a4, a5, a6⟩ := h
  have hL : ∀ m, 0 < m → m ≤ le → lk m < m := fun m h0 h1 => (hW m h0 h1).2.2.2
  have hl1 := hL n hn0 hn
  rw [e0, ar_c_s hL hn hn0 hs] at a1
  unfold ar_yl at a1
  obtain ⟨q1, q2⟩ := List.cons.inj a1
  rw [e1, ar_c_s hL hn hlim hs, List.length_cons] at a2
  refine ⟨?_, congrArg Prod.fst q1, congrArg Prod.snd q1⟩
  unfold ar_T1
  rw [ar_ap_c1 hW (by omega) (by omega) (Nat.zero_le _), ar_ap_c1 hW (by omega) (by omega) a5, hlk, ar_ap_pe1, if_neg (fun z => by omega), ar_ap_ct, if_pos ⟨rfl, Nat.lt_succ_of_le (ar_pe_le le t)⟩]
  exact ⟨q2, by omega, by omega, a4, by omega, by omega⟩
/-- a write of t's -/
theorem ar_ap_T1w {lc' : Nat → Nat} {ld' : Nat → Int32} (hW : ar_WF so bw wh lk le) (h : ar_T1 so bw wh lk bf lc ld le t lat mkt mmt lit wrt) (hk : kd = 0) (hlk : l = lat) (hlat : lat ≤ le) (hw : wrt < 20)
    (q1 : lc' (20 * t + lit) = c) (q2 : ld' (20 * t + lit) = o) (q3 : ∀ j, j < lit → lc' (20 * t + j) = lc (20 * t + j) ∧ ld' (20 * t + j) = ld (20 * t + j)) :
    ar_T1 (ar_u so (le + 1) kd) (ar_u bw (le + 1) t) (ar_u wh (le + 1) c) (ar_u lk (le + 1) l) (upd bf (le + 1) o) lc' ld' (le + 1) t (le + 1) mkt mmt (lit + 1) (wrt + 1) := by
  obtain ⟨a1, a2, a3, a4, a5, a6⟩ := h
  unfold ar_T1
  rw [ar_ap_c0 hW hk (by omega) (Nat.zero_le _), ar_ap_c0 hW hk (by omega) a5, hlk, ar_ap_pe1, if_neg (fun z => by omega), ar_ap_ct, if_pos ⟨rfl, Nat.lt_succ_of_le (ar_pe_le le t)⟩, List.length_cons]
  unfold ar_yl
  rw [q1, q2, ar_yl_cg lit q3, a1]
  exact ⟨rfl, by omega, by omega, by omega, by omega, by omega⟩
end
end
section
def ar_LG (so bw wh lk : Nat → Nat) (bf af B C : Nat → Int32) (le se : Nat) : Prop := ar_WF so bw wh lk le ∧ ∀ k, se ≤ k → k ≤ le → ar_G so bw wh lk bf af B C k
section
variable {so bw wh lk : Nat → Nat} {bf af B C : Nat → Int32} {se le fc hd fr kd t c l f : Nat} {o v : Int32} {cv dc fl : Nat → Int32} {cm dn pg fn ch : Nat → Nat}
/-- append an entry on a cell and put its value into the page -/
theorem ar_ap_PD (h : ar_PL fc hd cv cm dc dn pg fl fn ch) (d : ar_DL (ar_lz so wh) (ar_vl so wh af B) le se fr (le + 1) cv cm dc dn pg ch) (hk : kd < 2) (hf : f < 3) (hc : c < 16) (hp : pg f = c / 4 + 1) :
    ar_PL fc hd (upd cv c v) (ar_u cm (c / 4) (le + 1)) dc dn pg (upd fl (4 * f + c % 4) v) (ar_u fn f (le + 1)) (if ch f = 0 then ar_u ch f (le + 1) else ch) ∧
    ar_DL (ar_lz (ar_u so (le + 1) kd) (ar_u wh (le + 1) c)) (ar_vl (ar_u so (le + 1) kd) (ar_u wh (le + 1) c) (upd af (le + 1) v) B) (le + 1) se fr (le + 1 + 1) (upd cv c v) (ar_u cm (c / 4) (le + 1)) dc dn pg (if ch f = 0 then ar_u ch f (le + 1) else ch) :=
  ⟨ar_ae_PL h hf hc hp (by omega), ar_ap_DL ar_zv h d hf hc hp (fun k x hk => ⟨ar_ap_lz hk, ar_ap_vl hk⟩) (fun x => ar_ap_lz1 hk) (fun x => ar_ap_vl1 hk)⟩
theorem ar_en_PD (d : ar_DL (ar_lz so wh) (ar_vl so wh af B) le se fr (le + 1) cv cm dc dn pg ch) (hk : ¬ kd < 2) :
    ar_DL (ar_lz (ar_u so (le + 1) kd) (ar_u wh (le + 1) c)) (ar_vl (ar_u so (le + 1) kd) (ar_u wh (le + 1) c) (upd af (le + 1) v) B) (le + 1) se fr (le + 1 + 1) cv cm dc dn pg ch :=
  ar_en_DL d ar_zv (fun k x hk => ⟨ar_ap_lz hk, ar_ap_vl hk⟩) (fun x => ar_ap_lz2 hk) (fun x => ar_ap_vl2 hk)
theorem ar_LG_se {s : Nat} (h : ar_LG so bw wh lk bf af B C le se) (hs : se ≤ s) : ar_LG so bw wh lk bf af B C le s := ⟨h.1, fun k h1 h2 => h.2 k (by omega) h2⟩
theorem ar_LG_ap (h : ar_LG so bw wh lk bf af B C le se) (hk : kd ≤ 3) (ht : t < 3) (hc : c < 16) (hli : l ≤ le) (hG : ar_G (ar_u so (le + 1) kd) (ar_u bw (le + 1) t) (ar_u wh (le + 1) c) (ar_u lk (le + 1) l) (upd bf (le + 1) o) (upd af (le + 1) v) B C (le + 1)) :
    ar_LG (ar_u so (le + 1) kd) (ar_u bw (le + 1) t) (ar_u wh (le + 1) c) (ar_u lk (le + 1) l) (upd bf (le + 1) o) (upd af (le + 1) v) B C (le + 1) se := by
  refine ⟨ar_ap_WF h.1 hk ht hc hli, fun k h1 h2 => ?_⟩
  by_cases e : k = le + 1
  · rw [e]; exact hG
  · exact ar_ap_G h.1 (by omega) (h.2 k h1 (by omega))
end
section
variable {se ce le fc hd sl : Nat} {dc bf af fl hl : Nat → Int32} {dn cl cf so bw wh lk mv pg fn ch rn wr la mk : Nat → Nat}
variable {B C : Nat → Int32} {fr : Nat} {cv : Nat → Int32} {cm : Nat → Nat}
/-- undoEntry -/
theorem ar_UE {n t : Nat} (h : ar_PL fc hd cv cm dc dn pg fl fn ch) (d : ar_DL (ar_lz so wh) (ar_vl so wh af B) le se fr (le + 1) cv cm dc dn pg ch) (g : ar_LG so bw wh lk bf af B C le se)
    (ht : t < 3) (n0 : 0 < n) (hn : n ≤ le) (hle : le < 300) (hs : so n = 0) (hq : ar_Q so bw wh lk bf le t = (wh n, bf n) :: ar_c so wh lk bf 0 (lk n)) :
    ∃ hd' se' dc' dn' pg' fl' fn' ch' cm', ar_PL fc hd' (upd cv (wh n) (bf n)) cm' dc' dn' pg' fl' fn' ch' ∧
      ar_DL (ar_lz (ar_u so (le + 1) 1) (ar_u wh (le + 1) (wh n))) (ar_vl (ar_u so (le + 1) 1) (ar_u wh (le + 1) (wh n)) (upd af (le + 1) (bf n)) B) (le + 1) se' fr (le + 1 + 1) (upd cv (wh n) (bf n)) cm' dc' dn' pg' ch' ∧ ar_LG (ar_u so (le + 1) 1) (ar_u bw (le + 1) t) (ar_u wh (le + 1) (wh n)) (ar_u lk (le + 1) (lk n)) (upd bf (le + 1) 0) (upd af (le + 1) (bf n)) B C (le + 1) se' ∧ se ≤ se' ∧
      ∀ (post : SX → Prop), post ((nI se'), (nI ce), (nI (le + 1)), (nI fc), (nI hd'), (nI sl), dc', (ar_N dn'), (ar_N cl), (ar_N cf), (ar_N (ar_u so (le + 1) 1)), (ar_N (ar_u bw (le + 1) t)), (ar_N (ar_u wh (le + 1) (wh n))), (upd bf (le + 1) 0), (upd af (le + 1) (bf n)), (ar_N (ar_u lk (le + 1) (lk n))), (ar_N mv), (ar_P pg'), fl', (ar_N fn'), (ar_N ch'), (ar_N rn), hl, (ar_N wr), (ar_N (ar_u la t (le + 1))), (ar_N mk)) → wpX_undoEntry post ((nI se), (nI ce), (nI le), (nI fc), (nI hd), (nI sl), dc, (ar_N dn), (ar_N cl), (ar_N cf), (ar_N so), (ar_N bw), (ar_N wh), bf, af, (ar_N lk), (ar_N mv), (ar_P pg), fl, (ar_N fn), (ar_N ch), (ar_N rn), hl, (ar_N wr), (ar_N la), (ar_N mk)) (nI n) (nI t) := by
  obtain ⟨w1, w2, w3, w4⟩ := g.1 n n0 hn
  obtain ⟨f, hd1, se1, dc1, dn1, pg1, fl1, fn1, ch1, hf, hq1, h1, d1, s1, k1⟩ := ar_BR (ce := ce) (sl := sl) (cl := cl) (cf := cf) (so := so) (bw := bw) (wh := wh) (bf := bf) (af := af) (lk := lk) (mv := mv) (rn := rn) (hl := hl) (wr := wr) (la := la) (mk := mk) (p := wh n / 4) ar_zv h d (by omega) (by omega)
  have c1 := d1.2.2.2.2.2.1 f (wh n / 4) hf hq1
  obtain ⟨p1, p2⟩ := ar_ap_PD (kd := 1) (v := bf n) h1 d1 (by omega) hf w3 hq1
  refine ⟨hd1, se1, dc1, dn1, pg1, _, _, _, _, p1, p2, ar_LG_ap (ar_LG_se g s1) (by omega) ht w3 (by omega) (ar_ap_G1 g.1 (g.2 le d.1.1 (Nat.le_refl _)) ht rfl (by omega) hq), s1, fun post hp => ?_⟩
  have v : vp_in (nI n) 301 := vp_in_nI (by omega) (by omega)
  refine ⟨v, nm_r (ar_Nv (by omega)) ?_⟩
  rw [ar_shr2 (by omega)]
  refine k1 _ ⟨v, v, ?_⟩
  rw [ar_cl (show n < 2000000000 by omega)]
  refine ar_AP (kd := 1) (l := lk n) (by omega) (by omega) ht (by omega) (by omega) ⟨v, ?_⟩
  rw [pk_un (show n ≠ le + 1 by omega)]
  exact ar_AY hf w3 (by omega) (by omega) hp
end
end
section
section
variable {ce fc : Nat} {hl : Nat → Int32} {cl cf mv rn wr mk : Nat → Nat} {B C : Nat → Int32} {fr t : Nat}
/-- undoDownTo, in a restart -/
theorem ar_UR (ht : t < 3) : ∀ m (n : Nat) (x4 : Int32) (se le hd sl : Nat) (dc : Nat → Int32) (dn so bw wh : Nat → Nat) (bf af : Nat → Int32) (lk pg : Nat → Nat) (fl : Nat → Int32) (fn ch la : Nat → Nat) (cv : Nat → Int32) (cm : Nat → Nat), n ≤ m → ar_PL fc hd cv cm dc dn pg fl fn ch → ar_DL (ar_lz so wh) (ar_vl so wh af B) le se fr (le + 1) cv cm dc dn pg ch → ar_LG so bw wh lk bf af B C le se → n ≤ le →
    ar_Q so bw wh lk bf le t = ar_c so wh lk bf 0 n → (∀ u, u < 3 → la u = ar_lo so bw le u) → sl < 2000000000 →
    ∃ r se' le' hd' sl' dc' dn' so' bw' wh' bf' af' lk' pg' fl' fn' ch' la' cv' cm', ar_PL fc hd' cv' cm' dc' dn' pg' fl' fn' ch' ∧ ar_DL (ar_lz so' wh') (ar_vl so' wh' af' B) le' se' fr (le' + 1) cv' cm' dc' dn' pg' ch' ∧ ar_LG so' bw' wh' lk' bf' af' B C le' se' ∧
      (se ≤ se' ∧ le ≤ le' ∧ sl' + le' = sl + le) ∧ (0 < sl' → ar_Q so' bw' wh' lk' bf' le' t = []) ∧ (∀ u, u < 3 → la' u = ar_lo so' bw' le' u) ∧ (∀ u, u < 3 → u ≠ t → ar_lo so' bw' le' u = ar_lo so bw le u) ∧ (ar_lo so bw le t ≠ 0 → ar_lo so' bw' le' t ≠ 0) ∧
      (∀ j, j ≤ le → so' j = so j ∧ bw' j = bw j) ∧ ∀ (post : Int32 → SX → Prop), post r ((nI se'), (nI ce), (nI le'), (nI fc), (nI hd'), (nI sl'), dc', (ar_N dn'), (ar_N cl), (ar_N cf), (ar_N so'), (ar_N bw'), (ar_N wh'), bf', af', (ar_N lk'), (ar_N mv), (ar_P pg'), fl', (ar_N fn'), (ar_N ch'), (ar_N rn), hl, (ar_N wr), (ar_N la'), (ar_N mk)) → wX_undoDownTo_10 post (nI t) 0 (m + 1) (nI n) x4 (nI se) (nI ce) (nI le) (nI fc) (nI hd) (nI sl) dc (ar_N dn) (ar_N cl) (ar_N cf) (ar_N so) (ar_N bw) (ar_N wh) bf af (ar_N lk) (ar_N mv) (ar_P pg) fl (ar_N fn) (ar_N ch) (ar_N rn) hl (ar_N wr) (ar_N la) (ar_N mk) := by
  intro m
  induction m with
  | zero =>
    intro n x4 se le hd sl dc dn so bw wh bf af lk pg fl fn ch la cv cm hn h d g hnl hq hla hsl
    have e : n = 0 := by omega
    refine ⟨x4, se, le, hd, sl, dc, dn, so, bw, wh, bf, af, lk, pg, fl, fn, ch, la, cv, cm, h, d, g, ⟨Nat.le_refl _, Nat.le_refl _, rfl⟩, fun _ => by rw [hq, e, ar_c_0], hla, fun u _ _ => rfl, fun z => z, fun j _ => ⟨rfl, rfl⟩, fun post hp => ?_⟩
    rw [wX_undoDownTo_10, e]
    exact br_t (show nI 0 ≤ 0 by decide) hp
  | succ m ih =>
    intro n x4 se le hd sl dc dn so bw wh bf af lk pg fl fn ch la cv cm hn h d g hnl hq hla hsl
    by_cases e : n = 0
    · refine ⟨x4, se, le, hd, sl, dc, dn, so, bw, wh, bf, af, lk, pg, fl, fn, ch, la, cv, cm, h, d, g, ⟨Nat.le_refl _, Nat.le_refl _, rfl⟩, fun _ => by rw [hq, e, ar_c_0], hla, fun u _ _ => rfl, fun z => z, fun j _ => ⟨rfl, rfl⟩, fun post hp => ?_⟩
      rw [wX_undoDownTo_10, e]
      exact br_t (show nI 0 ≤ 0 by decide) hp
    · have gG := g.2 le d.1.1 (Nat.le_refl _)
      have hle : le ≤ 264 := by have := gG.2; omega
      have b1 : ¬ nI n ≤ 0 := nI_nle (by omega) (by omega)
      have hL : ∀ m, 0 < m → m ≤ le → lk m < m := fun m h0 h1 => (g.1 m h0 h1).2.2.2
      have hlk := hL n (by omega) hnl
      have v : vp_in (nI n) 301 := vp_in_nI (by omega) (by omega)
      by_cases z : sl = 0
      · subst z
        refine ⟨x4, se, le, hd, 0, dc, dn, so, bw, wh, bf, af, lk, pg, fl, fn, ch, la, cv, cm, h, d, g, ⟨Nat.le_refl _, Nat.le_refl _, rfl⟩, fun y => absurd y (by omega), hla, fun u _ _ => rfl, fun z => z, fun j _ => ⟨rfl, rfl⟩, fun post hp => ?_⟩
        rw [wX_undoDownTo_10]
        exact br_f b1 (br_t (show nI 0 ≤ 0 by decide) hp)
      · have b2 : ¬ nI sl ≤ 0 := nI_nle (by omega) (by omega)
        obtain ⟨s, rfl⟩ : ∃ s, sl = s + 1 := ⟨sl - 1, by omega⟩
        by_cases hs : so n = 0
        · rw [ar_c_s hL hnl (by omega) hs] at hq
          have hw := ar_wt_ge (P := ar_Q so bw wh lk bf le) (lo := ar_lo so bw le) ht
          have hw1 : 1 ≤ ar_w1 (ar_Q so bw wh lk bf le) (ar_lo so bw le) t := by unfold ar_w1; rw [hq, List.length_cons]; omega
          have hg2 := gG.2
          obtain ⟨hd1, se1, dc1, dn1, pg1, fl1, fn1, ch1, cm1, h1, d1, g1, s1, k1⟩ := ar_UE (ce := ce) (sl := s + 1) (cl := cl) (cf := cf) (mv := mv) (rn := rn) (hl := hl) (wr := wr) (la := la) (mk := mk) h d g ht (by omega) hnl (by omega) hs hq
          obtain ⟨r, se', le', hd', sl', dc', dn', so', bw', wh', bf', af', lk', pg', fl', fn', ch', la', cv', cm', q1, q2, q3, ⟨q4, q5, q6⟩, q7, q8, q9, q10, q11, q12⟩ := ih (lk n) (x4 + 1) se1 (le + 1) hd1 s dc1 dn1 (ar_u so (le + 1) 1) (ar_u bw (le + 1) t) (ar_u wh (le + 1) (wh n)) (upd bf (le + 1) 0) (upd af (le + 1) (bf n)) (ar_u lk (le + 1) (lk n)) pg1 fl1 fn1 ch1 (ar_u la t (le + 1)) (upd cv (wh n) (bf n)) cm1 (by omega) h1 d1 g1 (by omega)
            (by rw [ar_ap_Qt1 g.1 rfl (by omega), ar_ap_c g.1 (by omega)]) (fun u hu => by
              by_cases eu : u = t
              · rw [eu, ar_us, ar_ap_lot (by omega)]
              · rw [ar_un eu, ar_ap_lou eu]; exact hla u hu) (by omega)
          refine ⟨r, se', le', hd', sl', dc', dn', so', bw', wh', bf', af', lk', pg', fl', fn', ch', la', cv', cm', q1, q2, q3, ⟨by omega, by omega, by omega⟩, q7, q8, fun u hu hut => by rw [q9 u hu hut, ar_ap_lou hut], fun _ => q10 (by rw [ar_ap_lot (by omega)]; omega), fun j hj => ?_, fun post hp => ?_⟩
          · obtain ⟨j1, j2⟩ := q11 j (by omega)
            rw [j1, j2, ar_un (by omega), ar_un (by omega)]; exact ⟨rfl, rfl⟩
          · rw [wX_undoDownTo_10]
            exact br_f b1 (br_f b2 ⟨v, br_t (by rw [ar_Nv (by omega), hs]; rfl) (k1 _ (nm_e (nm_r (nI_pred s) ⟨v, nm_r (by rw [ar_Nv (by omega), ar_un (by omega)]) (q12 post hp)⟩)))⟩)
        · rw [ar_c_o hL hnl (by omega) hs] at hq
          obtain ⟨r, se', le', hd', sl', dc', dn', so', bw', wh', bf', af', lk', pg', fl', fn', ch', la', cv', cm', q1, q2, q3, q4, q7, q8, q9, q10, q11, q12⟩ := ih (lk n) x4 se le hd (s + 1) dc dn so bw wh bf af lk pg fl fn ch la cv cm (by omega) h d g (by omega) hq hla hsl
          refine ⟨r, se', le', hd', sl', dc', dn', so', bw', wh', bf', af', lk', pg', fl', fn', ch', la', cv', cm', q1, q2, q3, q4, q7, q8, q9, q10, q11, fun post hp => ?_⟩
          rw [wX_undoDownTo_10]
          have w0 := (g.1 n (by omega) hnl).1
          exact br_f b1 (br_f b2 ⟨v, br_f (by rw [ar_Nv (by omega)]; exact nI_ne0 (by omega) (by omega)) ⟨v, nm_r (ar_Nv (by omega)) (q12 post hp)⟩⟩)
end
end
section
section
variable {cv ld hl : Nat → Int32} {rn wr li mm lc : Nat → Nat} {t M : Nat}
theorem ar_m20 (a b : Nat) : nI a * (20 : Int32) + nI b = nI (20 * a + b) := by
  have : nI a * (20 : Int32) = nI (a * 20) := pk_mul a 20
  rw [this, nI_add, Nat.mul_comm]
theorem ar_yT {post : Int32 → SY → Prop} {k i r : Nat} (ht : t < 3) (hi : li t = i + 1) (h20 : i < 20) (hM : M ≤ i) (hc : lc (20 * t + i) < 16)
    (h : wY_takeBack_2 post (nI t) (nI M) k (nI (r + 1)) (upd cv (lc (20 * t + i)) (ld (20 * t + i))) (ar_N rn) hl (ar_N wr) (ar_N (ar_u li t i)) (ar_N mm) (ar_N lc) ld) : wY_takeBack_2 post (nI t) (nI M) (k + 1) (nI r) cv (ar_N rn) hl (ar_N wr) (ar_N li) (ar_N mm) (ar_N lc) ld := by
  rw [wY_takeBack_2]
  have v : vp_in (nI t) 3 := vp_in_nI ht (by omega)
  have e : ar_N li (nI t).toNatClampNeg = nI (i + 1) := by rw [ar_Nv (by omega), hi]
  have ix : nI t * (20 : Int32) + ar_N (ar_u li t i) (nI t).toNatClampNeg = nI (20 * t + i) := by rw [ar_Nv (by omega), ar_us, ar_m20]
  have vx : vp_in (nI t * (20 : Int32) + ar_N (ar_u li t i) (nI t).toNatClampNeg) 60 := by rw [ix]; exact vp_in_nI (by omega) (by omega)
  refine ⟨v, br_f (by rw [e]; exact nI_ge (by omega) (by omega)) ⟨v, v, nm_r (e' := ar_N (ar_u li t i)) (ar_Nu (ar_cl (by omega)) (by rw [e, nI_pred])) ⟨v, vx, v, vx, ?_, nm_r (e' := upd cv (lc (20 * t + i)) (ld (20 * t + i))) ?_ (nm_r (nI_1 r) h)⟩⟩⟩
  · rw [ix, ar_Nv (by omega)]; exact vp_in_nI hc (by omega)
  · rw [ix, ar_Nv (by omega), ar_cl (by omega), ar_cl (by omega)]
theorem ar_yE {post : Int32 → SY → Prop} {k r : Nat} (ht : t < 3) (hi : li t ≤ M) (hM : M < 2000000000) (h : post (nI r) (cv, (ar_N rn), hl, (ar_N wr), (ar_N li), (ar_N mm), (ar_N lc), ld)) : wY_takeBack_2 post (nI t) (nI M) (k + 1) (nI r) cv (ar_N rn) hl (ar_N wr) (ar_N li) (ar_N mm) (ar_N lc) ld := by
  rw [wY_takeBack_2]
  exact ⟨vp_in_nI ht (by omega), br_t (by rw [ar_Nv (by omega)]; exact nI_le hi (by omega)) h⟩
end
section
variable {ce fc : Nat} {hl ld : Nat → Int32} {cl cf mv rn wr mk mm lc : Nat → Nat} {B C : Nat → Int32} {fr t lim M : Nat}
/-- undoDownTo against takeBack -/
theorem ar_UN (ht : t < 3) (hr : rn t = 1) (hlc : ∀ j, lc j < 16) : ∀ m (n r0 : Nat) (se le hd sl : Nat) (dc : Nat → Int32) (dn so bw wh : Nat → Nat) (bf af : Nat → Int32) (lk pg : Nat → Nat) (fl : Nat → Int32) (fn ch la : Nat → Nat) (cv : Nat → Int32) (cm li : Nat → Nat), n ≤ m → ar_PL fc hd cv cm dc dn pg fl fn ch → ar_DL (ar_lz so wh) (ar_vl so wh af B) le se fr (le + 1) cv cm dc dn pg ch → ar_LG so bw wh lk bf af B C le se →
    ar_TL so bw wh lk rn hl la le → ar_T1 so bw wh lk bf lc ld le t (la t) lim M (li t) (wr t) → (∀ u, u < 3 → u ≠ t → rn u = 1 → ar_T1 so bw wh lk bf lc ld le u (la u) (mk u) (mm u) (li u) (wr u)) →
    ar_c so wh lk bf 0 (la t) = ar_c so wh lk bf 0 n → (ar_c so wh lk bf lim (la t)).length = (ar_c so wh lk bf lim n).length → (n = 0 ∨ (ar_K so bw rn le n ∧ bw n = t)) → 1000 ≤ sl + le → sl ≤ 100000 → le + li t ≤ 200 →
    ∃ r se' le' hd' sl' dc' dn' so' bw' wh' bf' af' lk' pg' fl' fn' ch' la' cv' cm' li', ar_PL fc hd' cv' cm' dc' dn' pg' fl' fn' ch' ∧ ar_DL (ar_lz so' wh') (ar_vl so' wh' af' B) le' se' fr (le' + 1) cv' cm' dc' dn' pg' ch' ∧ ar_LG so' bw' wh' lk' bf' af' B C le' se' ∧
      ar_TL so' bw' wh' lk' rn hl la' le' ∧ ar_T1 so' bw' wh' lk' bf' lc ld le' t (la' t) lim M (li' t) (wr t) ∧ (∀ u, u < 3 → u ≠ t → rn u = 1 → ar_T1 so' bw' wh' lk' bf' lc ld le' u (la' u) (mk u) (mm u) (li' u) (wr u)) ∧
      (se ≤ se' ∧ le ≤ le' ∧ le' + li' t ≤ 200 ∧ li' t = M) ∧ (∀ u, u ≠ t → la' u = la u) ∧ (la t ≤ le → la' t ≤ le') ∧ (∀ j, j ≤ le → so' j = so j ∧ bw' j = bw j) ∧ (∀ (post : Int32 → SX → Prop), post (nI r) ((nI se'), (nI ce), (nI le'), (nI fc), (nI hd'), (nI sl'), dc', (ar_N dn'), (ar_N cl), (ar_N cf), (ar_N so'), (ar_N bw'), (ar_N wh'), bf', af', (ar_N lk'), (ar_N mv), (ar_P pg'), fl', (ar_N fn'), (ar_N ch'), (ar_N rn), hl, (ar_N wr), (ar_N la'), (ar_N mk)) → wX_undoDownTo_10 post (nI t) (nI lim) (m + 1) (nI n) (nI r0) (nI se) (nI ce) (nI le) (nI fc) (nI hd) (nI sl) dc (ar_N dn) (ar_N cl) (ar_N cf) (ar_N so) (ar_N bw) (ar_N wh) bf af (ar_N lk) (ar_N mv) (ar_P pg) fl (ar_N fn) (ar_N ch) (ar_N rn) hl (ar_N wr) (ar_N la) (ar_N mk)) ∧
      (∀ (post : Int32 → SY → Prop), post (nI r) (cv', (ar_N rn), hl, (ar_N wr), (ar_N li'), (ar_N mm), (ar_N lc), ld) → wY_takeBack_2 post (nI t) (nI M) (li t + 1) (nI r0) cv (ar_N rn) hl (ar_N wr) (ar_N li) (ar_N mm) (ar_N lc) ld) := by
  intro m
  induction m with
  | zero =>
    intro n r0 se le hd sl dc dn so bw wh bf af lk pg fl fn ch la cv cm li hn h d g hT h1 h2 e0 e1 hK hsl hsl2 h200
    have e : n = 0 := by omega
    rw [e, ar_c_0] at e1
    have hM : li t = M := by have := h1.2.1; rw [e1] at this; exact (Nat.zero_add M ▸ this).symm
    refine ⟨r0, se, le, hd, sl, dc, dn, so, bw, wh, bf, af, lk, pg, fl, fn, ch, la, cv, cm, li, h, d, g, hT, h1, h2, ⟨Nat.le_refl _, Nat.le_refl _, h200, hM⟩, fun u _ => rfl, fun z => z, fun j _ => ⟨rfl, rfl⟩, fun post hp => ?_, fun post hp => ar_yE ht (by omega) (by omega) hp⟩
    rw [wX_undoDownTo_10, e]
    exact br_t (nI_le (Nat.zero_le _) (by have := h1.2.2.2.2.1; omega)) hp
  | succ m ih =>
    intro n r0 se le hd sl dc dn so bw wh bf af lk pg fl fn ch la cv cm li hn h d g hT h1 h2 e0 e1 hK hsl hsl2 h200
    have hlim := h1.2.2.2.2.1
    by_cases e : n ≤ lim
    · rw [ar_c_le e] at e1
      have hM : li t = M := by have := h1.2.1; rw [e1] at this; exact (Nat.zero_add M ▸ this).symm
      refine ⟨r0, se, le, hd, sl, dc, dn, so, bw, wh, bf, af, lk, pg, fl, fn, ch, la, cv, cm, li, h, d, g, hT, h1, h2, ⟨Nat.le_refl _, Nat.le_refl _, h200, hM⟩, fun u _ => rfl, fun z => z, fun j _ => ⟨rfl, rfl⟩, fun post hp => ?_, fun post hp => ar_yE ht (by omega) (by omega) hp⟩
      rw [wX_undoDownTo_10]
      exact br_t (nI_le e (by omega)) hp
    · obtain ⟨hK, hbw⟩ : ar_K so bw rn le n ∧ bw n = t := by
        rcases hK with z | z
        · omega
        · exact z
      have hnl := hK.2.2
      have b1 : ¬ nI n ≤ nI lim := nI_ge (by omega) (by omega)
      have hL : ∀ m, 0 < m → m ≤ le → lk m < m := fun m h0 h1 => (g.1 m h0 h1).2.2.2
      have hw := g.1 n (by omega) hnl
      have hlk := hw.2.2.2
      have v : vp_in (nI n) 301 := vp_in_nI (by omega) (by omega)
      have b2 : ¬ nI sl ≤ 0 := nI_nle (by omega) (by omega)
      obtain ⟨s, rfl⟩ : ∃ s, sl = s + 1 := ⟨sl - 1, by omega⟩
      obtain ⟨t1, t2⟩ := hT.1 n hK
      have hla := hT.2.2.1 t ht hr
      by_cases hs : so n = 0
      · have hq : ar_Q so bw wh lk bf le t = (wh n, bf n) :: ar_c so wh lk bf 0 (lk n) := by
          unfold ar_Q
          rw [← hla, e0, ar_c_s hL hnl (by omega) hs]
        obtain ⟨hd1, se1, dc1, dn1, pg1, fl1, fn1, ch1, cm1, g1, g2, g3, s1, k1⟩ := ar_UE (ce := ce) (sl := s + 1) (cl := cl) (cf := cf) (mv := mv) (rn := rn) (hl := hl) (wr := wr) (la := la) (mk := mk) h d g ht (by omega) hnl (by omega) hs hq
        obtain ⟨i, hi⟩ : ∃ i, li t = i + 1 := by
          refine ⟨li t - 1, ?_⟩
          have := h1.2.1
          rw [e1, ar_c_s hL hnl (by omega) hs, List.length_cons] at this
          omega
        have hM : M ≤ i := by
          have := h1.2.1
          rw [e1, ar_c_s hL hnl (by omega) hs, List.length_cons] at this
          omega
        rw [hi] at h1
        have hw20 := h1.2.2.2.1
        have hiw := h1.2.2.1
        obtain ⟨p1, p2, p3⟩ := ar_ap_T1p (kd := 1) (l := lk n) (o := 0) g.1 h1 rfl (by omega) hnl hs (by omega) e0 e1 rfl
        have hT' : ar_TL (ar_u so (le + 1) 1) (ar_u bw (le + 1) t) (ar_u wh (le + 1) (wh n)) (ar_u lk (le + 1) (lk n)) rn hl (ar_u la t (le + 1)) (le + 1) := by
          rw [hbw] at t1
          refine ar_ap_TL hT (by omega) ht hr (fun _ _ => rfl) (fun x hx => ⟨Or.inr, ?_⟩) hw.2.2.1 g.1 (fun u hu hut hru hb => ?_) ?_
          · rintro (z | z)
            · rw [z]; exact t1
            · exact z
          · have a := (hT.2.1 u (wh n) hu hw.2.2.1 hru hb).2
            have b := (hT.2.1 t (wh n) ht hw.2.2.1 hr t1).2
            exact hut (a.symm.trans b)
          · rcases t2 with z | ⟨z1, z2⟩
            · exact Or.inl z
            · exact Or.inr ⟨z1, z2.trans hbw⟩
        obtain ⟨r, se', le', hd', sl', dc', dn', so', bw', wh', bf', af', lk', pg', fl', fn', ch', la', cv', cm', li', q1, q2, q3, q4, q5, q6, ⟨q7, q8, q9, q10⟩, q11, q12, q13, q14, q15⟩ := ih (lk n) (r0 + 1) se1 (le + 1) hd1 s dc1 dn1 (ar_u so (le + 1) 1) (ar_u bw (le + 1) t) (ar_u wh (le + 1) (wh n)) (upd bf (le + 1) 0) (upd af (le + 1) (bf n)) (ar_u lk (le + 1) (lk n)) pg1 fl1 fn1 ch1 (ar_u la t (le + 1)) (upd cv (wh n) (bf n)) cm1 (ar_u li t i) (by omega) g1 g2 g3 hT'
          (by rw [ar_us, ar_us]; exact p1) (fun u hu hut hru => by
            rw [ar_un hut, ar_un hut]
            exact ar_ap_T1u g.1 (h2 u hu hut hru) hut (by rw [hT.2.2.1 u hu hru]; exact ar_lo_le le u))
          (by rw [ar_us, ar_ap_c1 g.1 (by omega) (by omega) (Nat.zero_le _), ar_ap_c g.1 (by omega)])
          (by rw [ar_us, ar_ap_c1 g.1 (by omega) (by omega) hlim, ar_ap_c g.1 (by omega)])
          (by
            rcases t2 with z | ⟨z1, z2⟩
            · exact Or.inl z
            · refine Or.inr ⟨ar_ap_K (by omega) z1, ?_⟩
              rw [ar_un (show lk n ≠ le + 1 by omega)]; exact z2.trans hbw)
          (by omega) (by omega) (by rw [ar_us]; omega)
        refine ⟨r, se', le', hd', sl', dc', dn', so', bw', wh', bf', af', lk', pg', fl', fn', ch', la', cv', cm', li', q1, q2, q3, q4, q5, q6, ⟨by omega, by omega, q9, q10⟩, fun u hu => by rw [q11 u hu, ar_un hu], fun _ => q12 (by rw [ar_us]; omega), fun j hj => ?_, fun post hp => ?_, fun post hp => ?_⟩
        · obtain ⟨j1, j2⟩ := q13 j (by omega)
          rw [j1, j2, ar_un (by omega), ar_un (by omega)]; exact ⟨rfl, rfl⟩
        · rw [wX_undoDownTo_10]
          exact br_f b1 (br_f b2 ⟨v, br_t (by rw [ar_Nv (by omega), hs]; rfl) (k1 _ (nm_r (nI_1 r0) (nm_r (nI_pred s) ⟨v, nm_r (by rw [ar_Nv (by omega), ar_un (by omega)]) (q14 post hp)⟩)))⟩)
        · rw [hi]
          have q15 := q15 post hp
          rw [ar_us] at q15
          exact ar_yT ht hi (by omega) hM (hlc _) (by rw [← p2, ← p3]; exact q15)
      · rw [ar_c_o hL hnl (by omega) hs] at e0 e1
        obtain ⟨r, se', le', hd', sl', dc', dn', so', bw', wh', bf', af', lk', pg', fl', fn', ch', la', cv', cm', li', q1, q2, q3, q4, q5, q6, q7, q11, q12, q13, q14, q15⟩ := ih (lk n) r0 se le hd (s + 1) dc dn so bw wh bf af lk pg fl fn ch la cv cm li (by omega) h d g hT h1 h2 e0 e1 (by
            rcases t2 with z | ⟨z1, z2⟩
            · exact Or.inl z
            · exact Or.inr ⟨z1, z2.trans hbw⟩) hsl hsl2 h200
        refine ⟨r, se', le', hd', sl', dc', dn', so', bw', wh', bf', af', lk', pg', fl', fn', ch', la', cv', cm', li', q1, q2, q3, q4, q5, q6, q7, q11, q12, q13, fun post hp => ?_, q15⟩
        rw [wX_undoDownTo_10]
        exact br_f b1 (br_f b2 ⟨v, br_f (by rw [ar_Nv (by omega)]; exact nI_ne0 (by omega) (by omega)) ⟨v, nm_r (ar_Nv (by omega)) (q14 post hp)⟩⟩)
end
end
section
/-! ===== zeroing loops ===== -/
def ar_z (g : Nat → Nat) (i : Nat) : Nat → Nat := fun j => if j < i then 0 else g j
theorem ar_z0 {g : Nat → Nat} : ar_z g 0 = g := funext fun j => if_neg (by omega)
theorem ar_z1 {g : Nat → Nat} {i : Nat} : ar_u (ar_z g i) i 0 = ar_z g (i + 1) := by
  funext j
  show (if j = i then 0 else if j < i then 0 else g j) = if j < i + 1 then 0 else g j
  by_cases e : j = i
  · rw [if_pos e, if_pos (by omega)]
  · rw [if_neg e]
    by_cases h : j < i
    · rw [if_pos h, if_pos (by omega)]
    · rw [if_neg h, if_neg (by omega)]
theorem ar_zi {g : Nat → Nat} {i j : Nat} (h : j < i) : ar_z g i j = 0 := if_pos h
theorem ar_zo {g : Nat → Nat} {i j : Nat} (h : ¬ j < i) : ar_z g i j = g j := if_neg h
def ar_k (g s : Nat → Nat) (i : Nat) : Nat → Nat := fun j => if j < i then s j else g j
theorem ar_k0 {g s : Nat → Nat} : ar_k g s 0 = g := funext fun j => if_neg (by omega)
theorem ar_k1 {g s : Nat → Nat} {i : Nat} : ar_u (ar_k g s i) i (s i) = ar_k g s (i + 1) := by
  funext j
  show (if j = i then s i else if j < i then s j else g j) = if j < i + 1 then s j else g j
  by_cases e : j = i
  · rw [if_pos e, if_pos (by omega), e]
  · rw [if_neg e]
    by_cases h : j < i
    · rw [if_pos h, if_pos (by omega)]
    · rw [if_neg h, if_neg (by omega)]
theorem ar_ki {g s : Nat → Nat} {i j : Nat} (h : j < i) : ar_k g s i j = s j := if_pos h
section
variable {g : Nat → Nat} {i : Nat} {v : Int32}
theorem ar_Nz (hi : i < 2000000000) (hv : v = nI 0) : upd (ar_N (ar_z g i)) (nI i).toNatClampNeg v = ar_N (ar_z g (i + 1)) := by rw [ar_Nu (ar_cl hi) hv, ar_z1]
theorem ar_Pz (hi : i < 2000000000) (hv : v = nI 0 + (-1)) : upd (ar_P (ar_z g i)) (nI i).toNatClampNeg v = ar_P (ar_z g (i + 1)) := by rw [ar_Pu (ar_cl hi) hv, ar_z1]
end
section
variable {se ce le fc hd sl : Nat} {dc bf af fl hl : Nat → Int32} {dn cl cf so bw wh lk mv pg fn ch rn wr la mk : Nat → Nat}
theorem ar_f54 {post : SX → Prop} (h : post ((nI se), (nI ce), (nI le), (nI fc), (nI hd), (nI sl), dc, (ar_N dn), (ar_N cl), (ar_N cf), (ar_N so), (ar_N bw), (ar_N wh), bf, af, (ar_N lk), (ar_N mv), (ar_P pg), fl, (ar_N (ar_z fn 3)), (ar_N (ar_z ch 3)), (ar_N rn), hl, (ar_N wr), (ar_N la), (ar_N mk))) : ∀ d i, i + d = 3 → wX_forgetNumbers_54 post (nI se) (nI ce) (nI le) (nI fc) (nI hd) (nI sl) (d + 1) (nI i) dc (ar_N dn) (ar_N cl) (ar_N cf) (ar_N so) (ar_N bw) (ar_N wh) bf af (ar_N lk) (ar_N mv) (ar_P pg) fl (ar_N (ar_z fn i)) (ar_N (ar_z ch i)) (ar_N rn) hl (ar_N wr) (ar_N la) (ar_N mk) := by
  intro d
  induction d with
  | zero =>
    intro i hi
    have e : i = 3 := by omega
    subst e
    rw [wX_forgetNumbers_54]
    exact br_t (show (3 : Int32) ≤ nI 3 by decide) h
  | succ d ih =>
    intro i hi
    rw [wX_forgetNumbers_54]
    have v : vp_in (nI i) 3 := vp_in_nI (by omega) (by omega)
    exact br_f (nI_ge (b := 3) (by omega) (by omega)) ⟨v, nm_r (ar_Nz (by omega) ar_vs0) ⟨v, nm_r (ar_Nz (by omega) ar_vs0) (nm_r (nI_1 i) (ih (i + 1) (by omega)))⟩⟩
theorem ar_f27 {post : SX → Prop} (h : post ((nI se), (nI ce), (nI le), (nI fc), (nI hd), (nI sl), dc, (ar_N (ar_z dn 4)), (ar_N cl), (ar_N (ar_z cf 4)), (ar_N so), (ar_N bw), (ar_N wh), bf, af, (ar_N lk), (ar_N mv), (ar_P pg), fl, (ar_N (ar_z fn 3)), (ar_N (ar_z ch 3)), (ar_N rn), hl, (ar_N wr), (ar_N la), (ar_N mk))) : ∀ d i, i + d = 4 → wX_forgetNumbers_27 post (nI se) (nI ce) (nI le) (nI fc) (nI hd) (nI sl) (d + 1) (nI i) dc (ar_N (ar_z dn i)) (ar_N cl) (ar_N (ar_z cf i)) (ar_N so) (ar_N bw) (ar_N wh) bf af (ar_N lk) (ar_N mv) (ar_P pg) fl (ar_N fn) (ar_N ch) (ar_N rn) hl (ar_N wr) (ar_N la) (ar_N mk) := by
  intro d
  induction d with
  | zero =>
    intro i hi
    have e : i = 4 := by omega
    subst e
    rw [wX_forgetNumbers_27]
    have := ar_f54 h 3 0 rfl
    rw [ar_z0, ar_z0] at this
    exact br_t (show (4 : Int32) ≤ nI 4 by decide) ⟨4, this⟩
  | succ d ih =>
    intro i hi
    rw [wX_forgetNumbers_27]
    have v : vp_in (nI i) 4 := vp_in_nI (by omega) (by omega)
    exact br_f (nI_ge (b := 4) (by omega) (by omega)) ⟨v, nm_r (ar_Nz (by omega) ar_vs0) ⟨v, nm_r (ar_Nz (by omega) ar_vs0) (nm_r (nI_1 i) (ih (i + 1) (by omega)))⟩⟩
theorem ar_f7 {post : SX → Prop} (h : post ((nI se), (nI ce), (nI le), (nI fc), (nI hd), (nI sl), dc, (ar_N (ar_z dn 4)), (ar_N (ar_z cl 3)), (ar_N (ar_z cf 4)), (ar_N so), (ar_N bw), (ar_N wh), bf, af, (ar_N lk), (ar_N mv), (ar_P pg), fl, (ar_N (ar_z fn 3)), (ar_N (ar_z ch 3)), (ar_N rn), hl, (ar_N wr), (ar_N la), (ar_N mk))) : ∀ d i, i + d = 3 → wX_forgetNumbers_7 post (nI se) (nI ce) (nI le) (nI fc) (nI hd) (nI sl) (d + 1) (nI i) dc (ar_N dn) (ar_N (ar_z cl i)) (ar_N cf) (ar_N so) (ar_N bw) (ar_N wh) bf af (ar_N lk) (ar_N mv) (ar_P pg) fl (ar_N fn) (ar_N ch) (ar_N rn) hl (ar_N wr) (ar_N la) (ar_N mk) := by
  intro d
  induction d with
  | zero =>
    intro i hi
    have e : i = 3 := by omega
    subst e
    rw [wX_forgetNumbers_7]
    have := ar_f27 h 4 0 rfl
    rw [ar_z0, ar_z0] at this
    exact br_t (show (3 : Int32) ≤ nI 3 by decide) ⟨5, this⟩
  | succ d ih =>
    intro i hi
    rw [wX_forgetNumbers_7]
    have v : vp_in (nI i) 3 := vp_in_nI (by omega) (by omega)
    exact br_f (nI_ge (b := 3) (by omega) (by omega)) ⟨v, nm_r (ar_Nz (by omega) ar_vs0) (nm_r (nI_1 i) (ih (i + 1) (by omega)))⟩
theorem ar_FN {post : SX → Prop} (h : post ((nI se), (nI 0), (nI le), (nI fc), (nI hd), (nI sl), dc, (ar_N (ar_z dn 4)), (ar_N (ar_z cl 3)), (ar_N (ar_z cf 4)), (ar_N so), (ar_N bw), (ar_N wh), bf, af, (ar_N lk), (ar_N mv), (ar_P pg), fl, (ar_N (ar_z fn 3)), (ar_N (ar_z ch 3)), (ar_N rn), hl, (ar_N wr), (ar_N la), (ar_N mk))) : wpX_forgetNumbers post ((nI se), (nI ce), (nI le), (nI fc), (nI hd), (nI sl), dc, (ar_N dn), (ar_N cl), (ar_N cf), (ar_N so), (ar_N bw), (ar_N wh), bf, af, (ar_N lk), (ar_N mv), (ar_P pg), fl, (ar_N fn), (ar_N ch), (ar_N rn), hl, (ar_N wr), (ar_N la), (ar_N mk)) := by
  have := ar_f7 h 3 0 rfl
  rw [ar_z0] at this
  exact ⟨4, this⟩
/-! ===== loseMemory ===== -/
theorem ar_l30 {post : SX → Prop} (h : post ((nI se), (nI ce), (nI le), (nI fc), (nI hd), (nI sl), dc, (ar_N dn), (ar_N cl), (ar_N cf), (ar_N so), (ar_N bw), (ar_N wh), bf, af, (ar_N lk), (ar_N mv), (ar_P pg), fl, (ar_N fn), (ar_N ch), (ar_N (ar_z rn 3)), hl, (ar_N wr), (ar_N (ar_z la 3)), (ar_N mk))) : ∀ d i, i + d = 3 → wX_loseMemory_30 post (nI se) (nI ce) (nI le) (nI fc) (nI hd) (nI sl) (d + 1) (nI i) dc (ar_N dn) (ar_N cl) (ar_N cf) (ar_N so) (ar_N bw) (ar_N wh) bf af (ar_N lk) (ar_N mv) (ar_P pg) fl (ar_N fn) (ar_N ch) (ar_N (ar_z rn i)) hl (ar_N wr) (ar_N (ar_z la i)) (ar_N mk) := by
  intro d
  induction d with
  | zero =>
    intro i hi
    have e : i = 3 := by omega
    subst e
    rw [wX_loseMemory_30]
    exact br_t (show (3 : Int32) ≤ nI 3 by decide) h
  | succ d ih =>
    intro i hi
    rw [wX_loseMemory_30]
    have v : vp_in (nI i) 3 := vp_in_nI (by omega) (by omega)
    exact br_f (nI_ge (b := 3) (by omega) (by omega)) ⟨v, nm_r (ar_Nz (by omega) ar_vz0) ⟨v, nm_r (ar_Nz (by omega) ar_vs0) (nm_r (nI_1 i) (ih (i + 1) (by omega)))⟩⟩
theorem ar_l10 {post : SX → Prop} (h : post ((nI se), (nI ce), (nI le), (nI fc), (nI hd), (nI sl), dc, (ar_N dn), (ar_N cl), (ar_N cf), (ar_N so), (ar_N bw), (ar_N wh), bf, af, (ar_N lk), (ar_N mv), (ar_P (ar_z pg 3)), fl, (ar_N fn), (ar_N ch), (ar_N (ar_z rn 3)), hl, (ar_N wr), (ar_N (ar_z la 3)), (ar_N mk))) : ∀ d i, i + d = 3 → wX_loseMemory_10 post (nI se) (nI ce) (nI le) (nI fc) (nI hd) (nI sl) (d + 1) (nI i) dc (ar_N dn) (ar_N cl) (ar_N cf) (ar_N so) (ar_N bw) (ar_N wh) bf af (ar_N lk) (ar_N mv) (ar_P (ar_z pg i)) fl (ar_N fn) (ar_N ch) (ar_N rn) hl (ar_N wr) (ar_N la) (ar_N mk) := by
  intro d
  induction d with
  | zero =>
    intro i hi
    have e : i = 3 := by omega
    subst e
    rw [wX_loseMemory_10]
    have := ar_l30 h 3 0 rfl
    rw [ar_z0, ar_z0] at this
    exact br_t (show (3 : Int32) ≤ nI 3 by decide) ⟨4, this⟩
  | succ d ih =>
    intro i hi
    rw [wX_loseMemory_10]
    have v : vp_in (nI i) 3 := vp_in_nI (by omega) (by omega)
    exact br_f (nI_ge (b := 3) (by omega) (by omega)) ⟨v, nm_r (ar_Pz (by omega) ar_vbm) (nm_r (nI_1 i) (ih (i + 1) (by omega)))⟩
theorem ar_LM {post : SX → Prop} (h : post ((nI se), (nI ce), (nI se), (nI fc), (nI hd), (nI sl), dc, (ar_N dn), (ar_N cl), (ar_N cf), (ar_N so), (ar_N bw), (ar_N wh), bf, af, (ar_N lk), (ar_N mv), (ar_P (ar_z pg 3)), fl, (ar_N fn), (ar_N ch), (ar_N (ar_z rn 3)), hl, (ar_N wr), (ar_N (ar_z la 3)), (ar_N mk))) : wpX_loseMemory post ((nI se), (nI ce), (nI le), (nI fc), (nI hd), (nI sl), dc, (ar_N dn), (ar_N cl), (ar_N cf), (ar_N so), (ar_N bw), (ar_N wh), bf, af, (ar_N lk), (ar_N mv), (ar_P pg), fl, (ar_N fn), (ar_N ch), (ar_N rn), hl, (ar_N wr), (ar_N la), (ar_N mk)) := by
  have := ar_l10 h 3 0 rfl
  rw [ar_z0] at this
  exact ⟨4, this⟩
/-! ===== findLosers ===== -/
theorem ar_l32 (hle : le ≤ 300) (hb : ∀ n, 0 < n → n ≤ le → bw n < 3 ∧ so n ≤ 3) : ∀ d n la, n + d = le → (∀ u, u < 3 → la u = ar_lo so bw n u) →
    ∃ la', (∀ u, u < 3 → la' u = ar_lo so bw le u) ∧ ∀ (post : SX → Prop), post ((nI se), (nI ce), (nI le), (nI fc), (nI hd), (nI sl), dc, (ar_N dn), (ar_N cl), (ar_N cf), (ar_N so), (ar_N bw), (ar_N wh), bf, af, (ar_N lk), (ar_N mv), (ar_P pg), fl, (ar_N fn), (ar_N ch), (ar_N rn), hl, (ar_N wr), (ar_N la'), (ar_N mk)) → wX_findLosers_32 post (nI se) (nI ce) (nI le) (nI fc) (nI hd) (nI sl) (d + 1) (nI (n + 1)) dc (ar_N dn) (ar_N cl) (ar_N cf) (ar_N so) (ar_N bw) (ar_N wh) bf af (ar_N lk) (ar_N mv) (ar_P pg) fl (ar_N fn) (ar_N ch) (ar_N rn) hl (ar_N wr) (ar_N la) (ar_N mk) := by
  intro d
  induction d with
  | zero =>
    intro n la hn hu
    have e : n = le := by omega
    subst e
    refine ⟨la, hu, fun post hp => ?_⟩
    rw [wX_findLosers_32]
    exact br_t (nI_lt (by omega) (by omega)) hp
  | succ d ih =>
    intro n la hn hu
    obtain ⟨b1, b2⟩ := hb (n + 1) (by omega) (by omega)
    obtain ⟨la', h1, h2⟩ := ih (n + 1) (ar_u la (bw (n + 1)) (if so (n + 1) < 2 then n + 1 else 0)) (by omega) (fun u hu3 => by
      unfold ar_lo
      by_cases e : bw (n + 1) = u
      · rw [if_pos e, e, ar_us]
      · rw [if_neg e, ar_un (fun z => e z.symm)]; exact hu u hu3)
    refine ⟨la', h1, fun post hp => ?_⟩
    have h2 := h2 post hp
    rw [wX_findLosers_32]
    have v : vp_in (nI (n + 1)) 301 := vp_in_nI (by omega) (by omega)
    have vb : vp_in (ar_N bw (nI (n + 1)).toNatClampNeg) 3 := by rw [ar_Nv (by omega)]; exact vp_in_nI b1 (by omega)
    have eb : (ar_N bw (nI (n + 1)).toNatClampNeg).toNatClampNeg = bw (n + 1) := by rw [ar_Nv (by omega)]; exact ar_cl (by omega)
    refine br_f (nI_nlt (by omega) (by omega)) ⟨v, v, ?_⟩
    by_cases z : so (n + 1) < 2
    · rw [if_pos z] at h2
      exact br_t (by rw [ar_Nv (by omega)]; exact nI_lt (b := 2) z (by omega)) ⟨vb, nm_r (ar_Nu eb (ar_vs2 (by omega))) (nm_r (nI_1 (n + 1)) h2)⟩
    · rw [if_neg z] at h2
      exact br_f (by rw [ar_Nv (by omega)]; exact nI_nlt (b := 2) (by omega) (by omega)) ⟨vb, nm_r (ar_Nu eb ar_vs0) (nm_r (nI_1 (n + 1)) h2)⟩
theorem ar_l2 {post : SX → Prop} (hcl : ∀ u, u < 3 → cl u < 32768) (h : ∃ n, wX_findLosers_32 post (nI se) (nI ce) (nI le) (nI fc) (nI hd) (nI sl) n (nI (ce + 1)) dc (ar_N dn) (ar_N cl) (ar_N cf) (ar_N so) (ar_N bw) (ar_N wh) bf af (ar_N lk) (ar_N mv) (ar_P pg) fl (ar_N fn) (ar_N ch) (ar_N rn) hl (ar_N wr) (ar_N (ar_k la cl 3)) (ar_N mk)) : ∀ d i, i + d = 3 → wX_findLosers_2 post (nI se) (nI ce) (nI le) (nI fc) (nI hd) (nI sl) (d + 1) (nI i) dc (ar_N dn) (ar_N cl) (ar_N cf) (ar_N so) (ar_N bw) (ar_N wh) bf af (ar_N lk) (ar_N mv) (ar_P pg) fl (ar_N fn) (ar_N ch) (ar_N rn) hl (ar_N wr) (ar_N (ar_k la cl i)) (ar_N mk) := by
  intro d
  induction d with
  | zero =>
    intro i hi
    have e : i = 3 := by omega
    subst e
    rw [wX_findLosers_2]
    exact br_t (show (3 : Int32) ≤ nI 3 by decide) (nm_r (nI_1 ce) h)
  | succ d ih =>
    intro i hi
    rw [wX_findLosers_2]
    have v : vp_in (nI i) 3 := vp_in_nI (by omega) (by omega)
    exact br_f (nI_ge (b := 3) (by omega) (by omega)) ⟨v, v, nm_r (e' := ar_N (ar_k la cl (i + 1))) (by rw [ar_Nu (n := cl i) (ar_cl (by omega)) (by rw [ar_Nv (by omega), ar_vs (hcl i (by omega))]), ar_k1]) (nm_r (nI_1 i) (ih (i + 1) (by omega)))⟩
theorem ar_FL (hle : le ≤ 300) (hb : ∀ n, 0 < n → n ≤ le → bw n < 3 ∧ so n ≤ 3) (hce : ce ≤ le) (hcl : ∀ u, u < 3 → cl u = ar_lo so bw ce u) :
    ∃ la', (∀ u, u < 3 → la' u = ar_lo so bw le u) ∧ ∀ (post : SX → Prop), post ((nI se), (nI ce), (nI le), (nI fc), (nI hd), (nI sl), dc, (ar_N dn), (ar_N cl), (ar_N cf), (ar_N so), (ar_N bw), (ar_N wh), bf, af, (ar_N lk), (ar_N mv), (ar_P pg), fl, (ar_N fn), (ar_N ch), (ar_N rn), hl, (ar_N wr), (ar_N la'), (ar_N mk)) → wpX_findLosers post ((nI se), (nI ce), (nI le), (nI fc), (nI hd), (nI sl), dc, (ar_N dn), (ar_N cl), (ar_N cf), (ar_N so), (ar_N bw), (ar_N wh), bf, af, (ar_N lk), (ar_N mv), (ar_P pg), fl, (ar_N fn), (ar_N ch), (ar_N rn), hl, (ar_N wr), (ar_N la), (ar_N mk)) := by
  obtain ⟨la', h1, h2⟩ := ar_l32 (se := se) (ce := ce) (fc := fc) (hd := hd) (sl := sl) (dc := dc) (dn := dn) (cl := cl) (cf := cf) (wh := wh) (bf := bf) (af := af) (lk := lk) (mv := mv) (pg := pg) (fl := fl) (fn := fn) (ch := ch) (rn := rn) (hl := hl) (wr := wr) (mk := mk) hle hb (le - ce) ce (ar_k la cl 3) (by omega) (fun u hu => by rw [ar_ki hu]; exact hcl u hu)
  refine ⟨la', h1, fun post hp => ⟨4, ?_⟩⟩
  have := ar_l2 (post := post) (se := se) (ce := ce) (le := le) (fc := fc) (hd := hd) (sl := sl) (dc := dc) (dn := dn) (cl := cl) (cf := cf) (so := so) (bw := bw) (wh := wh) (bf := bf) (af := af) (lk := lk) (mv := mv) (pg := pg) (fl := fl) (fn := fn) (ch := ch) (rn := rn) (hl := hl) (wr := wr) (la := la) (mk := mk) (fun u hu => by rw [hcl u hu]; have := @ar_lo_le so bw ce u; omega) ⟨_, h2 post hp⟩ 3 0 rfl
  rw [ar_k0] at this
  exact this
end
end
section
def ar_fs (ce : Nat) (cf : Nat → Nat) : Nat → Nat
  | 0 => ce + 1
  | p + 1 => if cf p ≠ 0 ∧ cf p < ar_fs ce cf p then cf p else ar_fs ce cf p
theorem ar_fs_b {ce : Nat} {cf : Nat → Nat} : ∀ p, 1 ≤ ar_fs ce cf p ∧ ar_fs ce cf p ≤ ce + 1 := by
  intro p
  induction p with
  | zero => unfold ar_fs; omega
  | succ p ih =>
    unfold ar_fs
    by_cases h : cf p ≠ 0 ∧ cf p < ar_fs ce cf p
    · rw [if_pos h]; omega
    · rw [if_neg h]; exact ih
def ar_CK (so bw cl cf : Nat → Nat) (ce se : Nat) : Prop := ce ≤ se ∧ (∀ t, t < 3 → cl t = ar_lo so bw ce t) ∧ ∀ p, p < 4 → cf p ≤ ce
section
variable {Z : Nat → Nat → Nat} {V : Nat → Nat → Int32} {le se fr n fc hd : Nat} {cv dc fl : Nat → Int32} {cm dn pg fn ch : Nat → Nat}
theorem ar_cl_PL (h : ar_PL fc hd cv cm dc dn pg fl fn ch) (hd1 : ∀ c, c < 16 → dc c = cv c) : ar_PL fc hd cv (fun _ => 0) dc (ar_z dn 4) pg fl (ar_z fn 3) (ar_z ch 3) := by
  obtain ⟨a1, a2, a3, a4, a5, a6, a7⟩ := h
  refine ⟨a1, a2, a3, fun f p hf hp => ⟨ar_zi hf, fun _ => ar_zi ?_⟩, fun f c hf hc hp => ⟨(a5 f c hf hc hp).1, fun _ => hd1 c hc⟩, fun p hp _ => ar_zi hp, fun c hc _ => hd1 c hc⟩
  have := (a2 f hf).1
  omega
end
section
variable {se ce le fc hd sl : Nat} {dc bf af fl hl : Nat → Int32} {dn cl cf so bw wh lk mv pg fn ch rn wr la mk : Nat → Nat}
theorem ar_d9 {post : SX → Prop} (hce : ce ≤ 300) (hcf : ∀ p, p < 4 → cf p ≤ 300) (h : ∃ n, wX_doAgain_48 post n (nI (ar_fs ce cf 4)) (nI se) (nI ce) (nI le) (nI fc) (nI hd) (nI sl) dc (ar_N dn) (ar_N cl) (ar_N cf) (ar_N so) (ar_N bw) (ar_N wh) bf af (ar_N lk) (ar_N mv) (ar_P pg) fl (ar_N fn) (ar_N ch) (ar_N rn) hl (ar_N wr) (ar_N la) (ar_N mk)) : ∀ d p, p + d = 4 → wX_doAgain_9 post (nI se) (nI ce) (nI le) (nI fc) (nI hd) (nI sl) dc (ar_N dn) (ar_N cl) (ar_N cf) (ar_N so) (ar_N bw) (ar_N wh) bf af (ar_N lk) (ar_N mv) (ar_P pg) fl (ar_N fn) (ar_N ch) (ar_N rn) hl (ar_N wr) (ar_N la) (ar_N mk) (d + 1) (nI (ar_fs ce cf p)) (nI p) := by
  intro d
  induction d with
  | zero =>
    intro p hp
    have e : p = 4 := by omega
    subst e
    rw [wX_doAgain_9]
    exact br_t (show (4 : Int32) ≤ nI 4 by decide) h
  | succ d ih =>
    intro p hp
    have ih := ih (p + 1) (by omega)
    rw [wX_doAgain_9]
    have v : vp_in (nI p) 4 := vp_in_nI (by omega) (by omega)
    have fb := @ar_fs_b ce cf p
    have c3 := hcf p (by omega)
    refine br_f (nI_ge (b := 4) (by omega) (by omega)) ⟨v, ?_⟩
    unfold ar_fs at ih
    by_cases z : cf p = 0
    · rw [if_neg (fun y => y.1 z)] at ih
      exact br_t (by rw [ar_Nv (by omega), z]; rfl) (nm_r (nI_1 p) ih)
    · refine br_f (by rw [ar_Nv (by omega)]; exact nI_ne0 (by omega) (by omega)) ⟨v, ?_⟩
      by_cases y : cf p < ar_fs ce cf p
      · rw [if_pos ⟨z, y⟩] at ih
        exact br_f (by rw [ar_Nv (by omega)]; exact nI_ge y (by omega)) ⟨v, nm_r (ar_Nv (by omega)) (nm_r (nI_1 p) ih)⟩
      · rw [if_neg (fun x => y x.2)] at ih
        exact br_t (by rw [ar_Nv (by omega)]; exact nI_le (by omega) (by omega)) (nm_r (nI_1 p) ih)
variable {B C : Nat → Int32} {fr : Nat}
theorem ar_D48 (hW : ar_WF so bw wh lk le) (hle : le ≤ 300) : ∀ d n (se hd sl : Nat) (dc : Nat → Int32) (dn pg : Nat → Nat) (fl : Nat → Int32) (fn ch : Nat → Nat) (cv : Nat → Int32) (cm : Nat → Nat), n + d = le + 1 → ar_PL fc hd cv cm dc dn pg fl fn ch → ar_DL (ar_lz so wh) (ar_vl so wh af B) le se fr n cv cm dc dn pg ch → sl < 2000000000 →
    ∃ n' se' hd' sl' dc' dn' pg' fl' fn' ch' cv' cm', ar_PL fc hd' cv' cm' dc' dn' pg' fl' fn' ch' ∧ ar_DL (ar_lz so wh) (ar_vl so wh af B) le se' fr n' cv' cm' dc' dn' pg' ch' ∧ (se ≤ se' ∧ sl + n ≤ sl' + n' ∧ sl' ≤ sl) ∧ (0 < sl' → n' = le + 1) ∧
      ∀ (post : SX → Prop), post ((nI se'), (nI ce), (nI le), (nI fc), (nI hd'), (nI sl'), dc', (ar_N dn'), (ar_N cl), (ar_N cf), (ar_N so), (ar_N bw), (ar_N wh), bf, af, (ar_N lk), (ar_N mv), (ar_P pg'), fl', (ar_N fn'), (ar_N ch'), (ar_N rn), hl, (ar_N wr), (ar_N la), (ar_N mk)) → wX_doAgain_48 post (d + 1) (nI n) (nI se) (nI ce) (nI le) (nI fc) (nI hd) (nI sl) dc (ar_N dn) (ar_N cl) (ar_N cf) (ar_N so) (ar_N bw) (ar_N wh) bf af (ar_N lk) (ar_N mv) (ar_P pg) fl (ar_N fn) (ar_N ch) (ar_N rn) hl (ar_N wr) (ar_N la) (ar_N mk) := by
  intro d
  induction d with
  | zero =>
    intro n se hd sl dc dn pg fl fn ch cv cm hn h dl hsl
    refine ⟨n, se, hd, sl, dc, dn, pg, fl, fn, ch, cv, cm, h, dl, ⟨Nat.le_refl _, Nat.le_refl _, Nat.le_refl _⟩, fun _ => by omega, fun post hp => ?_⟩
    rw [wX_doAgain_48]
    exact br_t (nI_lt (by omega) (by omega)) hp
  | succ d ih =>
    intro n se hd sl dc dn pg fl fn ch cv cm hn h dl hsl
    have n0 : 0 < n := by have := dl.1; omega
    have b1 : ¬ nI le < nI n := nI_nlt (by omega) (by omega)
    have v : vp_in (nI n) 301 := vp_in_nI (by omega) (by omega)
    obtain ⟨w1, w2, w3, w4⟩ := hW n n0 (by omega)
    by_cases z : sl = 0
    · subst z
      refine ⟨n, se, hd, 0, dc, dn, pg, fl, fn, ch, cv, cm, h, dl, ⟨Nat.le_refl _, Nat.le_refl _, Nat.le_refl _⟩, fun y => absurd y (by omega), fun post hp => ?_⟩
      rw [wX_doAgain_48]
      exact br_f b1 (br_t (show nI 0 ≤ 0 by decide) hp)
    · have b2 : ¬ nI sl ≤ 0 := nI_nle (by omega) (by omega)
      obtain ⟨s, rfl⟩ : ∃ s, sl = s + 1 := ⟨sl - 1, by omega⟩
      by_cases hs : so n < 2
      · obtain ⟨f, hd1, se1, dc1, dn1, pg1, fl1, fn1, ch1, hf, hq1, h1, d1, s1, k1⟩ := ar_BR (ce := ce) (sl := s + 1) (cl := cl) (cf := cf) (so := so) (bw := bw) (wh := wh) (bf := bf) (af := af) (lk := lk) (mv := mv) (rn := rn) (hl := hl) (wr := wr) (la := la) (mk := mk) (p := wh n / 4) ar_zv h dl hle (by omega)
        have c1 := d1.2.2.2.2.2.1 f (wh n / 4) hf hq1
        have c2 := (h1.2.2.2.1 f (wh n / 4) hf hq1).1
        have c3 := (d1.2.1 (wh n / 4) (by omega)).2
        have zx : ∀ x, ar_lz so wh le x = n → x = wh n := fun x e => by
          have := (ar_lz_at (so := so) (wh := wh) le x (by omega)).2
          rw [e] at this
          exact this.symm
        by_cases hg : fn1 f < n
        · have p1 := ar_ae_PL (v := af n) h1 hf w3 hq1 n0
          have p2 := ar_re_DL (v := af n) h1 d1 hf w3 hq1 (by omega) hg (ar_lz_ge le n (wh n) n0 (by omega) hs rfl) zx (fun e => by unfold ar_vl; rw [if_neg (by omega), e])
          obtain ⟨n', se', hd', sl', dc', dn', pg', fl', fn', ch', cv', cm', q1, q2, ⟨q3, q4, q5⟩, q6, q7⟩ := ih (n + 1) _ _ s _ _ _ _ _ _ _ _ (by omega) p1 p2 (by omega)
          refine ⟨n', se', hd', sl', dc', dn', pg', fl', fn', ch', cv', cm', q1, q2, ⟨by omega, by omega, by omega⟩, q6, fun post hp => ?_⟩
          rw [wX_doAgain_48]
          refine br_f b1 (br_f b2 ⟨v, br_t (by rw [ar_Nv (by omega)]; exact nI_lt (b := 2) hs (by omega)) ⟨v, ?_⟩⟩)
          rw [ar_cl (show n < 2000000000 by omega), show ar_N wh n = nI (wh n) from rfl, ar_shr2 (by omega)]
          refine k1 _ ⟨vp_in_nI hf (by omega), br_t (by rw [ar_Nv (by omega)]; exact nI_lt hg (by omega)) ⟨v, v, ?_⟩⟩
          exact ar_AE hf w3 (by omega) (by omega) (nm_r (nI_pred s) (nm_r (nI_1 n) (q7 post hp)))
        · have p2 := ar_sk_DL d1 (by omega) (fun x hx e => by rw [zx x e, ← c2]; omega)
          obtain ⟨n', se', hd', sl', dc', dn', pg', fl', fn', ch', cv', cm', q1, q2, ⟨q3, q4, q5⟩, q6, q7⟩ := ih (n + 1) _ _ (s + 1) _ _ _ _ _ _ _ _ (by omega) h1 p2 (by omega)
          refine ⟨n', se', hd', sl', dc', dn', pg', fl', fn', ch', cv', cm', q1, q2, ⟨by omega, by omega, by omega⟩, q6, fun post hp => ?_⟩
          rw [wX_doAgain_48]
          refine br_f b1 (br_f b2 ⟨v, br_t (by rw [ar_Nv (by omega)]; exact nI_lt (b := 2) hs (by omega)) ⟨v, ?_⟩⟩)
          rw [ar_cl (show n < 2000000000 by omega), show ar_N wh n = nI (wh n) from rfl, ar_shr2 (by omega)]
          exact k1 _ ⟨vp_in_nI hf (by omega), br_f (by rw [ar_Nv (by omega)]; exact nI_nlt (by omega) (by omega)) (nm_r (nI_1 n) (q7 post hp))⟩
      · have p2 := ar_sk_DL dl (by omega) (fun x hx e => by
          have := (ar_lz_at (so := so) (wh := wh) le x (by omega)).1
          rw [e] at this
          exact absurd this hs)
        obtain ⟨n', se', hd', sl', dc', dn', pg', fl', fn', ch', cv', cm', q1, q2, ⟨q3, q4, q5⟩, q6, q7⟩ := ih (n + 1) _ _ (s + 1) _ _ _ _ _ _ _ _ (by omega) h p2 (by omega)
        refine ⟨n', se', hd', sl', dc', dn', pg', fl', fn', ch', cv', cm', q1, q2, ⟨by omega, by omega, by omega⟩, q6, fun post hp => ?_⟩
        rw [wX_doAgain_48]
        exact br_f b1 (br_f b2 ⟨v, br_f (by rw [ar_Nv (by omega)]; exact nI_nlt (b := 2) (by omega) (by omega)) (nm_r (nI_1 n) (q7 post hp))⟩)
theorem ar_DA {cv : Nat → Int32} {cm : Nat → Nat} (hW : ar_WF so bw wh lk le) (hle : le ≤ 300) (hce : ce ≤ 300) (hcf : ∀ p, p < 4 → cf p ≤ 300) (h : ar_PL fc hd cv cm dc dn pg fl fn ch) (dl : ar_DL (ar_lz so wh) (ar_vl so wh af B) le se (ar_fs ce cf 4) (ar_fs ce cf 4) cv cm dc dn pg ch) (hsl : sl < 2000000000) :
    ∃ n' se' hd' sl' dc' dn' pg' fl' fn' ch' cv' cm', ar_PL fc hd' cv' cm' dc' dn' pg' fl' fn' ch' ∧ ar_DL (ar_lz so wh) (ar_vl so wh af B) le se' (ar_fs ce cf 4) n' cv' cm' dc' dn' pg' ch' ∧ (se ≤ se' ∧ sl ≤ sl' + n' ∧ sl' ≤ sl) ∧ (0 < sl' → n' = le + 1) ∧
      ∀ (post : SX → Prop), post ((nI se'), (nI ce), (nI le), (nI fc), (nI hd'), (nI sl'), dc', (ar_N dn'), (ar_N cl), (ar_N cf), (ar_N so), (ar_N bw), (ar_N wh), bf, af, (ar_N lk), (ar_N mv), (ar_P pg'), fl', (ar_N fn'), (ar_N ch'), (ar_N rn), hl, (ar_N wr), (ar_N la), (ar_N mk)) → wpX_doAgain post ((nI se), (nI ce), (nI le), (nI fc), (nI hd), (nI sl), dc, (ar_N dn), (ar_N cl), (ar_N cf), (ar_N so), (ar_N bw), (ar_N wh), bf, af, (ar_N lk), (ar_N mv), (ar_P pg), fl, (ar_N fn), (ar_N ch), (ar_N rn), hl, (ar_N wr), (ar_N la), (ar_N mk)) := by
  have hb := dl.1
  obtain ⟨n', se', hd', sl', dc', dn', pg', fl', fn', ch', cv', cm', q1, q2, ⟨q3, q4, q5⟩, q6, q7⟩ := ar_D48 (ce := ce) (cl := cl) (cf := cf) (mv := mv) (rn := rn) (hl := hl) (wr := wr) (la := la) (mk := mk) (bf := bf) hW hle (le + 1 - ar_fs ce cf 4) (ar_fs ce cf 4) se hd sl dc dn pg fl fn ch cv cm (by omega) h dl hsl
  exact ⟨n', se', hd', sl', dc', dn', pg', fl', fn', ch', cv', cm', q1, q2, ⟨q3, by omega, q5⟩, q6, fun post hp => nm_r (nI_1 ce) ⟨5, ar_d9 hce hcf ⟨_, q7 post hp⟩ 4 0 rfl⟩⟩
end
end
section
def ar_CR (so bw wh lk cl cf dn : Nat → Nat) (bf af B C dc : Nat → Int32) (ce se le fc hd : Nat) : Prop :=
  ar_LG so bw wh lk bf af B C le se ∧ se ≤ le ∧ ar_CK so bw cl cf ce se ∧ (1 ≤ fc ∧ fc ≤ 3 ∧ hd < fc) ∧ (∀ p, p < 4 → dn p ≤ se) ∧
  ∀ c, c < 16 → (ar_lz so wh se c ≤ dn (c / 4) ∨ ar_lz so wh se c < ar_fs ce cf 4) → dc c = ar_vl so wh af B se c
def ar_CL (fc hd : Nat) (C cv dc fl : Nat → Int32) (dn pg fn ch cl cf la : Nat → Nat) : Prop :=
  ar_PL fc hd cv (fun _ => 0) dc dn pg fl fn ch ∧ (∀ c, c < 16 → cv c = C c ∧ dc c = cv c) ∧ (∀ p, p < 4 → dn p = 0 ∧ cf p = 0) ∧ ∀ f, f < 3 → ch f = 0 ∧ cl f = 0 ∧ la f = 0
def ar_OUT (se ce le fc hd sl : Nat) (B C cv dc bf af fl : Nat → Int32) (dn cl cf so bw wh lk pg fn ch la : Nat → Nat) : Prop :=
  (0 < sl ∧ se = 0 ∧ ce = 0 ∧ le = 0 ∧ ar_CL fc hd C cv dc fl dn pg fn ch cl cf la) ∨ (sl = 0 ∧ ar_CR so bw wh lk cl cf dn bf af B C dc ce se le fc hd)
theorem ar_CK_cg {so bw so' bw' cl cf : Nat → Nat} {ce se se' le : Nat} (h : ar_CK so bw cl cf ce se) (hs : se ≤ se') (hle : se ≤ le) (e : ∀ j, j ≤ le → so' j = so j ∧ bw' j = bw j) : ar_CK so' bw' cl cf ce se' := by
  obtain ⟨h1, h2, h3⟩ := h
  refine ⟨by omega, fun t ht => ?_, h3⟩
  rw [h2 t ht]
  exact (ar_lo_cg ce t (fun j _ hj => e j (by omega))).symm
theorem ar_DL_CR {so bw wh lk cl cf dn pg ch cm fn : Nat → Nat} {bf af B C dc cv fl : Nat → Int32} {ce se le fc hd n : Nat} (h : ar_PL fc hd cv cm dc dn pg fl fn ch) (d : ar_DL (ar_lz so wh) (ar_vl so wh af B) le se (ar_fs ce cf 4) n cv cm dc dn pg ch)
    (g : ar_LG so bw wh lk bf af B C le se) (k : ar_CK so bw cl cf ce se) : ar_CR so bw wh lk cl cf dn bf af B C dc ce se le fc hd :=
  ⟨g, d.1.1, k, h.1, fun p hp => (d.2.1 p hp).1, d.2.2.1⟩
section
variable {se ce le fc hd sl : Nat} {dc bf af fl hl : Nat → Int32} {dn cl cf so bw wh lk mv pg fn ch rn wr la mk : Nat → Nat}
variable {B C : Nat → Int32}
theorem ar_r0 {post : SX → Prop} (h : post ((nI se), (nI ce), (nI le), (nI fc), (nI hd), (nI 0), dc, (ar_N dn), (ar_N cl), (ar_N cf), (ar_N so), (ar_N bw), (ar_N wh), bf, af, (ar_N lk), (ar_N mv), (ar_P pg), fl, (ar_N fn), (ar_N ch), (ar_N rn), hl, (ar_N wr), (ar_N la), (ar_N mk))) : ∀ d t, t + d = 3 → wX_restart_15 post (d + 1) (nI t) (nI se) (nI ce) (nI le) (nI fc) (nI hd) (nI 0) dc (ar_N dn) (ar_N cl) (ar_N cf) (ar_N so) (ar_N bw) (ar_N wh) bf af (ar_N lk) (ar_N mv) (ar_P pg) fl (ar_N fn) (ar_N ch) (ar_N rn) hl (ar_N wr) (ar_N la) (ar_N mk) := by
  intro d
  induction d with
  | zero =>
    intro t hi
    have e : t = 3 := by omega
    subst e
    rw [wX_restart_15]
    exact br_t (show (3 : Int32) ≤ nI 3 by decide) (br_t (show nI 0 ≤ 0 by decide) h)
  | succ d ih =>
    intro t hi
    rw [wX_restart_15]
    exact br_f (nI_ge (b := 3) (by omega) (by omega)) ⟨vp_in_nI (by omega) (by omega), br_c (fun _ => nm_r (nI_1 t) (ih (t + 1) (by omega))) (fun _ => br_f (show ¬ 0 < nI 0 by decide) (nm_r (nI_1 t) (ih (t + 1) (by omega))))⟩
end
section
variable {ce fc : Nat} {hl : Nat → Int32} {cl cf mv rn wr mk : Nat → Nat} {B C : Nat → Int32}
theorem ar_R15 : ∀ d t (se le hd sl : Nat) (dc : Nat → Int32) (dn so bw wh : Nat → Nat) (bf af : Nat → Int32) (lk pg : Nat → Nat) (fl : Nat → Int32) (fn ch la : Nat → Nat) (cv : Nat → Int32) (cm : Nat → Nat), t + d = 3 → 0 < sl → sl < 2000000000 → ar_PL fc hd cv cm dc dn pg fl fn ch → ar_DL (ar_lz so wh) (ar_vl so wh af B) le se (ar_fs ce cf 4) (le + 1) cv cm dc dn pg ch → ar_LG so bw wh lk bf af B C le se →
    ar_CK so bw cl cf ce se → (∀ u, u < 3 → la u = ar_lo so bw le u) → (∀ u, u < t → ar_lo so bw le u = 0) →
    ∃ se' ce' le' hd' sl' dc' dn' cl' cf' so' bw' wh' bf' af' lk' pg' fl' fn' ch' la' cv', ar_OUT se' ce' le' fc hd' sl' B C cv' dc' bf' af' fl' dn' cl' cf' so' bw' wh' lk' pg' fn' ch' la' ∧ (1000 ≤ sl + le → 0 < sl') ∧ ∀ (post : SX → Prop), post ((nI se'), (nI ce'), (nI le'), (nI fc), (nI hd'), (nI sl'), dc', (ar_N dn'), (ar_N cl'), (ar_N cf'), (ar_N so'), (ar_N bw'), (ar_N wh'), bf', af', (ar_N lk'), (ar_N mv), (ar_P pg'), fl', (ar_N fn'), (ar_N ch'), (ar_N rn), hl, (ar_N wr), (ar_N la'), (ar_N mk)) → wX_restart_15 post (d + 1) (nI t) (nI se) (nI ce) (nI le) (nI fc) (nI hd) (nI sl) dc (ar_N dn) (ar_N cl) (ar_N cf) (ar_N so) (ar_N bw) (ar_N wh) bf af (ar_N lk) (ar_N mv) (ar_P pg) fl (ar_N fn) (ar_N ch) (ar_N rn) hl (ar_N wr) (ar_N la) (ar_N mk) := by
  intro d
  induction d with
  | zero =>
    intro t se le hd sl dc dn so bw wh bf af lk pg fl fn ch la cv cm hi hs0 hsl h dl g k hla h0
    have e : t = 3 := by omega
    subst e
    have gG := g.2 le dl.1.1 (Nat.le_refl _)
    have hle : le ≤ 264 := by have := gG.2; omega
    have hC := ar_RB_nil gG.1 (fun u hu => by unfold ar_Q; rw [h0 u hu, ar_c_0])
    have hcv : ∀ c, c < 16 → cv c = C c := fun c hc => by
      rw [dl.2.2.2.1 c hc (Or.inr (by have := @ar_lz_le so wh le c; omega))]
      exact hC c hc
    obtain ⟨se1, dc1, dn1, ch1, h1, d1, s1, c1, k1⟩ := ar_WA (ce := ce) (sl := sl) (cl := cl) (cf := cf) (bw := bw) (bf := bf) (lk := lk) (so := so) (wh := wh) (af := af) (mv := mv) (rn := rn) (hl := hl) (wr := wr) (la := la) (mk := mk) ar_zv h dl (by omega)
    refine ⟨0, 0, 0, hd, sl, dc1, ar_z dn1 4, ar_z cl 3, ar_z cf 4, so, bw, wh, bf, af, lk, pg, fl, ar_z fn 3, ar_z ch1 3, la, cv, Or.inl ⟨hs0, rfl, rfl, rfl, ar_cl_PL h1 c1, fun c hc => ⟨hcv c hc, c1 c hc⟩, fun p hp => ⟨ar_zi hp, ar_zi hp⟩, fun f hf => ⟨ar_zi hf, ar_zi hf, by rw [hla f hf]; exact h0 f hf⟩⟩, fun _ => hs0, fun post hp => ?_⟩
    rw [wX_restart_15]
    refine br_t (show (3 : Int32) ≤ nI 3 by decide) (br_f (nI_nle hs0 (by omega)) ?_)
    unfold wpX_clearLog
    exact k1 _ (ar_FN (se := 0) (le := 0) hp)
  | succ d ih =>
    intro t se le hd sl dc dn so bw wh bf af lk pg fl fn ch la cv cm hi hs0 hsl h dl g k hla h0
    have gG := g.2 le dl.1.1 (Nat.le_refl _)
    have hle : le ≤ 264 := by have := gG.2; omega
    have ht : t < 3 := by omega
    have v : vp_in (nI t) 3 := vp_in_nI ht (by omega)
    have b1 : ¬ (3 : Int32) ≤ nI t := nI_ge (b := 3) (by omega) (by omega)
    have lel := @ar_lo_le so bw le t
    by_cases z : la t = 0
    · obtain ⟨se', ce', le', hd', sl', dc', dn', cl', cf', so', bw', wh', bf', af', lk', pg', fl', fn', ch', la', cv', q1, q2, q3⟩ := ih (t + 1) se le hd sl dc dn so bw wh bf af lk pg fl fn ch la cv cm (by omega) hs0 hsl h dl g k hla (fun u hu => by
        by_cases e : u = t
        · rw [e, ← hla t ht]; exact z
        · exact h0 u (by omega))
      refine ⟨se', ce', le', hd', sl', dc', dn', cl', cf', so', bw', wh', bf', af', lk', pg', fl', fn', ch', la', cv', q1, q2, fun post hp => ?_⟩
      rw [wX_restart_15]
      exact br_f b1 ⟨v, br_t (by rw [ar_Nv (by omega), z]; rfl) (nm_r (nI_1 t) (q3 post hp))⟩
    · have b2 : ¬ ar_N la (nI t).toNatClampNeg = 0 := by rw [ar_Nv (by omega)]; exact nI_ne0 (by omega) (by rw [hla t ht]; omega)
      have b3 : 0 < nI sl := nI_lt (a := 0) hs0 (by omega)
      obtain ⟨r, se1, le1, hd1, sl1, dc1, dn1, so1, bw1, wh1, bf1, af1, lk1, pg1, fl1, fn1, ch1, la1, cv1, cm1, q1, q2, q3, ⟨q4, q5, q6⟩, q7, q8, q9, q10, q11, q12⟩ := ar_UR (ce := ce) (cl := cl) (cf := cf) (mv := mv) (rn := rn) (hl := hl) (wr := wr) (mk := mk) ht (la t) (la t) 0 se le hd sl dc dn so bw wh bf af lk pg fl fn ch la cv cm (Nat.le_refl _) h dl g (by rw [hla t ht]; exact lel) (by unfold ar_Q; rw [hla t ht]) hla hsl
      have k1 := ar_CK_cg k q4 dl.1.1 q11
      have gG1 := q3.2 le1 q2.1.1 (Nat.le_refl _)
      have hz1 := q10 (by rw [← hla t ht]; exact z)
      have hw := ar_wt_ge (P := ar_Q so1 bw1 wh1 lk1 bf1 le1) (lo := ar_lo so1 bw1 le1) ht
      have hw1 : 1 ≤ ar_w1 (ar_Q so1 bw1 wh1 lk1 bf1 le1) (ar_lo so1 bw1 le1) t := by unfold ar_w1; rw [if_neg hz1]; omega
      have hg2 := gG1.2
      by_cases y : sl1 = 0
      · subst y
        refine ⟨se1, ce, le1, hd1, 0, dc1, dn1, cl, cf, so1, bw1, wh1, bf1, af1, lk1, pg1, fl1, fn1, ch1, la1, cv1, Or.inr ⟨rfl, ar_DL_CR q1 q2 q3 k1⟩, fun y => by omega, fun post hp => ?_⟩
        rw [wX_restart_15]
        exact br_f b1 ⟨v, br_f b2 (br_t b3 ⟨v, nm_r (ar_Nv (by omega)) ⟨_, q12 _ (br_f (show ¬ 0 < nI 0 by decide) (nm_r (nI_1 t) (ar_r0 hp d (t + 1) (by omega))))⟩⟩)⟩
      · have la1t : la1 t ≤ le1 := by rw [q8 t ht]; exact ar_lo_le le1 t
        have e1 := ar_en_PD (kd := 3) (c := 0) (v := 0) q2 (by omega)
        have e2 := ar_LG_ap (kd := 3) (t := t) (c := 0) (l := la1 t) (o := 0) (v := 0) q3 (by omega) ht (by omega) la1t (ar_ap_G2 q3.1 gG1 ht (by omega) (q7 (by omega)) (Or.inl hz1))
        obtain ⟨se', ce', le', hd', sl', dc', dn', cl', cf', so', bw', wh', bf', af', lk', pg', fl', fn', ch', la', cv', p1, p2, p3⟩ := ih (t + 1) se1 (le1 + 1) hd1 sl1 dc1 dn1 (ar_u so1 (le1 + 1) 3) (ar_u bw1 (le1 + 1) t) (ar_u wh1 (le1 + 1) 0) (upd bf1 (le1 + 1) 0) (upd af1 (le1 + 1) 0) (ar_u lk1 (le1 + 1) (la1 t)) pg1 fl1 fn1 ch1 (ar_u (ar_u la1 t (le1 + 1)) t 0) cv1 cm1 (by omega) (by omega) (by omega) q1 e1 e2
          (ar_CK_cg k1 (Nat.le_refl _) q2.1.1 (fun j hj => ⟨ar_un (by omega), ar_un (by omega)⟩)) (fun u hu => by
            by_cases e : u = t
            · rw [e, ar_us, ar_ap_lo2 (by omega)]
            · rw [ar_un e, ar_un e, ar_ap_lou e]; exact q8 u hu) (fun u hu => by
            by_cases e : u = t
            · rw [e, ar_ap_lo2 (by omega)]
            · rw [ar_ap_lou e, q9 u (by omega) e]; exact h0 u (by omega))
        refine ⟨se', ce', le', hd', sl', dc', dn', cl', cf', so', bw', wh', bf', af', lk', pg', fl', fn', ch', la', cv', p1, fun w => p2 (by omega), fun post hp => ?_⟩
        rw [wX_restart_15]
        refine br_f b1 ⟨v, br_f b2 (br_t b3 ⟨v, nm_r (ar_Nv (by omega)) ⟨_, q12 _ (br_t (nI_lt (a := 0) (by omega) (by omega)) ⟨v, ?_⟩)⟩⟩)⟩
        rw [ar_Nv (by omega)]
        exact ar_AP (kd := 3) (c := 0) (l := la1 t) (by omega) (by omega) ht (by omega) (by omega) ⟨v, nm_r (ar_Nu (ar_cl (by omega)) ar_vs0) (nm_r (nI_1 t) (p3 post hp))⟩
end
section
variable {se ce le fc hd sl : Nat} {dc bf af fl hl : Nat → Int32} {dn cl cf so bw wh lk mv pg fn ch rn wr la mk : Nat → Nat}
variable {B C : Nat → Int32}
/-- restart, behind a loss of memory -/
theorem ar_RS {s : Nat} (h : ar_CR so bw wh lk cl cf dn bf af B C dc ce se le fc hd) (hs : s < 2000000000) :
    ∃ se' ce' le' hd' sl' dc' dn' cl' cf' so' bw' wh' bf' af' lk' pg' fl' fn' ch' la' cv', ar_OUT se' ce' le' fc hd' sl' B C cv' dc' bf' af' fl' dn' cl' cf' so' bw' wh' lk' pg' fn' ch' la' ∧ (2000 ≤ s → 0 < sl') ∧ ∀ (post : SX → Prop), post ((nI se'), (nI ce'), (nI le'), (nI fc), (nI hd'), (nI sl'), dc', (ar_N dn'), (ar_N cl'), (ar_N cf'), (ar_N so'), (ar_N bw'), (ar_N wh'), bf', af', (ar_N lk'), (ar_N mv), (ar_P pg'), fl', (ar_N fn'), (ar_N ch'), (ar_N (ar_z rn 3)), hl, (ar_N wr), (ar_N la'), (ar_N mk)) →
      wpX_restart post ((nI se), (nI ce), (nI se), (nI fc), (nI hd), (nI sl), dc, (ar_N dn), (ar_N cl), (ar_N cf), (ar_N so), (ar_N bw), (ar_N wh), bf, af, (ar_N lk), (ar_N mv), (ar_P (ar_z pg 3)), fl, (ar_N fn), (ar_N ch), (ar_N (ar_z rn 3)), hl, (ar_N wr), (ar_N (ar_z la 3)), (ar_N mk)) (nI s) := by
  obtain ⟨g, h1, k, hf, hdn, hdo⟩ := h
  have gG := g.2 se (Nat.le_refl _) h1
  have hse : se ≤ 264 := by have := gG.2; omega
  have hW : ar_WF so bw wh lk se := fun n h0 hn => g.1 n h0 (by omega)
  have hLG : ar_LG so bw wh lk bf af B C se se := ⟨hW, fun j j1 j2 => g.2 j j1 (by omega)⟩
  have fb := @ar_fs_b ce cf 4
  have kce := k.1
  have PL0 : ar_PL fc hd dc dn dc dn (ar_z pg 3) fl fn ch := by
    refine ⟨hf, fun f hf3 => ?_, fun f g hf3 hg3 h0 _ => ?_, fun f p hf3 hp => ?_, fun f c hf3 hc hp => ?_, fun p _ _ => rfl, fun c _ _ => rfl⟩
    · rw [ar_zi hf3]; exact ⟨by omega, fun _ => rfl⟩
    · rw [ar_zi hf3] at h0; exact absurd rfl h0
    · rw [ar_zi hf3] at hp; omega
    · rw [ar_zi hf3] at hp; omega
  have DL0 : ar_DL (ar_lz so wh) (ar_vl so wh af B) se se (ar_fs ce cf 4) (ar_fs ce cf 4) dc dn dc dn (ar_z pg 3) ch := by
    refine ⟨⟨Nat.le_refl _, fb.1, Nat.le_refl _, by omega, by omega⟩, fun p hp => ⟨hdn p hp, hdn p hp⟩, hdo, hdo, fun c _ => Or.inr (ar_lz_le se c), fun f p hf3 hp => ?_, fun f c hf3 hc hp => ?_⟩
    · rw [ar_zi hf3] at hp; omega
    · rw [ar_zi hf3] at hp; omega
  obtain ⟨la1, l1, l2⟩ := ar_FL (se := se) (ce := ce) (le := se) (fc := fc) (hd := hd) (sl := s) (dc := dc) (dn := dn) (cl := cl) (cf := cf) (so := so) (bw := bw) (wh := wh) (bf := bf) (af := af) (lk := lk) (mv := mv) (pg := ar_z pg 3) (fl := fl) (fn := fn) (ch := ch) (rn := ar_z rn 3) (hl := hl) (wr := wr) (la := ar_z la 3) (mk := mk) (by omega) (fun n n0 n1 => ⟨(hW n n0 n1).2.1, (hW n n0 n1).1⟩) k.1 k.2.1
  obtain ⟨n1, se1, hd1, sl1, dc1, dn1, pg1, fl1, fn1, ch1, cv1, cm1, q1, q2, ⟨q3, q4, q5⟩, q6, q7⟩ := ar_DA (ce := ce) (sl := s) (cl := cl) (cf := cf) (mv := mv) (rn := ar_z rn 3) (hl := hl) (wr := wr) (la := la1) (mk := mk) (bf := bf) hW (by omega) (by omega) (fun p hp => by have := k.2.2 p hp; omega) PL0 DL0 hs
  have k1 : ar_CK so bw cl cf ce se1 := ⟨by omega, k.2.1, k.2.2⟩
  have g1 := ar_LG_se hLG q3
  have hn1 := q2.1
  by_cases z : sl1 = 0
  · subst z
    refine ⟨se1, ce, se, hd1, 0, dc1, dn1, cl, cf, so, bw, wh, bf, af, lk, pg1, fl1, fn1, ch1, la1, cv1, Or.inr ⟨rfl, ar_DL_CR q1 q2 g1 k1⟩, fun y => by omega, fun post hp => ?_⟩
    unfold wpX_restart
    exact l2 _ (q7 _ ⟨4, ar_r0 hp 3 0 rfl⟩)
  · have en := q6 (by omega)
    subst en
    obtain ⟨se', ce', le', hd', sl', dc', dn', cl', cf', so', bw', wh', bf', af', lk', pg', fl', fn', ch', la', cv', p1, p2, p3⟩ := ar_R15 (mv := mv) (rn := ar_z rn 3) (hl := hl) (wr := wr) (mk := mk) (ce := ce) (cl := cl) (cf := cf) 3 0 se1 se hd1 sl1 dc1 dn1 so bw wh bf af lk pg1 fl1 fn1 ch1 la1 cv1 cm1 rfl (by omega) (by omega) q1 q2 g1 k1 l1 (fun u hu => by omega)
    refine ⟨se', ce', le', hd', sl', dc', dn', cl', cf', so', bw', wh', bf', af', lk', pg', fl', fn', ch', la', cv', p1, fun y => p2 (by omega), fun post hp => ?_⟩
    unfold wpX_restart
    exact l2 _ (q7 _ ⟨4, p3 post hp⟩)
end
end
section
/-! ===== the log is cleared out: entries of present runs alone, under new numbers ===== -/
def ar_mo (so bw rn : Nat → Nat) (le : Nat) : Nat → Nat
  | 0 => 0
  | m + 1 => ar_mo so bw rn le m + (if rn (bw (m + 1)) = 1 ∧ ar_pe so bw le (bw (m + 1)) < m + 1 then 1 else 0)
def ar_lp (bw : Nat → Nat) (e t : Nat) : Nat → Nat
  | 0 => 0
  | m + 1 => if bw (m + 1) = t ∧ e < m + 1 then m + 1 else ar_lp bw e t m
def ar_lq (so bw rn wh : Nat → Nat) (le c : Nat) : Nat → Nat
  | 0 => 0
  | m + 1 => if (rn (bw (m + 1)) = 1 ∧ ar_pe so bw le (bw (m + 1)) < m + 1) ∧ wh (m + 1) = c then m + 1 else ar_lq so bw rn wh le c m
section
variable {so bw wh lk rn so' bw' wh' lk' la : Nat → Nat} {bf af bf' af' hl : Nat → Int32} {le : Nat}
theorem ar_mo_t {m : Nat} (h : rn (bw (m + 1)) = 1 ∧ ar_pe so bw le (bw (m + 1)) < m + 1) : ar_mo so bw rn le (m + 1) = ar_mo so bw rn le m + 1 := by
  conv => lhs; unfold ar_mo
  rw [if_pos h]
theorem ar_mo_f {m : Nat} (h : ¬ (rn (bw (m + 1)) = 1 ∧ ar_pe so bw le (bw (m + 1)) < m + 1)) : ar_mo so bw rn le (m + 1) = ar_mo so bw rn le m := by
  conv => lhs; unfold ar_mo
  rw [if_neg h, Nat.add_zero]
theorem ar_mo_s (m : Nat) : ar_mo so bw rn le m ≤ ar_mo so bw rn le (m + 1) ∧ ar_mo so bw rn le (m + 1) ≤ ar_mo so bw rn le m + 1 := by
  by_cases h : rn (bw (m + 1)) = 1 ∧ ar_pe so bw le (bw (m + 1)) < m + 1
  · rw [ar_mo_t h]; omega
  · rw [ar_mo_f h]; omega
theorem ar_mo_le : ∀ m, ar_mo so bw rn le m ≤ m := by
  intro m
  induction m with
  | zero => exact Nat.le_refl _
  | succ m ih => have := (@ar_mo_s so bw rn le m).2; omega
theorem ar_mo_m {m : Nat} : ∀ d, ar_mo so bw rn le m ≤ ar_mo so bw rn le (m + d) := by
  intro d
  induction d with
  | zero => exact Nat.le_refl _
  | succ d ih => have := (@ar_mo_s so bw rn le (m + d)).1; rw [← Nat.add_assoc]; omega
theorem ar_mo_mono {m n : Nat} (h : m ≤ n) : ar_mo so bw rn le m ≤ ar_mo so bw rn le n := by
  have := @ar_mo_m so bw rn le m (n - m)
  rw [show m + (n - m) = n by omega] at this
  exact this
theorem ar_mo_lt {m n : Nat} (h : ar_K so bw rn le n) (hm : m < n) : ar_mo so bw rn le m < ar_mo so bw rn le n := by
  obtain ⟨k, rfl⟩ : ∃ k, n = k + 1 := ⟨n - 1, by omega⟩
  rw [ar_mo_t ⟨h.1, h.2.1⟩]
  exact Nat.lt_succ_of_le (ar_mo_mono (by omega))
theorem ar_mo_iff {m n : Nat} (h : ar_K so bw rn le n) : ar_mo so bw rn le n ≤ ar_mo so bw rn le m ↔ n ≤ m := by
  constructor
  · intro z
    by_cases y : n ≤ m
    · exact y
    · have := ar_mo_lt h (show m < n by omega)
      omega
  · exact ar_mo_mono
theorem ar_mo_sj : ∀ m j, m ≤ le → 0 < j → j ≤ ar_mo so bw rn le m → ∃ n, n ≤ m ∧ ar_K so bw rn le n ∧ ar_mo so bw rn le n = j := by
  intro m
  induction m with
  | zero => intro j _ h0 h1; have : ar_mo so bw rn le 0 = 0 := rfl; omega
  | succ m ih =>
    intro j hm h0 h1
    by_cases h : rn (bw (m + 1)) = 1 ∧ ar_pe so bw le (bw (m + 1)) < m + 1
    · by_cases e : j = ar_mo so bw rn le (m + 1)
      · exact ⟨m + 1, Nat.le_refl _, ⟨h.1, h.2, hm⟩, e.symm⟩
      · rw [ar_mo_t h] at h1 e
        obtain ⟨n, a, b, c⟩ := ih j (by omega) h0 (by omega)
        exact ⟨n, by omega, b, c⟩
    · rw [ar_mo_f h] at h1
      obtain ⟨n, a, b, c⟩ := ih j (by omega) h0 h1
      exact ⟨n, by omega, b, c⟩
/-- how many are kept -/
theorem ar_mo_ct (hb : ∀ n, 0 < n → n ≤ le → bw n < 3) : ∀ m, m ≤ le → ar_mo so bw rn le m ≤ (if rn 0 = 1 then ar_ct bw (ar_pe so bw le 0) 0 m else 0) + (if rn 1 = 1 then ar_ct bw (ar_pe so bw le 1) 1 m else 0) + (if rn 2 = 1 then ar_ct bw (ar_pe so bw le 2) 2 m else 0) := by
  have up : ∀ t m, ar_ct bw (ar_pe so bw le t) t m ≤ ar_ct bw (ar_pe so bw le t) t (m + 1) := by
    intro t m
    conv => rhs; unfold ar_ct
    omega
  have upi : ∀ t m, (if rn t = 1 then ar_ct bw (ar_pe so bw le t) t m else 0) ≤ (if rn t = 1 then ar_ct bw (ar_pe so bw le t) t (m + 1) else 0) := by
    intro t m
    by_cases z : rn t = 1
    · rw [if_pos z, if_pos z]; exact up t m
    · rw [if_neg z, if_neg z]; exact Nat.le_refl _
  have one : ∀ t m, rn t = 1 → ar_pe so bw le t < m + 1 → bw (m + 1) = t → (if rn t = 1 then ar_ct bw (ar_pe so bw le t) t m else 0) + 1 ≤ (if rn t = 1 then ar_ct bw (ar_pe so bw le t) t (m + 1) else 0) := by
    intro t m z y e
    rw [if_pos z, if_pos z]
    conv => rhs; unfold ar_ct
    rw [if_pos ⟨e, y⟩]
    exact Nat.le_refl _
  intro m
  induction m with
  | zero => intro _; exact Nat.zero_le _
  | succ m ih =>
    intro hm
    have ih := ih (by omega)
    have u0 := upi 0 m
    have u1 := upi 1 m
    have u2 := upi 2 m
    by_cases h : rn (bw (m + 1)) = 1 ∧ ar_pe so bw le (bw (m + 1)) < m + 1
    · rw [ar_mo_t h]
      have b3 := hb (m + 1) (by omega) hm
      rcases (show bw (m + 1) = 0 ∨ bw (m + 1) = 1 ∨ bw (m + 1) = 2 by omega) with e | e | e
      · rw [e] at h
        have := one 0 m h.1 h.2 e
        omega
      · rw [e] at h
        have := one 1 m h.1 h.2 e
        omega
      · rw [e] at h
        have := one 2 m h.1 h.2 e
        omega
    · rw [ar_mo_f h]; omega
theorem ar_lp_lo {t : Nat} : ∀ k, ar_lp bw (ar_pe so bw k t) t k = ar_lo so bw k t := by
  have z : ∀ e k, k ≤ e → ar_lp bw e t k = 0 := by
    intro e k
    induction k with
    | zero => intro _; rfl
    | succ k ih => intro h; unfold ar_lp; rw [if_neg (fun y => by omega)]; exact ih (by omega)
  intro k
  induction k with
  | zero => rfl
  | succ k ih =>
    have hp := @ar_pe_le so bw k t
    unfold ar_lo
    by_cases e : bw (k + 1) = t
    · by_cases s : so (k + 1) < 2
      · rw [if_pos e, if_pos s]
        have ep : ar_pe so bw (k + 1) t = ar_pe so bw k t := by
          conv => lhs; unfold ar_pe
          rw [if_neg (fun y => y.2 s)]
        rw [ep]
        unfold ar_lp
        rw [if_pos ⟨e, by omega⟩]
      · rw [if_pos e, if_neg s]
        refine z _ _ ?_
        unfold ar_pe
        rw [if_pos ⟨e, s⟩]
        exact Nat.le_refl _
    · rw [if_neg e, ← ih]
      have ep : ar_pe so bw (k + 1) t = ar_pe so bw k t := by
        conv => lhs; unfold ar_pe
        rw [if_neg (fun y => e y.1)]
      rw [ep]
      conv => lhs; unfold ar_lp
      rw [if_neg (fun y => e y.1)]
theorem ar_lq_ge {c : Nat} : ∀ m n, 0 < n → n ≤ m → (rn (bw n) = 1 ∧ ar_pe so bw le (bw n) < n) → wh n = c → n ≤ ar_lq so bw rn wh le c m := by
  intro m
  induction m with
  | zero => intro n h0 h1; omega
  | succ m ih =>
    intro n h0 h1 hk hw
    unfold ar_lq
    by_cases h : (rn (bw (m + 1)) = 1 ∧ ar_pe so bw le (bw (m + 1)) < m + 1) ∧ wh (m + 1) = c
    · rw [if_pos h]; exact h1
    · rw [if_neg h]
      by_cases e : n = m + 1
      · rw [e] at hk hw; exact absurd ⟨hk, hw⟩ h
      · exact ih n h0 (by omega) hk hw
theorem ar_lq_at {c : Nat} : ∀ m, ar_lq so bw rn wh le c m ≠ 0 → (rn (bw (ar_lq so bw rn wh le c m)) = 1 ∧ ar_pe so bw le (bw (ar_lq so bw rn wh le c m)) < ar_lq so bw rn wh le c m) ∧ wh (ar_lq so bw rn wh le c m) = c ∧ ar_lq so bw rn wh le c m ≤ m := by
  intro m
  induction m with
  | zero => intro h; exact absurd rfl h
  | succ m ih =>
    unfold ar_lq
    by_cases h : (rn (bw (m + 1)) = 1 ∧ ar_pe so bw le (bw (m + 1)) < m + 1) ∧ wh (m + 1) = c
    · rw [if_pos h]; intro _; exact ⟨h.1, h.2, Nat.le_refl _⟩
    · rw [if_neg h]
      intro z
      obtain ⟨a, b, d⟩ := ih z
      exact ⟨a, b, by omega⟩
theorem ar_lq_or {c : Nat} (hT : ar_TL so bw wh lk rn hl la le) (hb : ∀ n, 0 < n → n ≤ le → bw n < 3) (hc : c < 16) : ar_lq so bw rn wh le c le = 0 ∨ (ar_lq so bw rn wh le c le = ar_lz so wh le c ∧ ar_K so bw rn le (ar_lz so wh le c)) := by
  by_cases z : ar_lq so bw rn wh le c le = 0
  · exact Or.inl z
  · right
    obtain ⟨a, b, d⟩ := ar_lq_at le z
    have hK : ar_K so bw rn le (ar_lq so bw rn wh le c le) := ⟨a.1, a.2, d⟩
    have s := ar_K_so hK
    have h1 := (hT.1 _ hK).1
    rw [b] at h1
    obtain ⟨k1, k2⟩ := hT.2.1 _ c (hb _ s.2 d) hc a.1 h1
    refine ⟨?_, k1⟩
    have i1 := ar_lz_ge le _ c s.2 d s.1 b
    have kz := ar_K_so k1
    have i2 := ar_lq_ge (c := c) le _ kz.2 k1.2.2 ⟨k1.1, k1.2.1⟩ (ar_lz_at le c (by omega)).2
    omega
theorem ar_pe_0 {t : Nat} : ∀ k, (∀ j, 0 < j → j ≤ k → so j < 2) → ar_pe so bw k t = 0 := by
  intro k
  induction k with
  | zero => intro _; rfl
  | succ k ih =>
    intro h
    unfold ar_pe
    rw [if_neg (fun y => y.2 (h (k + 1) (by omega) (Nat.le_refl _)))]
    exact ih (fun j h0 h1 => h j h0 (by omega))
end
end
section
/-! ===== the new log ===== -/
def ar_NW (so bw wh lk rn : Nat → Nat) (bf af : Nat → Int32) (le : Nat) (so' bw' wh' lk' : Nat → Nat) (bf' af' : Nat → Int32) : Prop :=
  ∀ n, ar_K so bw rn le n → so' (ar_mo so bw rn le n) = so n ∧ bw' (ar_mo so bw rn le n) = bw n ∧ wh' (ar_mo so bw rn le n) = wh n ∧ bf' (ar_mo so bw rn le n) = bf n ∧ af' (ar_mo so bw rn le n) = af n ∧ lk' (ar_mo so bw rn le n) = ar_mo so bw rn le (lk n)
section
variable {so bw wh lk rn so' bw' wh' lk' la la' : Nat → Nat} {bf af bf' af' hl B C cv : Nat → Int32} {le : Nat}
theorem ar_nw_so (hA : ar_NW so bw wh lk rn bf af le so' bw' wh' lk' bf' af') {j : Nat} (h0 : 0 < j) (h1 : j ≤ ar_mo so bw rn le le) : so' j < 2 := by
  obtain ⟨n, _, k, rfl⟩ := ar_mo_sj le j (Nat.le_refl _) h0 h1
  rw [(hA n k).1]; exact (ar_K_so k).1
theorem ar_nw_pe (hA : ar_NW so bw wh lk rn bf af le so' bw' wh' lk' bf' af') {t m : Nat} (hm : m ≤ ar_mo so bw rn le le) : ar_pe so' bw' m t = 0 := ar_pe_0 m (fun j h0 h1 => ar_nw_so hA h0 (by omega))
theorem ar_nw_WF (hA : ar_NW so bw wh lk rn bf af le so' bw' wh' lk' bf' af') (hW : ar_WF so bw wh lk le) : ar_WF so' bw' wh' lk' (ar_mo so bw rn le le) := by
  intro j h0 h1
  obtain ⟨n, hn, k, rfl⟩ := ar_mo_sj le j (Nat.le_refl _) h0 h1
  obtain ⟨a, b, c, _, _, f⟩ := hA n k
  obtain ⟨w1, w2, w3, w4⟩ := hW n (ar_K_so k).2 hn
  rw [a, b, c, f]
  exact ⟨w1, w2, w3, ar_mo_lt k w4⟩
theorem ar_mo_0 : ar_mo so bw rn le 0 = 0 := rfl
theorem ar_nw_lo (hA : ar_NW so bw wh lk rn bf af le so' bw' wh' lk' bf' af') {t : Nat} (hr : rn t = 1) : ∀ m, m ≤ le → ar_lo so' bw' (ar_mo so bw rn le m) t = ar_mo so bw rn le (ar_lp bw (ar_pe so bw le t) t m) := by
  intro m
  induction m with
  | zero => intro _; rfl
  | succ m ih =>
    intro hm
    have ih := ih (by omega)
    by_cases h : rn (bw (m + 1)) = 1 ∧ ar_pe so bw le (bw (m + 1)) < m + 1
    · have k : ar_K so bw rn le (m + 1) := ⟨h.1, h.2, hm⟩
      obtain ⟨a, b, _⟩ := hA (m + 1) k
      have s := (ar_K_so k).1
      rw [ar_mo_t h] at a b ⊢
      unfold ar_lo ar_lp
      rw [a, b, if_pos s, ih]
      by_cases e : bw (m + 1) = t
      · rw [if_pos e, if_pos ⟨e, by rw [← e]; exact h.2⟩, ar_mo_t h]
      · rw [if_neg e, if_neg (fun y => e y.1)]
    · rw [ar_mo_f h, ih]
      conv => rhs; unfold ar_lp
      rw [if_neg (fun y => h (by rw [y.1]; exact ⟨hr, y.2⟩))]
theorem ar_nw_lon (hA : ar_NW so bw wh lk rn bf af le so' bw' wh' lk' bf' af') {t : Nat} (hr : rn t ≠ 1) : ∀ m, m ≤ le → ar_lo so' bw' (ar_mo so bw rn le m) t = 0 := by
  intro m
  induction m with
  | zero => intro _; rfl
  | succ m ih =>
    intro hm
    have ih := ih (by omega)
    by_cases h : rn (bw (m + 1)) = 1 ∧ ar_pe so bw le (bw (m + 1)) < m + 1
    · obtain ⟨a, b, _⟩ := hA (m + 1) ⟨h.1, h.2, hm⟩
      rw [ar_mo_t h] at a b ⊢
      unfold ar_lo
      rw [b, if_neg (fun e => hr (by rw [← e]; exact h.1)), ih]
    · rw [ar_mo_f h, ih]
theorem ar_nw_ct (hA : ar_NW so bw wh lk rn bf af le so' bw' wh' lk' bf' af') {t : Nat} (hr : rn t = 1) : ∀ m, m ≤ le → ar_ct bw' 0 t (ar_mo so bw rn le m) = ar_ct bw (ar_pe so bw le t) t m := by
  intro m
  induction m with
  | zero => intro _; rfl
  | succ m ih =>
    intro hm
    have ih := ih (by omega)
    by_cases h : rn (bw (m + 1)) = 1 ∧ ar_pe so bw le (bw (m + 1)) < m + 1
    · obtain ⟨a, b, _⟩ := hA (m + 1) ⟨h.1, h.2, hm⟩
      rw [ar_mo_t h] at a b ⊢
      unfold ar_ct
      rw [b, ih]
      by_cases e : bw (m + 1) = t
      · rw [if_pos ⟨e, by omega⟩, if_pos ⟨e, by rw [← e]; exact h.2⟩]
      · rw [if_neg (fun y => e y.1), if_neg (fun y => e y.1)]
    · rw [ar_mo_f h, ih]
      conv => rhs; unfold ar_ct
      rw [if_neg (fun y => h (by rw [y.1]; exact ⟨hr, y.2⟩)), Nat.add_zero]
theorem ar_nw_lz (hA : ar_NW so bw wh lk rn bf af le so' bw' wh' lk' bf' af') {c : Nat} : ∀ m, m ≤ le → ar_lz so' wh' (ar_mo so bw rn le m) c = ar_mo so bw rn le (ar_lq so bw rn wh le c m) := by
  intro m
  induction m with
  | zero => intro _; rfl
  | succ m ih =>
    intro hm
    have ih := ih (by omega)
    by_cases h : rn (bw (m + 1)) = 1 ∧ ar_pe so bw le (bw (m + 1)) < m + 1
    · have k : ar_K so bw rn le (m + 1) := ⟨h.1, h.2, hm⟩
      obtain ⟨a, _, b, _⟩ := hA (m + 1) k
      have s := (ar_K_so k).1
      rw [ar_mo_t h] at a b ⊢
      unfold ar_lz ar_lq
      rw [a, b, ih]
      by_cases e : wh (m + 1) = c
      · rw [if_pos ⟨s, e⟩, if_pos ⟨h, e⟩, ar_mo_t h]
      · rw [if_neg (fun y => e y.2), if_neg (fun y => e y.2)]
    · rw [ar_mo_f h, ih]
      conv => rhs; unfold ar_lq
      rw [if_neg (fun y => h y.1)]
theorem ar_nw_c (hA : ar_NW so bw wh lk rn bf af le so' bw' wh' lk' bf' af') (hW : ar_WF so bw wh lk le) (hT : ar_TL so bw wh lk rn hl la le) {lim : Nat} : ∀ n, (n = 0 ∨ ar_K so bw rn le n) → ar_c so' wh' lk' bf' (ar_mo so bw rn le lim) (ar_mo so bw rn le n) = ar_c so wh lk bf lim n := by
  have hW' := ar_nw_WF hA hW
  have hL : ∀ m, 0 < m → m ≤ le → lk m < m := fun m h0 h1 => (hW m h0 h1).2.2.2
  have hL' : ∀ m, 0 < m → m ≤ ar_mo so bw rn le le → lk' m < m := fun m h0 h1 => (hW' m h0 h1).2.2.2
  intro n
  induction n using Nat.strongRecOn with
  | ind n ih =>
    intro hn
    rcases hn with rfl | k
    · rw [ar_mo_0, ar_c_0, ar_c_0]
    · by_cases e : n ≤ lim
      · rw [ar_c_le e, ar_c_le ((ar_mo_iff k).mpr e)]
      · obtain ⟨a, _, b, c, _, f⟩ := hA n k
        have e' : ¬ ar_mo so bw rn le n ≤ ar_mo so bw rn le lim := fun y => e ((ar_mo_iff k).mp y)
        have hm : ar_mo so bw rn le n ≤ ar_mo so bw rn le le := ar_mo_mono k.2.2
        have hlk := hL n (ar_K_so k).2 k.2.2
        have ih := ih (lk n) hlk (by
          rcases (hT.1 n k).2 with z | z
          · exact Or.inl z
          · exact Or.inr z.1)
        by_cases s : so n = 0
        · rw [ar_c_s hL k.2.2 (by omega) s, ar_c_s hL' hm (by omega) (a.trans s), b, c, f, ih]
        · rw [ar_c_o hL k.2.2 (by omega) s, ar_c_o hL' hm (by omega) (fun y => s (a.symm.trans y)), f, ih]
theorem ar_nw_K (hA : ar_NW so bw wh lk rn bf af le so' bw' wh' lk' bf' af') {n : Nat} (k : ar_K so bw rn le n) : ar_K so' bw' rn (ar_mo so bw rn le le) (ar_mo so bw rn le n) := by
  obtain ⟨_, b, _⟩ := hA n k
  unfold ar_K
  rw [b, ar_nw_pe hA (Nat.le_refl _)]
  exact ⟨k.1, by have := ar_mo_lt k (ar_K_so k).2; omega, ar_mo_mono k.2.2⟩
theorem ar_nw_lz2 (hA : ar_NW so bw wh lk rn bf af le so' bw' wh' lk' bf' af') (hW : ar_WF so bw wh lk le) (hT : ar_TL so bw wh lk rn hl la le) {c : Nat} (hc : c < 16) :
    ar_lz so' wh' (ar_mo so bw rn le le) c = 0 ∨ (ar_K so bw rn le (ar_lz so wh le c) ∧ ar_lz so' wh' (ar_mo so bw rn le le) c = ar_mo so bw rn le (ar_lz so wh le c)) := by
  have e := ar_nw_lz hA (c := c) le (Nat.le_refl _)
  rcases ar_lq_or hT (fun n h0 h1 => (hW n h0 h1).2.1) hc with z | ⟨z1, z2⟩
  · rw [e, z]; exact Or.inl rfl
  · rw [e, z1]; exact Or.inr ⟨z2, rfl⟩
theorem ar_nw_TL (hA : ar_NW so bw wh lk rn bf af le so' bw' wh' lk' bf' af') (hW : ar_WF so bw wh lk le) (hT : ar_TL so bw wh lk rn hl la le) (hla : ∀ t, t < 3 → rn t = 1 → la' t = ar_mo so bw rn le (la t)) : ar_TL so' bw' wh' lk' rn hl la' (ar_mo so bw rn le le) := by
  refine ⟨fun j hj => ?_, fun t c ht hc hr hb => ?_, fun t ht hr => ?_, fun t ht hr => ar_nw_lon hA hr le (Nat.le_refl _)⟩
  · obtain ⟨n, hn, k, rfl⟩ := ar_mo_sj le j (Nat.le_refl _) (ar_K_so hj).2 hj.2.2
    obtain ⟨a, b, c, d, e, f⟩ := hA n k
    obtain ⟨t1, t2⟩ := hT.1 n k
    rw [b, c, f]
    refine ⟨t1, ?_⟩
    rcases t2 with z | ⟨z1, z2⟩
    · rw [z]; exact Or.inl rfl
    · exact Or.inr ⟨ar_nw_K hA z1, by rw [(hA _ z1).2.1]; exact z2⟩
  · obtain ⟨k, kb⟩ := hT.2.1 t c ht hc hr hb
    have kz := ar_K_so k
    have : ar_lz so' wh' (ar_mo so bw rn le le) c = ar_mo so bw rn le (ar_lz so wh le c) := by
      rcases ar_nw_lz2 hA hW hT hc with z | z
      · have e := ar_nw_lz hA (c := c) le (Nat.le_refl _)
        have g := ar_lq_ge (so := so) (rn := rn) (bw := bw) (wh := wh) (c := c) (le := le) le _ kz.2 k.2.2 ⟨k.1, k.2.1⟩ (ar_lz_at le c (by omega)).2
        rcases ar_lq_or hT (fun n h0 h1 => (hW n h0 h1).2.1) hc with y | ⟨y, _⟩
        · omega
        · rw [e, y]
      · exact z.2
    rw [this]
    exact ⟨ar_nw_K hA k, by rw [(hA _ k).2.1]; exact kb⟩
  · rw [hla t ht hr, hT.2.2.1 t ht hr, ar_nw_lo hA hr le (Nat.le_refl _), ar_lp_lo]
/-- the value of every cell is the current one, with the current cells as the new base -/
theorem ar_nw_vl (hA : ar_NW so bw wh lk rn bf af le so' bw' wh' lk' bf' af') (hW : ar_WF so bw wh lk le) (hT : ar_TL so bw wh lk rn hl la le) {c : Nat} (hc : c < 16) (hv : cv c = ar_vl so wh af B le c) : ar_vl so' wh' af' cv (ar_mo so bw rn le le) c = cv c := by
  unfold ar_vl
  rcases ar_nw_lz2 hA hW hT hc with z | ⟨k, z⟩
  · rw [if_pos z]
  · have k0 := ar_K_so k
    have := ar_mo_lt k k0.2
    rw [z, if_neg (by omega), (hA _ k).2.2.2.2.1, hv]
    unfold ar_vl
    rw [if_neg (by omega)]
theorem ar_nw_Q (hA : ar_NW so bw wh lk rn bf af le so' bw' wh' lk' bf' af') (hW : ar_WF so bw wh lk le) (hT : ar_TL so bw wh lk rn hl la le) {t : Nat} (ht : t < 3) : ar_Q so' bw' wh' lk' bf' (ar_mo so bw rn le le) t = ar_Q so bw wh lk bf le t := by
  unfold ar_Q
  by_cases hr : rn t = 1
  · rw [ar_nw_lo hA hr le (Nat.le_refl _), ar_lp_lo]
    have := ar_nw_c hA hW hT (lim := 0) (ar_lo so bw le t) (by
      by_cases z : ar_lo so bw le t = 0
      · exact Or.inl z
      · exact Or.inr (ar_lo_K hr z).1)
    exact this
  · rw [ar_nw_lon hA hr le (Nat.le_refl _), hT.2.2.2 t ht hr, ar_c_0, ar_c_0]
theorem ar_nw_T1 (hA : ar_NW so bw wh lk rn bf af le so' bw' wh' lk' bf' af') (hW : ar_WF so bw wh lk le) (hT : ar_TL so bw wh lk rn hl la le) {lc : Nat → Nat} {ld : Nat → Int32} {t mkt mmt lit wrt : Nat} (ht : t < 3) (hr : rn t = 1)
    (h : ar_T1 so bw wh lk bf lc ld le t (la t) mkt mmt lit wrt) : ar_T1 so' bw' wh' lk' bf' lc ld (ar_mo so bw rn le le) t (ar_mo so bw rn le (la t)) (ar_mo so bw rn le mkt) mmt lit wrt := by
  obtain ⟨a1, a2, a3, a4, a5, a6⟩ := h
  have hla := hT.2.2.1 t ht hr
  have hn : la t = 0 ∨ ar_K so bw rn le (la t) := by
    rw [hla]
    by_cases z : ar_lo so bw le t = 0
    · exact Or.inl z
    · exact Or.inr (ar_lo_K hr z).1
  have c0 := ar_nw_c hA hW hT (lim := 0) (la t) hn
  have c1 := ar_nw_c hA hW hT (lim := mkt) (la t) hn
  rw [ar_mo_0] at c0
  unfold ar_T1
  rw [c0, c1, ar_nw_pe hA (Nat.le_refl _), ar_nw_ct hA hr le (Nat.le_refl _)]
  exact ⟨a1, a2, a3, a4, ar_mo_mono a5, a6⟩
end
end
section
theorem ar_pe_at {so bw : Nat → Nat} {t : Nat} : ∀ k, ar_pe so bw k t ≠ 0 → bw (ar_pe so bw k t) = t ∧ ¬ so (ar_pe so bw k t) < 2 := by
  intro k
  induction k with
  | zero => intro h; exact absurd rfl h
  | succ k ih =>
    unfold ar_pe
    by_cases h : bw (k + 1) = t ∧ ¬ so (k + 1) < 2
    · rw [if_pos h]; intro _; exact h
    · rw [if_neg h]; exact ih
theorem ar_ko {g s : Nat → Nat} {i j : Nat} (h : ¬ j < i) : ar_k g s i j = g j := if_neg h
section
variable {se ce le fc hd sl : Nat} {dc bf af fl hl : Nat → Int32} {dn cl cf so bw wh lk mv pg fn ch rn wr la mk : Nat → Nat}
variable {so' bw' wh' lk' mv' : Nat → Nat} {bf' af' : Nat → Int32}
theorem ar_bl {post : Int32 → Prop} {t : Nat} (hle : le ≤ 300) (ht : t < 3) (hW : ar_WF so bw wh lk le) : ∀ d m, m + d = le + 1 → 0 < m → (∀ j, m ≤ j → j ≤ le → so' j = so j ∧ bw' j = bw j) → post (if ar_pe so bw le t < m then 1 else 0) →
    wX_belongs_2 post (nI t) (nI se) (nI ce) (nI le) (nI fc) (nI hd) (nI sl) dc (ar_N dn) (ar_N cl) (ar_N cf) (ar_N so') (ar_N bw') (ar_N wh') bf' af' (ar_N lk') (ar_N mv') (ar_P pg) fl (ar_N fn) (ar_N ch) (ar_N rn) hl (ar_N wr) (ar_N la) (ar_N mk) (d + 1) (nI m) := by
  intro d
  induction d with
  | zero =>
    intro m hm m0 _ hp
    rw [wX_belongs_2]
    rw [if_pos (by have := @ar_pe_le so bw le t; omega)] at hp
    exact br_t (nI_lt (by omega) (by omega)) hp
  | succ d ih =>
    intro m hm m0 hj hp
    obtain ⟨j1, j2⟩ := hj m (Nat.le_refl _) (by omega)
    obtain ⟨w1, w2, _⟩ := hW m m0 (by omega)
    have v : vp_in (nI m) 301 := vp_in_nI (by omega) (by omega)
    have nx : ¬ (bw m = t ∧ ¬ so m < 2) → wX_belongs_2 post (nI t) (nI se) (nI ce) (nI le) (nI fc) (nI hd) (nI sl) dc (ar_N dn) (ar_N cl) (ar_N cf) (ar_N so') (ar_N bw') (ar_N wh') bf' af' (ar_N lk') (ar_N mv') (ar_P pg) fl (ar_N fn) (ar_N ch) (ar_N rn) hl (ar_N wr) (ar_N la) (ar_N mk) (d + 1) (nI (m + 1)) := by
      intro hn
      refine ih (m + 1) (by omega) (by omega) (fun j h1 h2 => hj j (by omega) h2) ?_
      have ne : ar_pe so bw le t ≠ m := by
        intro e
        have := ar_pe_at (so := so) (bw := bw) (t := t) le (by omega)
        rw [e] at this
        exact hn this
      by_cases z : ar_pe so bw le t < m
      · rw [if_pos z] at hp; rw [if_pos (by omega)]; exact hp
      · rw [if_neg z] at hp; rw [if_neg (by omega)]; exact hp
    rw [wX_belongs_2]
    refine br_f (nI_nlt (by omega) (by omega)) ⟨v, ?_⟩
    by_cases e : bw m = t
    · refine br_t (by rw [ar_Nv (by omega), j2, e]) ⟨v, ?_⟩
      by_cases s : so m < 2
      · exact br_t (by rw [ar_Nv (by omega), j1]; exact nI_lt (b := 2) s (by omega)) (nm_r (nI_1 m) (nx (fun y => y.2 s)))
      · have g := ar_pe_ge (so := so) (bw := bw) le m m0 (by omega) s
        rw [e] at g
        rw [if_neg (by omega)] at hp
        exact br_f (by rw [ar_Nv (by omega), j1]; exact nI_nlt (b := 2) (by omega) (by omega)) hp
    · exact br_f (by rw [ar_Nv (by omega), j2, nI_eq (by omega) (by omega)]; exact e) (nm_r (nI_1 m) (nx (fun y => e y.1)))
/-- last and markAt are renumbered -/
theorem ar_m166 {post : SX → Prop} {kp : Nat} (hmv : ∀ j, mv j ≤ 300) (hla : ∀ t, t < 3 → la t ≤ 300) (hmk : ∀ t, t < 3 → mk t ≤ 300)
    (h : post ((nI kp), (nI 0), (nI kp), (nI fc), (nI hd), (nI sl), dc, (ar_N (ar_z dn 4)), (ar_N (ar_z cl 3)), (ar_N (ar_z cf 4)), (ar_N so), (ar_N bw), (ar_N wh), bf, af, (ar_N lk), (ar_N mv), (ar_P pg), fl, (ar_N (ar_z fn 3)), (ar_N (ar_z ch 3)), (ar_N rn), hl, (ar_N wr), (ar_N (ar_k la (fun t => mv (la t)) 3)), (ar_N (ar_k mk (fun t => mv (mk t)) 3)))) :
    ∀ d i, i + d = 3 → wX_makeRoom_166 post (nI kp) (nI se) (nI ce) (nI le) (nI fc) (nI hd) (nI sl) (d + 1) (nI i) dc (ar_N dn) (ar_N cl) (ar_N cf) (ar_N so) (ar_N bw) (ar_N wh) bf af (ar_N lk) (ar_N mv) (ar_P pg) fl (ar_N fn) (ar_N ch) (ar_N rn) hl (ar_N wr) (ar_N (ar_k la (fun t => mv (la t)) i)) (ar_N (ar_k mk (fun t => mv (mk t)) i)) := by
  intro d
  induction d with
  | zero =>
    intro i hi
    have e : i = 3 := by omega
    subst e
    rw [wX_makeRoom_166]
    exact br_t (show (3 : Int32) ≤ nI 3 by decide) (ar_FN (se := kp) (le := kp) h)
  | succ d ih =>
    intro i hi
    rw [wX_makeRoom_166]
    have v : vp_in (nI i) 3 := vp_in_nI (by omega) (by omega)
    have e1 : ar_N (ar_k la (fun t => mv (la t)) i) (nI i).toNatClampNeg = nI (la i) := by rw [ar_Nv (by omega), ar_ko (by omega)]
    have e2 : ar_N (ar_k mk (fun t => mv (mk t)) i) (nI i).toNatClampNeg = nI (mk i) := by rw [ar_Nv (by omega), ar_ko (by omega)]
    have l3 := hla i (by omega)
    have m3 := hmk i (by omega)
    have v1 := hmv (la i)
    have v2 := hmv (mk i)
    exact br_f (nI_ge (b := 3) (by omega) (by omega)) ⟨v, by rw [e1]; exact vp_in_nI (by omega) (by omega), v, nm_r (e' := ar_N (ar_k la (fun t => mv (la t)) (i + 1))) (by rw [ar_Nu (n := mv (la i)) (ar_cl (by omega)) (by rw [e1, ar_Nv (by omega), ar_vs (by omega)])]; exact congrArg ar_N ar_k1) ⟨v, by rw [e2]; exact vp_in_nI (by omega) (by omega), v, nm_r (e' := ar_N (ar_k mk (fun t => mv (mk t)) (i + 1))) (by rw [ar_Nu (n := mv (mk i)) (ar_cl (by omega)) (by rw [e2, ar_Nv (by omega), ar_vs (by omega)])]; exact congrArg ar_N ar_k1) (nm_r (nI_1 i) (ih (i + 1) (by omega)))⟩⟩
end
section
variable {se ce le fc hd sl : Nat} {dc fl hl : Nat → Int32} {dn cl cf pg fn ch wr la mk rn so bw wh lk : Nat → Nat} {bf af : Nat → Int32}
theorem ar_m26 (hle : le ≤ 300) (hW : ar_WF so bw wh lk le) (hrn : ∀ t, t < 3 → rn t ≤ 1) : ∀ d m (so' bw' wh' : Nat → Nat) (bf' af' : Nat → Int32) (lk' mv' : Nat → Nat), m + d = le →
    (∀ j, m < j → j ≤ le → so' j = so j ∧ bw' j = bw j ∧ wh' j = wh j ∧ bf' j = bf j ∧ af' j = af j ∧ lk' j = lk j) →
    (∀ n, ar_K so bw rn le n → n ≤ m → so' (ar_mo so bw rn le n) = so n ∧ bw' (ar_mo so bw rn le n) = bw n ∧ wh' (ar_mo so bw rn le n) = wh n ∧ bf' (ar_mo so bw rn le n) = bf n ∧ af' (ar_mo so bw rn le n) = af n ∧ lk' (ar_mo so bw rn le n) = ar_mo so bw rn le (lk n)) →
    (∀ j, j ≤ m → mv' j = ar_mo so bw rn le j) → (∀ j, mv' j ≤ 300) →
    ∃ so2 bw2 wh2 bf2 af2 lk2 mv2, ar_NW so bw wh lk rn bf af le so2 bw2 wh2 lk2 bf2 af2 ∧ (∀ j, j ≤ le → mv2 j = ar_mo so bw rn le j) ∧ (∀ j, mv2 j ≤ 300) ∧
      ∀ (post : SX → Prop), (∃ n, wX_makeRoom_166 post (nI (ar_mo so bw rn le le)) (nI se) (nI ce) (nI le) (nI fc) (nI hd) (nI sl) n 0 dc (ar_N dn) (ar_N cl) (ar_N cf) (ar_N so2) (ar_N bw2) (ar_N wh2) bf2 af2 (ar_N lk2) (ar_N mv2) (ar_P pg) fl (ar_N fn) (ar_N ch) (ar_N rn) hl (ar_N wr) (ar_N la) (ar_N mk)) →
        wX_makeRoom_26 post (nI se) (nI ce) (nI le) (nI fc) (nI hd) (nI sl) (d + 1) (nI (ar_mo so bw rn le m)) (nI (m + 1)) dc (ar_N dn) (ar_N cl) (ar_N cf) (ar_N so') (ar_N bw') (ar_N wh') bf' af' (ar_N lk') (ar_N mv') (ar_P pg) fl (ar_N fn) (ar_N ch) (ar_N rn) hl (ar_N wr) (ar_N la) (ar_N mk) := by
  intro d
  induction d with
  | zero =>
    intro m so' bw' wh' bf' af' lk' mv' hm i1 i2 i3 i4
    have e : m = le := by omega
    subst e
    refine ⟨so', bw', wh', bf', af', lk', mv', fun n k => i2 n k k.2.2, i3, i4, fun post hp => ?_⟩
    rw [wX_makeRoom_26]
    exact br_t (nI_lt (by omega) (by omega)) hp
  | succ d ih =>
    intro m so' bw' wh' bf' af' lk' mv' hm i1 i2 i3 i4
    obtain ⟨w1, w2, w3, w4⟩ := hW (m + 1) (by omega) (by omega)
    obtain ⟨j1, j2, j3, j4, j5, j6⟩ := i1 (m + 1) (by omega) (by omega)
    have mol := @ar_mo_le so bw rn le m
    have v : vp_in (nI (m + 1)) 301 := vp_in_nI (by omega) (by omega)
    have e : (nI (m + 1)).toNatClampNeg = m + 1 := ar_cl (by omega)
    have eb : ar_N bw' (nI (m + 1)).toNatClampNeg = nI (bw (m + 1)) := by rw [ar_Nv (by omega), j2]
    have b1 : ¬ nI le < nI (m + 1) := nI_nlt (by omega) (by omega)
    have vb : vp_in (nI (bw (m + 1))) 3 := vp_in_nI w2 (by omega)
    have er : ar_N rn (nI (bw (m + 1))).toNatClampNeg = nI (rn (bw (m + 1))) := ar_Nv (by omega)
    by_cases h : rn (bw (m + 1)) = 1 ∧ ar_pe so bw le (bw (m + 1)) < m + 1
    · have k : ar_K so bw rn le (m + 1) := ⟨h.1, h.2, by omega⟩
      have et := ar_mo_t (so := so) (bw := bw) (rn := rn) (le := le) h
      have mm1 : ar_u (ar_u mv' (m + 1) (ar_mo so bw rn le m)) (m + 1) (ar_mo so bw rn le m + 1) (lk (m + 1)) = ar_mo so bw rn le (lk (m + 1)) := by
        rw [ar_un (by omega), ar_un (by omega), i3 _ (by omega)]
      have mlk := @ar_mo_le so bw rn le (lk (m + 1))
      obtain ⟨so2, bw2, wh2, bf2, af2, lk2, mv2, q1, q2, q3, q4⟩ := ih (m + 1) (ar_u so' (ar_mo so bw rn le m + 1) (so (m + 1))) (ar_u bw' (ar_mo so bw rn le m + 1) (bw (m + 1))) (ar_u wh' (ar_mo so bw rn le m + 1) (wh (m + 1))) (upd bf' (ar_mo so bw rn le m + 1) (bf (m + 1))) (upd af' (ar_mo so bw rn le m + 1) (af (m + 1))) (ar_u lk' (ar_mo so bw rn le m + 1) (ar_mo so bw rn le (lk (m + 1)))) (ar_u (ar_u mv' (m + 1) (ar_mo so bw rn le m)) (m + 1) (ar_mo so bw rn le m + 1)) (by omega)
        (fun j h1 h2 => by
          rw [ar_un (by omega), ar_un (by omega), ar_un (by omega), pk_un (by omega), pk_un (by omega), ar_un (by omega)]
          exact i1 j (by omega) h2)
        (fun n kn hn => by
          by_cases en : n = m + 1
          · rw [en, et, ar_us, ar_us, ar_us, pk_us, pk_us, ar_us]; exact ⟨rfl, rfl, rfl, rfl, rfl, rfl⟩
          · have := ar_mo_mono (so := so) (bw := bw) (rn := rn) (le := le) (show n ≤ m by omega)
            rw [ar_un (by omega), ar_un (by omega), ar_un (by omega), pk_un (by omega), pk_un (by omega), ar_un (by omega)]
            exact i2 n kn (by omega))
        (fun j hj => by
          by_cases ej : j = m + 1
          · rw [ej, ar_us, et]
          · rw [ar_un ej, ar_un ej]; exact i3 j (by omega))
        (fun j => by
          by_cases ej : j = m + 1
          · rw [ej, ar_us]; omega
          · rw [ar_un ej, ar_un ej]; exact i4 j)
      refine ⟨so2, bw2, wh2, bf2, af2, lk2, mv2, q1, q2, q3, fun post hp => ?_⟩
      have q4 := q4 post hp
      rw [et] at q4
      have vk : vp_in (nI (ar_mo so bw rn le m + 1)) 301 := vp_in_nI (by omega) (by omega)
      have ek : (nI (ar_mo so bw rn le m + 1)).toNatClampNeg = ar_mo so bw rn le m + 1 := ar_cl (by omega)
      have el : ar_N lk' (nI (m + 1)).toNatClampNeg = nI (lk (m + 1)) := by rw [ar_Nv (by omega), j6]
      rw [wX_makeRoom_26]
      refine br_f b1 ⟨v, nm_r (ar_Nu e (ar_vs2 (by omega))) ⟨v, nm_r eb ⟨vb, br_f (by rw [er, h.1]; decide) ?_⟩⟩⟩
      refine ⟨_, ar_bl hle w2 hW (le - m) (m + 1) (by omega) (by omega) (fun j h1 h2 => ⟨(i1 j (by omega) h2).1, (i1 j (by omega) h2).2.1⟩) ?_⟩
      rw [if_pos h.2]
      refine br_f (by decide) (nm_r (nI_1 _) ⟨v, nm_r (ar_Nu e (ar_vs2 (by omega))) ⟨v, vk, nm_r (ar_Nu ek (by rw [ar_Nv (by omega), j1, ar_vb (by omega)])) ⟨v, vk, nm_r (ar_Nu ek (by rw [eb, ar_vb (by omega)])) ⟨v, vk, nm_r (ar_Nu ek (by rw [ar_Nv (by omega), j3, ar_vb (by omega)])) ⟨v, vk, nm_r (e' := upd bf' (ar_mo so bw rn le m + 1) (bf (m + 1))) (by rw [ek, e, j4]) ⟨v, vk, nm_r (e' := upd af' (ar_mo so bw rn le m + 1) (af (m + 1))) (by rw [ek, e, j5]) ⟨v, by rw [el]; exact vp_in_nI (by omega) (by omega), vk, nm_r (ar_Nu ek (by rw [el, ar_Nv (by omega), mm1, ar_vs (by omega)])) (nm_r (nI_1 _) q4)⟩⟩⟩⟩⟩⟩⟩)
    · have et := ar_mo_f (so := so) (bw := bw) (rn := rn) (le := le) h
      obtain ⟨so2, bw2, wh2, bf2, af2, lk2, mv2, q1, q2, q3, q4⟩ := ih (m + 1) so' bw' wh' bf' af' lk' (ar_u mv' (m + 1) (ar_mo so bw rn le m)) (by omega)
        (fun j h1 h2 => i1 j (by omega) h2)
        (fun n kn hn => by
          by_cases en : n = m + 1
          · rw [en] at kn; exact absurd ⟨kn.1, kn.2.1⟩ h
          · exact i2 n kn (by omega))
        (fun j hj => by
          by_cases ej : j = m + 1
          · rw [ej, ar_us, et]
          · rw [ar_un ej]; exact i3 j (by omega))
        (fun j => by
          by_cases ej : j = m + 1
          · rw [ej, ar_us]; omega
          · rw [ar_un ej]; exact i4 j)
      refine ⟨so2, bw2, wh2, bf2, af2, lk2, mv2, q1, q2, q3, fun post hp => ?_⟩
      have q4 := q4 post hp
      rw [et] at q4
      rw [wX_makeRoom_26]
      refine br_f b1 ⟨v, nm_r (ar_Nu e (ar_vs2 (by omega))) ⟨v, nm_r eb ⟨vb, ?_⟩⟩⟩
      by_cases z : rn (bw (m + 1)) = 1
      · refine br_f (by rw [er, z]; decide) ⟨_, ar_bl hle w2 hW (le - m) (m + 1) (by omega) (by omega) (fun j h1 h2 => ⟨(i1 j (by omega) h2).1, (i1 j (by omega) h2).2.1⟩) ?_⟩
        rw [if_neg (fun y => h ⟨z, y⟩)]
        exact br_t rfl (nm_r (nI_1 _) q4)
      · have z0 : rn (bw (m + 1)) = 0 := by have := hrn _ w2; omega
        exact br_t (by rw [er, z0]; rfl) (nm_r (nI_1 _) q4)
end
end
section
def ar_INV (se ce le fc hd : Nat) (B C cv dc bf af fl hl ld : Nat → Int32) (cm dn cl cf so bw wh lk mv pg fn ch rn wr la mk li mm lc : Nat → Nat) : Prop :=
  ar_PL fc hd cv cm dc dn pg fl fn ch ∧
  ar_DL (ar_lz so wh) (ar_vl so wh af B) le se (ar_fs ce cf 4) (le + 1) cv cm dc dn pg ch ∧
  ar_LG so bw wh lk bf af B C le se ∧
  ar_CK so bw cl cf ce se ∧
  ar_TL so bw wh lk rn hl la le ∧
  (∀ t, t < 3 → rn t = 1 → ar_T1 so bw wh lk bf lc ld le t (la t) (mk t) (mm t) (li t) (wr t)) ∧
  (∀ t, t < 3 → rn t ≤ 1 ∧ la t ≤ 300 ∧ mk t ≤ 300 ∧ wr t ≤ 20) ∧ (∀ j, mv j ≤ 300) ∧ (∀ j, lc j < 16)
theorem ar_Nu0 {g : Nat → Nat} {k n : Nat} {v : Int32} (hv : v = nI n) : upd (ar_N g) k v = ar_N (ar_u g k n) := by
  funext j
  rw [hv]
  show (if j = k then nI n else nI (g j)) = nI (if j = k then n else g j)
  by_cases h : j = k
  · rw [if_pos h, if_pos h]
  · rw [if_neg h, if_neg h]
theorem ar_fs_0 {ce : Nat} {cf : Nat → Nat} : ∀ p, (∀ q, q < p → cf q = 0) → ar_fs ce cf p = ce + 1 := by
  intro p
  induction p with
  | zero => intro _; rfl
  | succ p ih =>
    intro h
    unfold ar_fs
    rw [if_neg (fun y => y.1 (h p (by omega)))]
    exact ih (fun q hq => h q (by omega))
section
variable {se ce le fc hd sl : Nat} {dc bf af fl hl : Nat → Int32} {dn cl cf so bw wh lk mv pg fn ch rn wr la mk : Nat → Nat}
variable {cv ld : Nat → Int32} {li mm lc : Nat → Nat}
variable {B C : Nat → Int32} {cm : Nat → Nat}
theorem ar_INV_len (h : ar_INV se ce le fc hd B C cv dc bf af fl hl ld cm dn cl cf so bw wh lk mv pg fn ch rn wr la mk li mm lc) {u : Nat} (hu : u < 3) : (ar_Q so bw wh lk bf le u).length ≤ 20 := by
  obtain ⟨_, _, _, _, hT, h1, _⟩ := h
  unfold ar_Q
  by_cases r : rn u = 1
  · obtain ⟨a1, a2, a3, a4, _⟩ := h1 u hu r
    rw [← hT.2.2.1 u hu r, a1, ar_yl_len]
    omega
  · rw [hT.2.2.2 u hu r, ar_c_0]
    exact Nat.zero_le _
theorem ar_MR (h : ar_INV se ce le fc hd B C cv dc bf af fl hl ld cm dn cl cf so bw wh lk mv pg fn ch rn wr la mk li mm lc) (hle : le ≤ 201) :
    ∃ se' ce' le' dc' dn' cl' cf' so' bw' wh' bf' af' lk' mv' fn' ch' la' mk' B' cm', ar_INV se' ce' le' fc hd B' C cv dc' bf' af' fl hl ld cm' dn' cl' cf' so' bw' wh' lk' mv' pg fn' ch' rn wr la' mk' li mm lc ∧ le' ≤ 180 ∧
      ∀ (post : SX → Prop), post ((nI se'), (nI ce'), (nI le'), (nI fc), (nI hd), (nI sl), dc', (ar_N dn'), (ar_N cl'), (ar_N cf'), (ar_N so'), (ar_N bw'), (ar_N wh'), bf', af', (ar_N lk'), (ar_N mv'), (ar_P pg), fl, (ar_N fn'), (ar_N ch'), (ar_N rn), hl, (ar_N wr), (ar_N la'), (ar_N mk')) → wpX_makeRoom post ((nI se), (nI ce), (nI le), (nI fc), (nI hd), (nI sl), dc, (ar_N dn), (ar_N cl), (ar_N cf), (ar_N so), (ar_N bw), (ar_N wh), bf, af, (ar_N lk), (ar_N mv), (ar_P pg), fl, (ar_N fn), (ar_N ch), (ar_N rn), hl, (ar_N wr), (ar_N la), (ar_N mk)) := by
  by_cases z : le ≤ 180
  · exact ⟨se, ce, le, dc, dn, cl, cf, so, bw, wh, bf, af, lk, mv, fn, ch, la, mk, B, cm, h, z, fun post hp => br_f (nI_nlt (b := le) (a := 180) z (by omega)) hp⟩
  · have hlen := fun u hu => ar_INV_len h (u := u) hu
    obtain ⟨hP, hD, hG, hK, hT, h1, hM, hV, hC⟩ := h
    have hW := hG.1
    obtain ⟨se1, dc1, dn1, ch1, P1, D1, s1, c1, k1⟩ := ar_WA (ce := ce) (sl := sl) (cl := cl) (cf := cf) (bw := bw) (bf := bf) (lk := lk) (so := so) (wh := wh) (af := af) (mv := mv) (rn := rn) (hl := hl) (wr := wr) (la := la) (mk := mk) ar_zv hP hD (by omega)
    obtain ⟨so2, bw2, wh2, bf2, af2, lk2, mv2, hA, q2, q3, q4⟩ := ar_m26 (se := se1) (ce := ce) (fc := fc) (hd := hd) (sl := sl) (dc := dc1) (fl := fl) (hl := hl) (dn := dn1) (cl := cl) (cf := cf) (pg := pg) (fn := fn) (ch := ch1) (wr := wr) (la := la) (mk := mk) (rn := rn) (bf := bf) (af := af) (by omega) hW (fun t ht => (hM t ht).1) le 0 so bw wh bf af lk (ar_u mv 0 0) (by omega) (fun j _ _ => ⟨rfl, rfl, rfl, rfl, rfl, rfl⟩)
      (fun n k hn => by have := (ar_K_so k).2; omega) (fun j hj => by
        have : j = 0 := by omega
        rw [this, ar_us]; rfl) (fun j => by
        by_cases e : j = 0
        · rw [e, ar_us]; omega
        · rw [ar_un e]; exact hV j)
    have kp : ar_mo so bw rn le le ≤ 120 := by
      have := ar_mo_ct (so := so) (bw := bw) (rn := rn) (le := le) (fun n h0 hn => (hW n h0 hn).2.1) le (Nat.le_refl _)
      have one : ∀ t, t < 3 → (if rn t = 1 then ar_ct bw (ar_pe so bw le t) t le else 0) ≤ 40 := by
        intro t ht
        by_cases r : rn t = 1
        · rw [if_pos r]
          obtain ⟨_, _, _, a4, _, a6⟩ := h1 t ht r
          omega
        · rw [if_neg r]; omega
      have o0 := one 0 (by omega)
      have o1 := one 1 (by omega)
      have o2 := one 2 (by omega)
      omega
    have lat : ∀ t, t < 3 → rn t = 1 → ar_k la (fun t => mv2 (la t)) 3 t = ar_mo so bw rn le (la t) := fun t ht r => by
      rw [ar_ki ht]
      show mv2 (la t) = _
      rw [q2 _ (by rw [hT.2.2.1 t ht r]; exact ar_lo_le le t)]
    have mkt : ∀ t, t < 3 → rn t = 1 → ar_k mk (fun t => mv2 (mk t)) 3 t = ar_mo so bw rn le (mk t) := fun t ht r => by
      rw [ar_ki ht]
      show mv2 (mk t) = _
      rw [q2 _ (h1 t ht r).2.2.2.2.1]
    have hcv : ∀ c, c < 16 → cv c = ar_vl so wh af B le c := fun c hc => hD.2.2.2.1 c hc (Or.inr (by have := @ar_lz_le so wh le c; omega))
    have vl2 : ∀ c, c < 16 → ar_vl so2 wh2 af2 cv (ar_mo so bw rn le le) c = cv c := fun c hc => ar_nw_vl hA hW hT hc (hcv c hc)
    have fs1 : ar_fs 0 (ar_z cf 4) 4 = 1 := ar_fs_0 4 (fun q hq => ar_zi hq)
    refine ⟨ar_mo so bw rn le le, 0, ar_mo so bw rn le le, dc1, ar_z dn1 4, ar_z cl 3, ar_z cf 4, so2, bw2, wh2, bf2, af2, lk2, mv2, ar_z fn 3, ar_z ch1 3, ar_k la (fun t => mv2 (la t)) 3, ar_k mk (fun t => mv2 (mk t)) 3, cv, fun _ => 0, ⟨ar_cl_PL P1 c1, ?_, ⟨ar_nw_WF hA hW, fun k k1 k2 => ?_⟩, ⟨Nat.zero_le _, fun t ht => ar_zi ht, fun p hp => Nat.le_of_eq (ar_zi hp)⟩, ar_nw_TL hA hW hT lat, fun t ht r => ?_, fun t ht => ?_, q3, hC⟩, by omega, fun post hp => ?_⟩
    · rw [fs1]
      refine ⟨⟨Nat.le_refl _, Nat.le_refl _, by omega, by omega, Nat.le_refl _⟩, fun p hp => ⟨by rw [ar_zi hp]; exact Nat.zero_le _, Nat.zero_le _⟩, fun c hc _ => ?_, fun c hc _ => (vl2 c hc).symm, fun c hc => Or.inr (ar_lz_le _ c), fun f p hf _ => by rw [ar_zi hf]; exact Nat.zero_le _, fun f c hf hc _ hch => absurd (ar_zi hf) hch⟩
      rw [vl2 c hc]; exact c1 c hc
    · have ek : k = ar_mo so bw rn le le := by omega
      subst ek
      have gG := hG.2 le hD.1.1 (Nat.le_refl _)
      refine ⟨ar_RB_same gG.1 (fun u hu => ar_nw_Q hA hW hT hu) (fun x hx => by rw [vl2 x hx]; exact hcv x hx), ?_⟩
      have := ar_wt_le (P := ar_Q so2 bw2 wh2 lk2 bf2 (ar_mo so bw rn le le)) (lo := ar_lo so2 bw2 (ar_mo so bw rn le le)) (fun u hu => by rw [ar_nw_Q hA hW hT hu]; exact hlen u hu)
      omega
    · rw [lat t ht r, mkt t ht r]
      exact ar_nw_T1 hA hW hT ht r (h1 t ht r)
    · rw [ar_ki ht, ar_ki ht]
      exact ⟨(hM t ht).1, q3 _, q3 _, (hM t ht).2.2.2⟩
    · refine br_t (nI_lt (b := le) (a := 180) (by omega) (by omega)) (k1 _ (nm_r (ar_Nu0 ar_vs0) ⟨le + 1, ?_⟩))
      have m6 := ar_m166 (post := post) (se := se1) (ce := ce) (le := le) (fc := fc) (hd := hd) (sl := sl) (dc := dc1) (fl := fl) (hl := hl) (dn := dn1) (cl := cl) (cf := cf) (pg := pg) (fn := fn) (ch := ch1) (wr := wr) (la := la) (mk := mk) (rn := rn) (so := so2) (bw := bw2) (wh := wh2) (lk := lk2) (bf := bf2) (af := af2) (mv := mv2) (kp := ar_mo so bw rn le le) q3 (fun t ht => (hM t ht).2.1) (fun t ht => (hM t ht).2.2.1) hp 3 0 rfl
      rw [ar_k0, ar_k0] at m6
      have q4 := q4 post ⟨4, m6⟩
      exact q4
end
end
section
/-! ===== the relation (this file is printed by gen_rel.py) ===== -/
def i_Rel (k : Nat) (u : SX) (v : SY) : Prop := ∃ (se : Nat) (ce : Nat) (le : Nat) (fc : Nat) (hd : Nat) (sl : Nat) (dc : Nat → Int32) (dn : Nat → Nat) (cl : Nat → Nat) (cf : Nat → Nat) (so : Nat → Nat) (bw : Nat → Nat) (wh : Nat → Nat) (bf : Nat → Int32) (af : Nat → Int32) (lk : Nat → Nat) (mv : Nat → Nat) (pg : Nat → Nat) (fl : Nat → Int32) (fn : Nat → Nat) (ch : Nat → Nat) (rn : Nat → Nat) (hl : Nat → Int32) (wr : Nat → Nat) (la : Nat → Nat) (mk : Nat → Nat) (cv : Nat → Int32) (li : Nat → Nat) (mm : Nat → Nat) (lc : Nat → Nat) (ld : Nat → Int32) (B : Nat → Int32) (C : Nat → Int32) (cm : Nat → Nat), u = ((nI se), (nI ce), (nI le), (nI fc), (nI hd), (nI sl), dc, (ar_N dn), (ar_N cl), (ar_N cf), (ar_N so), (ar_N bw), (ar_N wh), bf, af, (ar_N lk), (ar_N mv), (ar_P pg), fl, (ar_N fn), (ar_N ch), (ar_N rn), hl, (ar_N wr), (ar_N la), (ar_N mk)) ∧ v = (cv, (ar_N rn), hl, (ar_N wr), (ar_N li), (ar_N mm), (ar_N lc), ld) ∧ ar_INV se ce le fc hd B C cv dc bf af fl hl ld cm dn cl cf so bw wh lk mv pg fn ch rn wr la mk li mm lc ∧ le ≤ 201
theorem i_up {k : Nat} {u : SX} {v : SY} (h : i_Rel k u v) : i_Rel (k + 4) u v := h
theorem ar_el {P : SX → SY → Prop} {k : Nat} {u : SX} {v : SY} (h : ∀ (se : Nat) (ce : Nat) (le : Nat) (fc : Nat) (hd : Nat) (sl : Nat) (dc : Nat → Int32) (dn : Nat → Nat) (cl : Nat → Nat) (cf : Nat → Nat) (so : Nat → Nat) (bw : Nat → Nat) (wh : Nat → Nat) (bf : Nat → Int32) (af : Nat → Int32) (lk : Nat → Nat) (mv : Nat → Nat) (pg : Nat → Nat) (fl : Nat → Int32) (fn : Nat → Nat) (ch : Nat → Nat) (rn : Nat → Nat) (hl : Nat → Int32) (wr : Nat → Nat) (la : Nat → Nat) (mk : Nat → Nat) (cv : Nat → Int32) (li : Nat → Nat) (mm : Nat → Nat) (lc : Nat → Nat) (ld : Nat → Int32) (B : Nat → Int32) (C : Nat → Int32) (cm : Nat → Nat), ar_INV se ce le fc hd B C cv dc bf af fl hl ld cm dn cl cf so bw wh lk mv pg fn ch rn wr la mk li mm lc → le ≤ 201 → P ((nI se), (nI ce), (nI le), (nI fc), (nI hd), (nI sl), dc, (ar_N dn), (ar_N cl), (ar_N cf), (ar_N so), (ar_N bw), (ar_N wh), bf, af, (ar_N lk), (ar_N mv), (ar_P pg), fl, (ar_N fn), (ar_N ch), (ar_N rn), hl, (ar_N wr), (ar_N la), (ar_N mk)) (cv, (ar_N rn), hl, (ar_N wr), (ar_N li), (ar_N mm), (ar_N lc), ld)) (I : i_Rel k u v) : P u v :=
  Exists.elim I fun se I => Exists.elim I fun ce I => Exists.elim I fun le I => Exists.elim I fun fc I => Exists.elim I fun hd I => Exists.elim I fun sl I => Exists.elim I fun dc I => Exists.elim I fun dn I => Exists.elim I fun cl I => Exists.elim I fun cf I => Exists.elim I fun so I => Exists.elim I fun bw I => Exists.elim I fun wh I => Exists.elim I fun bf I => Exists.elim I fun af I => Exists.elim I fun lk I => Exists.elim I fun mv I => Exists.elim I fun pg I => Exists.elim I fun fl I => Exists.elim I fun fn I => Exists.elim I fun ch I => Exists.elim I fun rn I => Exists.elim I fun hl I => Exists.elim I fun wr I => Exists.elim I fun la I => Exists.elim I fun mk I => Exists.elim I fun cv I => Exists.elim I fun li I => Exists.elim I fun mm I => Exists.elim I fun lc I => Exists.elim I fun ld I => Exists.elim I fun B I => Exists.elim I fun C I => Exists.elim I fun cm I => by rw [I.1, I.2.1]; exact h se ce le fc hd sl dc dn cl cf so bw wh bf af lk mv pg fl fn ch rn hl wr la mk cv li mm lc ld B C cm I.2.2.1 I.2.2.2
section
variable {se ce le fc hd sl : Nat} {dc bf af fl hl : Nat → Int32} {dn cl cf so bw wh lk mv pg fn ch rn wr la mk : Nat → Nat}
variable {cv ld : Nat → Int32} {li mm lc : Nat → Nat}
variable {B C : Nat → Int32} {cm : Nat → Nat}
theorem ar_ri {k : Nat} (h : ar_INV se ce le fc hd B C cv dc bf af fl hl ld cm dn cl cf so bw wh lk mv pg fn ch rn wr la mk li mm lc) (hle : le ≤ 201) : i_Rel k ((nI se), (nI ce), (nI le), (nI fc), (nI hd), (nI sl), dc, (ar_N dn), (ar_N cl), (ar_N cf), (ar_N so), (ar_N bw), (ar_N wh), bf, af, (ar_N lk), (ar_N mv), (ar_P pg), fl, (ar_N fn), (ar_N ch), (ar_N rn), hl, (ar_N wr), (ar_N la), (ar_N mk)) (cv, (ar_N rn), hl, (ar_N wr), (ar_N li), (ar_N mm), (ar_N lc), ld) := ⟨se, ce, le, fc, hd, sl, dc, dn, cl, cf, so, bw, wh, bf, af, lk, mv, pg, fl, fn, ch, rn, hl, wr, la, mk, cv, li, mm, lc, ld, B, C, cm, rfl, rfl, h, hle⟩
end
end
section
/-! ===== arguments ===== -/
theorem ar_gt2 {x : Int32} (h : nI 3 ≤ x) : 2 < x := by
  rw [Int32.le_iff_toInt_le, nI_toInt (by omega)] at h
  rw [Int32.lt_iff_toInt_lt, show (2 : Int32).toInt = 2 by decide]
  omega
theorem ar_nn3 {x : Int32} (h : nI 3 ≤ x) : ¬ x < 0 := by
  rw [Int32.le_iff_toInt_le, nI_toInt (by omega)] at h
  rw [Int32.lt_iff_toInt_lt, show (0 : Int32).toInt = 0 by decide]
  omega
theorem ar_xb {post : Int32 → Prop} {u : SX} {x : Int32} (h : x < 0 ∨ nI 3 ≤ x) (hp : post 0) : wpX_isTransaction post u x := by
  rcases h with h | h
  · exact br_t h hp
  · exact br_f (ar_nn3 h) (br_t (ar_gt2 h) hp)
theorem ar_yb {post : Int32 → Prop} {u : SY} {x : Int32} (h : x < 0 ∨ nI 3 ≤ x) (hp : post 0) : wpY_isTransaction post u x := by
  rcases h with h | h
  · exact br_t h hp
  · exact br_f (ar_nn3 h) (br_t h hp)
theorem ar_xg {post : Int32 → Prop} {u : SX} {t : Nat} (h : t < 3) (hp : post 1) : wpX_isTransaction post u (nI t) :=
  br_f (nI_pos (by omega)) (br_f (nI_nlt (b := t) (a := 2) (by omega) (by omega)) hp)
theorem ar_yg {post : Int32 → Prop} {u : SY} {t : Nat} (h : t < 3) (hp : post 1) : wpY_isTransaction post u (nI t) :=
  br_f (nI_pos (by omega)) (br_f (nI_ge (b := 3) (by omega) (by omega)) hp)
theorem ar_tx (x : Int32) : (x < 0 ∨ nI 3 ≤ x) ∨ ∃ t, t < 3 ∧ x = nI t := by
  rcases pk_ix x (n := 3) (by omega) with h | h | h
  · exact Or.inl (Or.inl h)
  · exact Or.inl (Or.inr h)
  · exact Or.inr h
theorem ar_10 : ¬ (1 : Int32) = 0 := by decide
theorem ar_m10 : ¬ (-1 : Int32) = 0 := by decide
/-! ===== how many bits ===== -/
def ar_bs (h : Int32) : Nat → Nat → Int32 → Int32
  | 0, _, a => a
  | d + 1, i, a => ar_bs h d (i + 1) (a + ((h >>> (nI i &&& 31)) &&& 1))
section
variable {se ce le fc hd sl : Nat} {dc bf af fl hl : Nat → Int32} {dn cl cf so bw wh lk mv pg fn ch rn wr la mk : Nat → Nat}
variable {cv ld : Nat → Int32} {li mm lc : Nat → Nat}
variable {B C : Nat → Int32} {cm : Nat → Nat}
theorem ar_xbi {post : Int32 → Prop} {h : Int32} : ∀ d i a, i + d = 16 → post (ar_bs h d i a) → wX_bitsIn_4 post h (nI se) (nI ce) (nI le) (nI fc) (nI hd) (nI sl) dc (ar_N dn) (ar_N cl) (ar_N cf) (ar_N so) (ar_N bw) (ar_N wh) bf af (ar_N lk) (ar_N mv) (ar_P pg) fl (ar_N fn) (ar_N ch) (ar_N rn) hl (ar_N wr) (ar_N la) (ar_N mk) (d + 1) a (nI i) := by
  intro d
  induction d with
  | zero =>
    intro i a hi hp
    have e : i = 16 := by omega
    subst e
    rw [wX_bitsIn_4]
    exact br_t (show (16 : Int32) ≤ nI 16 by decide) hp
  | succ d ih =>
    intro i a hi hp
    rw [wX_bitsIn_4]
    exact br_f (nI_ge (b := 16) (by omega) (by omega)) (nm_e (nm_r (nI_1 i) (ih (i + 1) _ (by omega) hp)))
theorem ar_ybi {post : Int32 → Prop} {h : Int32} : ∀ d i a, i + d = 16 → post (ar_bs h d i a) → wY_size_4 post h cv (ar_N rn) hl (ar_N wr) (ar_N li) (ar_N mm) (ar_N lc) ld (d + 1) a (nI i) := by
  intro d
  induction d with
  | zero =>
    intro i a hi hp
    have e : i = 16 := by omega
    subst e
    rw [wY_size_4]
    exact br_t (show (16 : Int32) ≤ nI 16 by decide) hp
  | succ d ih =>
    intro i a hi hp
    rw [wY_size_4]
    exact br_f (nI_ge (b := 16) (by omega) (by omega)) (nm_e (nm_r (nI_1 i) (ih (i + 1) _ (by omega) hp)))
theorem ar_xB {post : Int32 → Prop} {h : Int32} (hp : post (ar_bs h 16 0 0)) : wpX_bitsIn post ((nI se), (nI ce), (nI le), (nI fc), (nI hd), (nI sl), dc, (ar_N dn), (ar_N cl), (ar_N cf), (ar_N so), (ar_N bw), (ar_N wh), bf, af, (ar_N lk), (ar_N mv), (ar_P pg), fl, (ar_N fn), (ar_N ch), (ar_N rn), hl, (ar_N wr), (ar_N la), (ar_N mk)) h := ⟨17, ar_xbi 16 0 0 rfl hp⟩
theorem ar_yB {post : Int32 → Prop} {h : Int32} (hp : post (ar_bs h 16 0 0)) : wpY_size post (cv, (ar_N rn), hl, (ar_N wr), (ar_N li), (ar_N mm), (ar_N lc), ld) h := ⟨17, ar_ybi 16 0 0 rfl hp⟩
/-! ===== a clean state ===== -/
theorem ar_PL_cv {cv' : Nat → Int32} (h : ar_PL fc hd cv cm dc dn pg fl fn ch) (e : ∀ c, c < 16 → cv c = cv' c) : ar_PL fc hd cv' cm dc dn pg fl fn ch := by
  obtain ⟨a1, a2, a3, a4, a5, a6, a7⟩ := h
  exact ⟨a1, a2, a3, a4, fun f c hf hc hp => by rw [← e c hc]; exact a5 f c hf hc hp, a6, fun c hc hn => by rw [← e c hc]; exact a7 c hc hn⟩
theorem ar_INV_cl {cv' : Nat → Int32} (h : ar_CL fc hd C cv' dc fl dn pg fn ch cl cf la) (hcv : ∀ c, c < 16 → cv c = C c) (hM : ∀ t, t < 3 → rn t = 0 ∧ mk t ≤ 300 ∧ wr t ≤ 20) (hV : ∀ j, mv j ≤ 300) (hlc : ∀ j, lc j < 16) :
    ar_INV 0 0 0 fc hd cv cv cv dc bf af fl hl ld (fun _ => 0) dn cl cf so bw wh lk mv pg fn ch rn wr la mk li mm lc := by
  obtain ⟨h1, h2, h3, h4⟩ := h
  have fs1 : ar_fs 0 cf 4 = 1 := ar_fs_0 4 (fun q hq => (h3 q hq).2)
  have Q0 : ∀ u, ar_Q so bw wh lk bf 0 u = [] := fun u => ar_c_0
  refine ⟨ar_PL_cv h1 (fun c hc => by rw [hcv c hc]; exact (h2 c hc).1), ?_, ⟨fun n n0 n1 => by omega, fun k _ k2 => ?_⟩, ⟨Nat.le_refl _, fun t ht => (h4 t ht).2.1, fun p hp => Nat.le_of_eq (h3 p hp).2⟩, ?_, fun t ht r => ?_, fun t ht => ?_, hV, hlc⟩
  · rw [fs1]
    refine ⟨⟨Nat.le_refl _, Nat.le_refl _, by omega, by omega, Nat.le_refl _⟩, fun p hp => ⟨Nat.le_of_eq (h3 p hp).1, Nat.le_refl _⟩, fun c hc _ => ?_, fun c hc _ => rfl, fun c hc => Or.inr (Nat.le_refl _), fun f p hf _ => Nat.le_of_eq (h4 f hf).1, fun f c hf hc _ hch => absurd (h4 f hf).1 hch⟩
    rw [(h2 c hc).2, (h2 c hc).1, ← hcv c hc]; rfl
  · have ek : k = 0 := by omega
    subst ek
    refine ⟨ar_RB_mk (fun u _ => Q0 u), ?_⟩
    have := ar_wt_le (P := ar_Q so bw wh lk bf 0) (lo := ar_lo so bw 0) (fun u _ => by rw [Q0 u]; exact Nat.zero_le _)
    omega
  · refine ⟨fun n k => ?_, fun t c ht hc r => ?_, fun t ht r => ?_, fun t ht _ => rfl⟩
    · have := k.2.1
      have := k.2.2
      omega
    · have := (hM t ht).1; omega
    · have := (hM t ht).1; omega
  · have := (hM t ht).1; omega
  · obtain ⟨m1, m2, m3⟩ := hM t ht
    exact ⟨by omega, by rw [(h4 t ht).2.2]; omega, m2, m3⟩
theorem ar_i185 {post : SX → Prop} (h : post ((nI se), (nI ce), (nI le), (nI fc), (nI hd), (nI sl), dc, (ar_N dn), (ar_N cl), (ar_N cf), (ar_N so), (ar_N bw), (ar_N wh), bf, af, (ar_N lk), (ar_N mv), (ar_P (ar_z pg 3)), fl, (ar_N fn), (ar_N ch), (ar_N rn), hl, (ar_N wr), (ar_N la), (ar_N mk))) : ∀ d i, i + d = 3 → wX_init_185 post (nI se) (nI ce) (nI le) (nI fc) (nI hd) (nI sl) (d + 1) (nI i) dc (ar_N dn) (ar_N cl) (ar_N cf) (ar_N so) (ar_N bw) (ar_N wh) bf af (ar_N lk) (ar_N mv) (ar_P (ar_z pg i)) fl (ar_N fn) (ar_N ch) (ar_N rn) hl (ar_N wr) (ar_N la) (ar_N mk) := by
  intro d
  induction d with
  | zero =>
    intro i hi
    have e : i = 3 := by omega
    subst e
    rw [wX_init_185]
    exact br_t (show (3 : Int32) ≤ nI 3 by decide) h
  | succ d ih =>
    intro i hi
    rw [wX_init_185]
    exact br_f (nI_ge (b := 3) (by omega) (by omega)) ⟨vp_in_nI (by omega) (by omega), nm_r (ar_Pz (by omega) ar_vbm) (nm_r (nI_1 i) (ih (i + 1) (by omega)))⟩
/-- a page is brought in -/
theorem ar_INV_br {p : Nat} (h : ar_INV se ce le fc hd B C cv dc bf af fl hl ld cm dn cl cf so bw wh lk mv pg fn ch rn wr la mk li mm lc) (hle : le ≤ 300) (hp : p < 4) :
    ∃ f hd' se' dc' dn' pg' fl' fn' ch', f < 3 ∧ pg' f = p + 1 ∧ ar_INV se' ce le fc hd' B C cv dc' bf af fl' hl ld cm dn' cl cf so bw wh lk mv pg' fn' ch' rn wr la mk li mm lc ∧
      ∀ (post : Int32 → SX → Prop), post (nI f) ((nI se'), (nI ce), (nI le), (nI fc), (nI hd'), (nI sl), dc', (ar_N dn'), (ar_N cl), (ar_N cf), (ar_N so), (ar_N bw), (ar_N wh), bf, af, (ar_N lk), (ar_N mv), (ar_P pg'), fl', (ar_N fn'), (ar_N ch'), (ar_N rn), hl, (ar_N wr), (ar_N la), (ar_N mk)) → wpX_bringIn post ((nI se), (nI ce), (nI le), (nI fc), (nI hd), (nI sl), dc, (ar_N dn), (ar_N cl), (ar_N cf), (ar_N so), (ar_N bw), (ar_N wh), bf, af, (ar_N lk), (ar_N mv), (ar_P pg), fl, (ar_N fn), (ar_N ch), (ar_N rn), hl, (ar_N wr), (ar_N la), (ar_N mk)) (nI p) := by
  obtain ⟨hP, hD, hG, hK, hT, h1, hM, hV, hC⟩ := h
  obtain ⟨f, hd1, se1, dc1, dn1, pg1, fl1, fn1, ch1, hf, hq1, P1, D1, s1, k1⟩ := ar_BR (ce := ce) (sl := sl) (cl := cl) (cf := cf) (so := so) (bw := bw) (wh := wh) (bf := bf) (af := af) (lk := lk) (mv := mv) (rn := rn) (hl := hl) (wr := wr) (la := la) (mk := mk) (p := p) ar_zv hP hD hle hp
  exact ⟨f, hd1, se1, dc1, dn1, pg1, fl1, fn1, ch1, hf, hq1, ⟨P1, D1, ar_LG_se hG s1, ⟨Nat.le_trans hK.1 s1, hK.2⟩, hT, h1, hM, hV, hC⟩, k1⟩
end
end
section
section
variable {se ce le fc hd sl : Nat} {dc bf af fl hl : Nat → Int32} {dn cl cf so bw wh lk mv pg fn ch rn wr la mk : Nat → Nat}
variable {cv ld : Nat → Int32} {li mm lc : Nat → Nat}
variable {B C : Nat → Int32} {cm : Nat → Nat}
theorem ar_INV_be {t : Nat} (h : ar_INV se ce le fc hd B C cv dc bf af fl hl ld cm dn cl cf so bw wh lk mv pg fn ch rn wr la mk li mm lc) (ht : t < 3) (hr : rn t = 0) : ar_INV se ce le fc hd B C cv dc bf af fl (upd hl t 0) ld cm dn cl cf so bw wh lk mv pg fn ch (ar_u rn t 1) (ar_u wr t 0) (ar_u la t 0) (ar_u mk t 0) (ar_u li t 0) (ar_u mm t 0) lc := by
  obtain ⟨hP, hD, hG, hK, hT, h1, hM, hV, hC⟩ := h
  refine ⟨hP, hD, hG, hK, ar_be_TL hT ht (by omega), fun u hu r => ?_, fun u hu => ?_, hV, hC⟩
  · by_cases e : u = t
    · subst e
      rw [ar_us, ar_us, ar_us, ar_us, ar_us]
      have z := ar_ct_lo (so := so) (bw := bw) le u (hT.2.2.2 u hu (by omega))
      refine ⟨by rw [ar_c_0]; rfl, by rw [ar_c_0]; rfl, Nat.le_refl _, by omega, Nat.zero_le _, by rw [z]⟩
    · rw [ar_un e] at r
      rw [ar_un e, ar_un e, ar_un e, ar_un e, ar_un e]
      exact h1 u hu r
  · by_cases e : u = t
    · subst e
      rw [ar_us, ar_us, ar_us, ar_us]; omega
    · rw [ar_un e, ar_un e, ar_un e, ar_un e]; exact hM u hu
theorem ar_INV_mk {t : Nat} (h : ar_INV se ce le fc hd B C cv dc bf af fl hl ld cm dn cl cf so bw wh lk mv pg fn ch rn wr la mk li mm lc) (ht : t < 3) (hr : rn t = 1) : ar_INV se ce le fc hd B C cv dc bf af fl hl ld cm dn cl cf so bw wh lk mv pg fn ch rn wr la (ar_u mk t (la t)) li (ar_u mm t (li t)) lc := by
  obtain ⟨hP, hD, hG, hK, hT, h1, hM, hV, hC⟩ := h
  have hlt : la t ≤ le := by rw [hT.2.2.1 t ht hr]; exact ar_lo_le le t
  refine ⟨hP, hD, hG, hK, hT, fun u hu r => ?_, fun u hu => ?_, hV, hC⟩
  · by_cases e : u = t
    · subst e
      rw [ar_us, ar_us]
      obtain ⟨a1, a2, a3, a4, a5, a6⟩ := h1 u hu r
      exact ⟨a1, by rw [ar_c_le (Nat.le_refl _)]; exact Nat.zero_add _, a3, a4, hlt, a6⟩
    · rw [ar_un e, ar_un e]
      exact h1 u hu r
  · obtain ⟨m1, m2, m3, m4⟩ := hM u hu
    by_cases e : u = t
    · subst e
      rw [ar_us]; exact ⟨m1, m2, m2, m4⟩
    · rw [ar_un e]; exact ⟨m1, m2, m3, m4⟩
end
theorem ar_N0' : (fun _ => 0 : Nat → Int32) = ar_N (fun _ => 0) := ar_N0
theorem ar_P0 : (fun _ => 0 : Nat → Int32) = ar_P (fun _ => 1) := funext fun _ => by show (0 : Int32) = nI 1 + (-1); decide
theorem ar_ini {fc : Nat} (h1 : 1 ≤ fc) (h3 : fc ≤ 3) (k0 : Int32) : ∀ (zN zP : Nat → Int32), zN = ar_N (fun _ => 0) → zP = ar_P (fun _ => 1) →
    wX_init_185 (fun u => wpY_init (fun v => i_Rel 1 u v) k0) (nI 0) (nI 0) (nI 0) (nI fc) (nI 0) (nI 0) 4 (nI 0) zN zN zN zN zN zN zN zN zN zN zN zP zN zN zN zN zN zN zN zN := by
  intro zN zP e1 e2
  subst e1 e2
  have h0 : ar_CL fc 0 (ar_N fun _ => 0) (ar_N fun _ => 0) (ar_N fun _ => 0) (ar_N fun _ => 0) (fun _ => 0) (ar_z (fun _ => 1) 3) (fun _ => 0) (fun _ => 0) (fun _ => 0) (fun _ => 0) (fun _ => 0) := by
    refine ⟨⟨⟨h1, h3, by omega⟩, fun f hf => ?_, fun f g hf hg h0 _ => ?_, fun f p hf hp => ⟨rfl, fun _ => rfl⟩, fun f c hf hc hp => ⟨rfl, fun _ => rfl⟩, fun p _ _ => rfl, fun c _ _ => rfl⟩, fun c _ => ⟨rfl, rfl⟩, fun p _ => ⟨rfl, rfl⟩, fun f _ => ⟨rfl, rfl, rfl⟩⟩
    · rw [ar_zi hf]; exact ⟨by omega, fun _ => rfl⟩
    · rw [ar_zi hf] at h0; exact absurd rfl h0
  have I0 := ar_INV_cl (cv := ar_N fun _ => 0) (rn := fun _ => 0) (mk := fun _ => 0) (wr := fun _ => 0) (mv := fun _ => 0) (lc := fun _ => 0) (so := fun _ => 0) (bw := fun _ => 0) (wh := fun _ => 0) (lk := fun _ => 0) (bf := ar_N fun _ => 0) (af := ar_N fun _ => 0) (hl := ar_N fun _ => 0) (ld := ar_N fun _ => 0) (li := fun _ => 0) (mm := fun _ => 0) h0 (fun c _ => rfl) (fun t _ => ⟨rfl, Nat.zero_le _, Nat.zero_le _⟩) (fun j => Nat.zero_le _) (fun j => by omega)
  have R0 := ar_ri (k := 1) (sl := 0) I0 (by omega)
  have key := ar_i185 (post := fun u => wpY_init (fun v => i_Rel 1 u v) k0) (se := 0) (ce := 0) (le := 0) (fc := fc) (hd := 0) (sl := 0) (dc := ar_N fun _ => 0) (dn := fun _ => 0) (cl := fun _ => 0) (cf := fun _ => 0) (so := fun _ => 0) (bw := fun _ => 0) (wh := fun _ => 0) (bf := ar_N fun _ => 0) (af := ar_N fun _ => 0) (lk := fun _ => 0) (mv := fun _ => 0) (pg := fun _ => 1) (fl := ar_N fun _ => 0) (fn := fun _ => 0) (ch := fun _ => 0) (rn := fun _ => 0) (hl := ar_N fun _ => 0) (wr := fun _ => 0) (la := fun _ => 0) (mk := fun _ => 0) (by
      show wpY_init _ k0
      unfold wpY_init
      rw [ar_N0]
      exact R0) 3 0 rfl
  rw [ar_z0] at key
  exact key
theorem i_vc0 (k0 : Int32) : wpX_init (fun u => wpY_init (fun v => i_Rel 1 u v) k0) k0 := by
  have H : ∀ fc : Nat, 1 ≤ fc → fc ≤ 3 → ∀ z : Int32, z = nI fc → ∃ n, wX_init_185 (fun u => wpY_init (fun v => i_Rel 1 u v) k0) 0 0 0 z 0 0 n 0 (fun _ => 0) (fun _ => 0) (fun _ => 0) (fun _ => 0) (fun _ => 0) (fun _ => 0) (fun _ => 0) (fun _ => 0) (fun _ => 0) (fun _ => 0) (fun _ => 0) (fun _ => 0) (fun _ => 0) (fun _ => 0) (fun _ => 0) (fun _ => 0) (fun _ => 0) (fun _ => 0) (fun _ => 0) (fun _ => 0) := by
    intro fc h1 h3 z e
    subst e
    exact ⟨4, ar_ini h1 h3 k0 _ _ ar_N0 ar_P0⟩
  by_cases a : 1 ≤ k0
  · by_cases b : k0 ≤ 3
    · have a' := Int32.le_iff_toInt_le.mp a
      have b' := Int32.le_iff_toInt_le.mp b
      rw [show (1 : Int32).toInt = 1 by decide] at a'
      rw [show (3 : Int32).toInt = 3 by decide] at b'
      have n0 : ¬ k0 < 0 := by
        rw [Int32.lt_iff_toInt_lt, show (0 : Int32).toInt = 0 by decide]; omega
      obtain ⟨j, hj, rfl⟩ := nI_of n0
      rw [nI_toInt hj] at a' b'
      exact br_t a (br_t b (H j (by omega) (by omega) _ rfl))
    · exact br_t a (br_f b (H 3 (by omega) (by omega) _ rfl))
  · exact br_f a (H 1 (by omega) (by omega) _ rfl)
theorem i_vc_begin {k : Nat} {u : SX} {v : SY} (I : i_Rel k u v) (hk : k + 4 ≤ 2049) (v1 : Int32) : wpX_begin (fun r u' => wpY_begin (fun r' v' => r' = r ∧ i_Rel (k + 4) u' v') v v1) u v1 := by
  refine ar_el (P := fun u v => wpX_begin (fun r u' => wpY_begin (fun r' v' => r' = r ∧ i_Rel (k + 4) u' v') v v1) u v1) ?_ I
  intro se ce le fc hd sl dc dn cl cf so bw wh bf af lk mv pg fl fn ch rn hl wr la mk cv li mm lc ld B C cm h hle
  show wpX_begin _ _ _
  unfold wpX_begin
  rcases ar_tx v1 with hb | ⟨t, ht, rfl⟩
  · refine ar_xb hb (br_t rfl ?_)
    unfold wpY_begin
    exact ar_yb hb (br_t rfl ⟨rfl, ar_ri h hle⟩)
  · have w : vp_in (nI t) 3 := vp_in_nI ht (by omega)
    have e : (nI t).toNatClampNeg = t := ar_cl (by omega)
    have er : ar_N rn (nI t).toNatClampNeg = nI (rn t) := ar_Nv (by omega)
    by_cases r : rn t = 0
    · have r0 : ar_N rn (nI t).toNatClampNeg = 0 := by rw [er, r]; rfl
      refine ar_xg ht (br_f ar_10 ⟨w, br_t r0 ⟨w, nm_r (ar_Nu e ar_vz1) ⟨w, nm_r (e' := upd hl t 0) (by rw [e]) ⟨w, nm_r (ar_Nu e ar_vb0) ⟨w, nm_r (ar_Nu e ar_vs0) ⟨w, nm_r (ar_Nu e ar_vs0) ?_⟩⟩⟩⟩⟩⟩)
      unfold wpY_begin
      exact ar_yg ht (br_f ar_10 ⟨w, br_t r0 ⟨w, nm_r (ar_Nu e ar_vz1) ⟨w, nm_r (e' := upd hl t 0) (by rw [e]) ⟨w, nm_r (e' := ar_N (ar_u wr t 0)) (ar_Nu e rfl) ⟨w, nm_r (e' := ar_N (ar_u li t 0)) (ar_Nu e rfl) ⟨w, nm_r (e' := ar_N (ar_u mm t 0)) (ar_Nu e rfl) ⟨rfl, ar_ri (ar_INV_be h ht r) hle⟩⟩⟩⟩⟩⟩⟩)
    · have r1 : rn t = 1 := by have := (h.2.2.2.2.2.2.1 t ht).1; omega
      have r0 : ¬ ar_N rn (nI t).toNatClampNeg = 0 := by rw [er, r1]; decide
      refine ar_xg ht (br_f ar_10 ⟨w, br_f r0 ?_⟩)
      unfold wpY_begin
      exact ar_yg ht (br_f ar_10 ⟨w, br_f r0 ⟨rfl, ar_ri h hle⟩⟩)
theorem i_vc_holds {k : Nat} {u : SX} {v : SY} (I : i_Rel k u v) (hk : k + 4 ≤ 2049) (v1 : Int32) : wpX_holds (fun r => wpY_holds (fun r' => r' = r ∧ i_Rel (k + 4) u v) v v1) u v1 := by
  refine ar_el (P := fun u v => wpX_holds (fun r => wpY_holds (fun r' => r' = r ∧ i_Rel (k + 4) u v) v v1) u v1) ?_ I
  intro se ce le fc hd sl dc dn cl cf so bw wh bf af lk mv pg fl fn ch rn hl wr la mk cv li mm lc ld B C cm h hle
  show wpX_holds _ _ _
  unfold wpX_holds
  rcases ar_tx v1 with hb | ⟨t, ht, rfl⟩
  · refine ar_xb hb (br_t rfl ?_)
    unfold wpY_holds
    exact ar_yb hb (br_t rfl ⟨rfl, ar_ri h hle⟩)
  · have w : vp_in (nI t) 3 := vp_in_nI ht (by omega)
    by_cases r0 : ar_N rn (nI t).toNatClampNeg = 0
    · refine ar_xg ht (br_f ar_10 ⟨w, br_t r0 ?_⟩)
      unfold wpY_holds
      exact ar_yg ht (br_f ar_10 ⟨w, br_t r0 ⟨rfl, ar_ri h hle⟩⟩)
    · refine ar_xg ht (br_f ar_10 ⟨w, br_f r0 ⟨w, ?_⟩⟩)
      unfold wpY_holds
      exact ar_yg ht (br_f ar_10 ⟨w, br_f r0 ⟨w, rfl, ar_ri h hle⟩⟩)
/-- refusals of the reference -/
theorem ar_yrb {post : Int32 → Prop} {u : SY} {x : Int32} (h : x < 0 ∨ nI 3 ≤ x) (hp : post (-1)) : wpY_refusal post u x := by
  obtain ⟨a1, a2, a3, a4, a5, a6, a7, a8⟩ := u
  unfold wpY_refusal
  exact ar_yb h (br_t rfl hp)
section
variable {se ce le fc hd sl : Nat} {dc bf af fl hl : Nat → Int32} {dn cl cf so bw wh lk mv pg fn ch rn wr la mk : Nat → Nat}
variable {cv ld : Nat → Int32} {li mm lc : Nat → Nat}
theorem ar_yr2 {post : Int32 → Prop} {t : Nat} (ht : t < 3) (hr : rn t = 0) (hp : post (-2)) : wpY_refusal post (cv, (ar_N rn), hl, (ar_N wr), (ar_N li), (ar_N mm), (ar_N lc), ld) (nI t) := by
  unfold wpY_refusal
  exact ar_yg ht (br_f ar_10 ⟨vp_in_nI ht (by omega), br_t (by rw [ar_Nv (by omega), hr]; rfl) hp⟩)
theorem ar_yr0 {post : Int32 → Prop} {t : Nat} (ht : t < 3) (hr : rn t = 1) (hp : post 0) : wpY_refusal post (cv, (ar_N rn), hl, (ar_N wr), (ar_N li), (ar_N mm), (ar_N lc), ld) (nI t) := by
  unfold wpY_refusal
  exact ar_yg ht (br_f ar_10 ⟨vp_in_nI ht (by omega), br_f (by rw [ar_Nv (by omega), hr]; decide) hp⟩)
end
theorem i_vc_mark {k : Nat} {u : SX} {v : SY} (I : i_Rel k u v) (hk : k + 4 ≤ 2049) (v1 : Int32) : wpX_mark (fun r u' => wpY_mark (fun r' v' => r' = r ∧ i_Rel (k + 4) u' v') v v1) u v1 := by
  refine ar_el (P := fun u v => wpX_mark (fun r u' => wpY_mark (fun r' v' => r' = r ∧ i_Rel (k + 4) u' v') v v1) u v1) ?_ I
  intro se ce le fc hd sl dc dn cl cf so bw wh bf af lk mv pg fl fn ch rn hl wr la mk cv li mm lc ld B C cm h hle
  show wpX_mark _ _ _
  unfold wpX_mark
  rcases ar_tx v1 with hb | ⟨t, ht, rfl⟩
  · refine ar_xb hb (br_t rfl ?_)
    unfold wpY_mark
    exact ar_yrb hb (br_f (by decide) ⟨rfl, ar_ri h hle⟩)
  · have w : vp_in (nI t) 3 := vp_in_nI ht (by omega)
    have e : (nI t).toNatClampNeg = t := ar_cl (by omega)
    have er : ar_N rn (nI t).toNatClampNeg = nI (rn t) := ar_Nv (by omega)
    by_cases r : rn t = 0
    · refine ar_xg ht (br_f ar_10 ⟨w, br_t (by rw [er, r]; rfl) ?_⟩)
      unfold wpY_mark
      exact ar_yr2 ht r (br_f (by decide) ⟨rfl, ar_ri h hle⟩)
    · have m := h.2.2.2.2.2.2.1 t ht
      have r1 : rn t = 1 := by omega
      refine ar_xg ht (br_f ar_10 ⟨w, br_f (by rw [er, r1]; decide) ⟨w, w, nm_r (e' := ar_N (ar_u mk t (la t))) (ar_Nu e (by rw [ar_Nv (by omega), ar_vs (by omega)])) ?_⟩⟩)
      unfold wpY_mark
      exact ar_yr0 ht r1 (br_t (by decide) ⟨w, w, nm_r (e' := ar_N (ar_u mm t (li t))) (ar_Nu e (ar_Nv (by omega))) ⟨rfl, ar_ri (ar_INV_mk h ht r1) hle⟩⟩)
end
section
def ar_CF (rn : Nat → Nat) (hl : Nat → Int32) (t c u : Nat) : Prop := ∃ w, u ≤ w ∧ w < 3 ∧ w ≠ t ∧ rn w = 1 ∧ ar_hb (hl w) c
theorem ar_CF_s {rn : Nat → Nat} {hl : Nat → Int32} {t c u : Nat} (h : ¬ (u ≠ t ∧ rn u = 1 ∧ ar_hb (hl u) c)) : ar_CF rn hl t c (u + 1) ↔ ar_CF rn hl t c u := by
  constructor
  · rintro ⟨w, a, b⟩
    exact ⟨w, by omega, b⟩
  · rintro ⟨w, a, b, d, e⟩
    by_cases z : w = u
    · rw [z] at d e; exact absurd ⟨d, e⟩ h
    · exact ⟨w, by omega, b, d, e⟩
theorem ar_cx (x : Int32) : (x < 0 ∨ nI 16 ≤ x) ∨ ∃ c, c < 16 ∧ x = nI c := by
  rcases pk_ix x (n := 16) (by omega) with h | h | h
  · exact Or.inl (Or.inl h)
  · exact Or.inl (Or.inr h)
  · exact Or.inr h
theorem ar_n15 {x : Int32} (h : nI 16 ≤ x) : ¬ x ≤ 15 := by
  rw [Int32.le_iff_toInt_le, nI_toInt (by omega)] at h
  rw [Int32.le_iff_toInt_le, show (15 : Int32).toInt = 15 by decide]
  omega
theorem ar_nn16 {x : Int32} (h : nI 16 ≤ x) : ¬ x < 0 := by
  rw [Int32.le_iff_toInt_le, nI_toInt (by omega)] at h
  rw [Int32.lt_iff_toInt_lt, show (0 : Int32).toInt = 0 by decide]
  omega
section
variable {se ce le fc hd sl : Nat} {dc bf af fl hl : Nat → Int32} {dn cl cf so bw wh lk mv pg fn ch rn wr la mk : Nat → Nat}
variable {cv ld : Nat → Int32} {li mm lc : Nat → Nat}
variable {B C : Nat → Int32} {cm : Nat → Nat} {t c : Nat} {v : Int32}
theorem ar_ck34 {post : Int32 → Prop} (ht : t < 3) (hc : c < 16) (hrn : ∀ u, u < 3 → rn u ≤ 1) (hw : wr t ≤ 20) : ∀ d u, u + d = 3 → (ar_CF rn hl t c u → post (-3)) → (¬ ar_CF rn hl t c u → (wr t < 20 → post 0) ∧ (¬ wr t < 20 → post (-4))) →
    wX_check_34 post (nI t) (nI c) (nI se) (nI ce) (nI le) (nI fc) (nI hd) (nI sl) dc (ar_N dn) (ar_N cl) (ar_N cf) (ar_N so) (ar_N bw) (ar_N wh) bf af (ar_N lk) (ar_N mv) (ar_P pg) fl (ar_N fn) (ar_N ch) (ar_N rn) hl (ar_N wr) (ar_N la) (ar_N mk) (d + 1) (nI u) := by
  intro d
  induction d with
  | zero =>
    intro u hu h3 hE
    have e : u = 3 := by omega
    subst e
    obtain ⟨e1, e2⟩ := hE (fun ⟨w, a, b, _⟩ => by omega)
    rw [wX_check_34]
    refine br_t (show (3 : Int32) ≤ nI 3 by decide) ⟨vp_in_nI ht (by omega), ?_⟩
    by_cases z : wr t < 20
    · exact br_t (by rw [ar_Nv (by omega)]; exact nI_lt (b := 20) z (by omega)) (e1 z)
    · exact br_f (by rw [ar_Nv (by omega)]; exact nI_nlt (b := 20) (by omega) (by omega)) (e2 z)
  | succ d ih =>
    intro u hu h3 hE
    have nx : ¬ (u ≠ t ∧ rn u = 1 ∧ ar_hb (hl u) c) → wX_check_34 post (nI t) (nI c) (nI se) (nI ce) (nI le) (nI fc) (nI hd) (nI sl) dc (ar_N dn) (ar_N cl) (ar_N cf) (ar_N so) (ar_N bw) (ar_N wh) bf af (ar_N lk) (ar_N mv) (ar_P pg) fl (ar_N fn) (ar_N ch) (ar_N rn) hl (ar_N wr) (ar_N la) (ar_N mk) (d + 1) (nI (u + 1)) := fun hn =>
      ih (u + 1) (by omega) (fun z => h3 ((ar_CF_s hn).mp z)) (fun z => hE (fun y => z ((ar_CF_s hn).mpr y)))
    have w : vp_in (nI u) 3 := vp_in_nI (by omega) (by omega)
    have er : ar_N rn (nI u).toNatClampNeg = nI (rn u) := ar_Nv (by omega)
    rw [wX_check_34]
    refine br_f (nI_ge (b := 3) (by omega) (by omega)) ?_
    by_cases e : u = t
    · exact br_t (by rw [e]) (nm_r (nI_1 u) (nx (fun y => y.1 e)))
    · refine br_f (fun y => e ((nI_eq (by omega) (by omega)).mp y)) ⟨w, ?_⟩
      by_cases r : rn u = 1
      · refine br_f (by rw [er, r]; decide) ⟨w, ?_⟩
        rw [ar_cl (show u < 2000000000 by omega)]
        by_cases b : ar_hb (hl u) c
        · exact br_f (fun y => (ar_hb_iff (by omega)).mp y b) (h3 ⟨u, Nat.le_refl _, by omega, e, r, b⟩)
        · exact br_t ((ar_hb_iff (by omega)).mpr b) (nm_r (nI_1 u) (nx (fun y => b y.2.2)))
      · have r0 : rn u = 0 := by have := hrn u (by omega); omega
        exact br_t (by rw [er, r0]; rfl) (nm_r (nI_1 u) (nx (fun y => r y.2.1)))
theorem ar_yw35 {post : Int32 → SY → Prop} (ht : t < 3) (hc : c < 16) (hrn : ∀ u, u < 3 → rn u ≤ 1) (hw : wr t ≤ 20) (hli : li t ≤ wr t) : ∀ d u, u + d = 3 → (ar_CF rn hl t c u → post (-3) (cv, (ar_N rn), hl, (ar_N wr), (ar_N li), (ar_N mm), (ar_N lc), ld)) →
    (¬ ar_CF rn hl t c u → (wr t = 20 → post (-4) (cv, (ar_N rn), hl, (ar_N wr), (ar_N li), (ar_N mm), (ar_N lc), ld)) ∧ (wr t < 20 → post (ar_bs (hl t ||| ((1 : Int32) <<< (nI c &&& 31))) 16 0 0) ((upd cv c v), (ar_N rn), (upd hl t (hl t ||| ((1 : Int32) <<< (nI c &&& 31)))), (ar_N (ar_u wr t (wr t + 1))), (ar_N (ar_u li t (li t + 1))), (ar_N mm), (ar_N (ar_u lc (20 * t + li t) c)), (upd ld (20 * t + li t) (cv c))))) →
    wY_write_35 post (nI t) (nI c) v cv (ar_N rn) hl (ar_N wr) (ar_N li) (ar_N mm) (ar_N lc) ld (d + 1) (nI u) := by
  intro d
  induction d with
  | zero =>
    intro u hu h3 hE
    have e : u = 3 := by omega
    subst e
    obtain ⟨e1, e2⟩ := hE (fun ⟨w, a, b, _⟩ => by omega)
    have w : vp_in (nI t) 3 := vp_in_nI ht (by omega)
    have et : (nI t).toNatClampNeg = t := ar_cl (by omega)
    rw [wY_write_35]
    refine br_t (show (3 : Int32) ≤ nI 3 by decide) ⟨w, ?_⟩
    by_cases z : wr t = 20
    · exact br_t (by rw [ar_Nv (by omega), z]; rfl) (e1 z)
    · have ix : nI t * (20 : Int32) + ar_N li (nI t).toNatClampNeg = nI (20 * t + li t) := by rw [ar_Nv (by omega), ar_m20]
      have vx : vp_in (nI t * (20 : Int32) + ar_N li (nI t).toNatClampNeg) 60 := by rw [ix]; exact vp_in_nI (by omega) (by omega)
      have wc : vp_in (nI c) 16 := vp_in_nI hc (by omega)
      have ex : (nI t * (20 : Int32) + ar_N li (nI t).toNatClampNeg).toNatClampNeg = 20 * t + li t := by rw [ix]; exact ar_cl (by omega)
      refine br_f (fun y => z ((nI_eq (b := 20) (by omega) (by omega)).mp ((ar_Nv (by omega)).symm.trans y))) ⟨w, vx, nm_r (ar_Nu ex rfl) ⟨w, wc, vx, nm_r (e' := upd ld (20 * t + li t) (cv c)) (by rw [ex, ar_cl (by omega)]) ⟨w, w, nm_r (ar_Nu et (by rw [ar_Nv (by omega), nI_1])) ⟨w, w, nm_r (ar_Nu et (by rw [ar_Nv (by omega), nI_1])) ⟨w, w, nm_r (e' := (upd hl t (hl t ||| ((1 : Int32) <<< (nI c &&& 31))))) (by rw [et]) ⟨wc, nm_r (e' := upd cv c v) (by rw [ar_cl (by omega)]) ⟨w, ?_⟩⟩⟩⟩⟩⟩⟩
      rw [et, pk_us]
      exact ar_yB (e2 (by omega))
  | succ d ih =>
    intro u hu h3 hE
    have nx : ¬ (u ≠ t ∧ rn u = 1 ∧ ar_hb (hl u) c) → wY_write_35 post (nI t) (nI c) v cv (ar_N rn) hl (ar_N wr) (ar_N li) (ar_N mm) (ar_N lc) ld (d + 1) (nI (u + 1)) := fun hn =>
      ih (u + 1) (by omega) (fun z => h3 ((ar_CF_s hn).mp z)) (fun z => hE (fun y => z ((ar_CF_s hn).mpr y)))
    have w : vp_in (nI u) 3 := vp_in_nI (by omega) (by omega)
    have er : ar_N rn (nI u).toNatClampNeg = nI (rn u) := ar_Nv (by omega)
    rw [wY_write_35]
    refine br_f (nI_ge (b := 3) (by omega) (by omega)) ?_
    by_cases e : u = t
    · exact br_t (by rw [e]) (nm_r (nI_1 u) (nx (fun y => y.1 e)))
    · refine br_f (fun y => e ((nI_eq (by omega) (by omega)).mp y)) ?_
      unfold wpY_holds
      refine ar_yg (by omega) (br_f ar_10 ⟨w, ?_⟩)
      by_cases r : rn u = 1
      · refine br_f (by rw [er, r]; decide) ⟨w, ?_⟩
        rw [ar_cl (show u < 2000000000 by omega)]
        by_cases b : ar_hb (hl u) c
        · exact br_f (fun y => (ar_hb_iff (by omega)).mp y b) (h3 ⟨u, Nat.le_refl _, by omega, e, r, b⟩)
        · exact br_t ((ar_hb_iff (by omega)).mpr b) (nm_r (nI_1 u) (nx (fun y => b y.2.2)))
      · have r0 : rn u = 0 := by have := hrn u (by omega); omega
        exact br_t (by rw [er, r0]; rfl) (br_t ((ar_hb_iff (by omega)).mpr ar_hb_0) (nm_r (nI_1 u) (nx (fun y => r y.2.1))))
/-- check against the head of write -/
theorem ar_chk (h : ar_INV se ce le fc hd B C cv dc bf af fl hl ld cm dn cl cf so bw wh lk mv pg fn ch rn wr la mk li mm lc) (v1 v2 : Int32) :
    (∃ r : Int32, r ≠ 0 ∧ (∀ post : Int32 → Prop, post r → wpX_check post ((nI se), (nI ce), (nI le), (nI fc), (nI hd), (nI sl), dc, (ar_N dn), (ar_N cl), (ar_N cf), (ar_N so), (ar_N bw), (ar_N wh), bf, af, (ar_N lk), (ar_N mv), (ar_P pg), fl, (ar_N fn), (ar_N ch), (ar_N rn), hl, (ar_N wr), (ar_N la), (ar_N mk)) v1 v2) ∧ ∀ (post : Int32 → SY → Prop) (v : Int32), post r (cv, (ar_N rn), hl, (ar_N wr), (ar_N li), (ar_N mm), (ar_N lc), ld) → wpY_write post (cv, (ar_N rn), hl, (ar_N wr), (ar_N li), (ar_N mm), (ar_N lc), ld) v1 v2 v) ∨
    ∃ t c, t < 3 ∧ c < 16 ∧ v1 = nI t ∧ v2 = nI c ∧ rn t = 1 ∧ wr t < 20 ∧ ¬ ar_CF rn hl t c 0 ∧ (∀ post : Int32 → Prop, post 0 → wpX_check post ((nI se), (nI ce), (nI le), (nI fc), (nI hd), (nI sl), dc, (ar_N dn), (ar_N cl), (ar_N cf), (ar_N so), (ar_N bw), (ar_N wh), bf, af, (ar_N lk), (ar_N mv), (ar_P pg), fl, (ar_N fn), (ar_N ch), (ar_N rn), hl, (ar_N wr), (ar_N la), (ar_N mk)) v1 v2) ∧
      ∀ (post : Int32 → SY → Prop) (v : Int32), post (ar_bs (hl t ||| ((1 : Int32) <<< (nI c &&& 31))) 16 0 0) ((upd cv c v), (ar_N rn), (upd hl t (hl t ||| ((1 : Int32) <<< (nI c &&& 31)))), (ar_N (ar_u wr t (wr t + 1))), (ar_N (ar_u li t (li t + 1))), (ar_N mm), (ar_N (ar_u lc (20 * t + li t) c)), (upd ld (20 * t + li t) (cv c))) → wpY_write post (cv, (ar_N rn), hl, (ar_N wr), (ar_N li), (ar_N mm), (ar_N lc), ld) v1 v2 v := by
  obtain ⟨hP, hD, hG, hK, hT, h1, hM, hV, hC⟩ := h
  rcases ar_tx v1 with hb | ⟨t, ht, rfl⟩
  · exact Or.inl ⟨-1, by decide, fun post hp => by unfold wpX_check; exact ar_xb hb (br_t rfl hp), fun post v hp => by unfold wpY_write; exact ar_yb hb (br_t rfl hp)⟩
  · rcases ar_cx v2 with hb | ⟨c, hc, rfl⟩
    · refine Or.inl ⟨-1, by decide, fun post hp => ?_, fun post v hp => ?_⟩
      · unfold wpX_check
        refine ar_xg ht (br_f ar_10 ?_)
        rcases hb with hb | hb
        · exact br_t hb hp
        · exact br_f (ar_nn16 hb) (br_f (ar_n15 hb) hp)
      · unfold wpY_write
        refine ar_yg ht (br_f ar_10 ?_)
        rcases hb with hb | hb
        · exact br_t hb hp
        · exact br_f (ar_nn16 hb) (br_f (ar_n15 hb) hp)
    · have w : vp_in (nI t) 3 := vp_in_nI ht (by omega)
      have er : ar_N rn (nI t).toNatClampNeg = nI (rn t) := ar_Nv (by omega)
      have c0 : ¬ nI c < 0 := nI_pos (by omega)
      have c15 : nI c ≤ 15 := nI_le (b := 15) (by omega) (by omega)
      obtain ⟨m1, m2, m3, m4⟩ := hM t ht
      by_cases r : rn t = 1
      · have r0 : ¬ ar_N rn (nI t).toNatClampNeg = 0 := by rw [er, r]; decide
        have hrn : ∀ u, u < 3 → rn u ≤ 1 := fun u hu => (hM u hu).1
        obtain ⟨a1, a2, a3, a4, a5, a6⟩ := h1 t ht r
        have X0 : ∀ post : Int32 → Prop, wX_check_34 post (nI t) (nI c) (nI se) (nI ce) (nI le) (nI fc) (nI hd) (nI sl) dc (ar_N dn) (ar_N cl) (ar_N cf) (ar_N so) (ar_N bw) (ar_N wh) bf af (ar_N lk) (ar_N mv) (ar_P pg) fl (ar_N fn) (ar_N ch) (ar_N rn) hl (ar_N wr) (ar_N la) (ar_N mk) 4 (nI 0) → wpX_check post ((nI se), (nI ce), (nI le), (nI fc), (nI hd), (nI sl), dc, (ar_N dn), (ar_N cl), (ar_N cf), (ar_N so), (ar_N bw), (ar_N wh), bf, af, (ar_N lk), (ar_N mv), (ar_P pg), fl, (ar_N fn), (ar_N ch), (ar_N rn), hl, (ar_N wr), (ar_N la), (ar_N mk)) (nI t) (nI c) := fun post hp => by unfold wpX_check; exact ar_xg ht (br_f ar_10 (br_f c0 (br_t c15 ⟨w, br_f r0 ⟨4, hp⟩⟩)))
        have Y0 : ∀ (post : Int32 → SY → Prop) (v : Int32), wY_write_35 post (nI t) (nI c) v cv (ar_N rn) hl (ar_N wr) (ar_N li) (ar_N mm) (ar_N lc) ld 4 (nI 0) → wpY_write post (cv, (ar_N rn), hl, (ar_N wr), (ar_N li), (ar_N mm), (ar_N lc), ld) (nI t) (nI c) v := fun post v hp => by unfold wpY_write; exact ar_yg ht (br_f ar_10 (br_f c0 (br_t c15 ⟨w, br_f r0 ⟨4, hp⟩⟩)))
        by_cases f : ar_CF rn hl t c 0
        · exact Or.inl ⟨-3, by decide, fun post hp => X0 _ (ar_ck34 ht hc hrn m4 3 0 rfl (fun _ => hp) (fun z => absurd f z)), fun post v hp => Y0 _ _ (ar_yw35 ht hc hrn m4 a3 3 0 rfl (fun _ => hp) (fun z => absurd f z))⟩
        · by_cases z : wr t < 20
          · exact Or.inr ⟨t, c, ht, hc, rfl, rfl, r, z, f, fun post hp => X0 _ (ar_ck34 ht hc hrn m4 3 0 rfl (fun y => absurd y f) (fun _ => ⟨fun _ => hp, fun y => absurd z y⟩)), fun post v hp => Y0 _ _ (ar_yw35 ht hc hrn m4 a3 3 0 rfl (fun y => absurd y f) (fun _ => ⟨fun y => by omega, fun _ => hp⟩))⟩
          · exact Or.inl ⟨-4, by decide, fun post hp => X0 _ (ar_ck34 ht hc hrn m4 3 0 rfl (fun y => absurd y f) (fun _ => ⟨fun y => absurd y z, fun _ => hp⟩)), fun post v hp => Y0 _ _ (ar_yw35 ht hc hrn m4 a3 3 0 rfl (fun y => absurd y f) (fun _ => ⟨fun _ => hp, fun y => absurd y z⟩))⟩
      · have r0 : ar_N rn (nI t).toNatClampNeg = 0 := by rw [er, show rn t = 0 by omega]; rfl
        exact Or.inl ⟨-2, by decide, fun post hp => by unfold wpX_check; exact ar_xg ht (br_f ar_10 (br_f c0 (br_t c15 ⟨w, br_t r0 hp⟩))), fun post v hp => by unfold wpY_write; exact ar_yg ht (br_f ar_10 (br_f c0 (br_t c15 ⟨w, br_t r0 hp⟩)))⟩
end
end
section
section
variable {se ce le fc hd sl : Nat} {dc bf af fl hl : Nat → Int32} {dn cl cf so bw wh lk mv pg fn ch rn wr la mk : Nat → Nat}
variable {cv ld : Nat → Int32} {li mm lc : Nat → Nat}
variable {B C : Nat → Int32} {cm : Nat → Nat} {t c : Nat} {v : Int32}
theorem ar_T1_cg {lc' : Nat → Nat} {ld' : Nat → Int32} {u lat mkt mmt lit wrt : Nat} (h : ar_T1 so bw wh lk bf lc ld le u lat mkt mmt lit wrt) (e : ∀ j, j < lit → lc' (20 * u + j) = lc (20 * u + j) ∧ ld' (20 * u + j) = ld (20 * u + j)) :
    ar_T1 so bw wh lk bf lc' ld' le u lat mkt mmt lit wrt := ⟨by rw [ar_yl_cg lit e]; exact h.1, h.2⟩
/-- a write keeps the invariant -/
theorem ar_INV_w {f : Nat} (h : ar_INV se ce le fc hd B C cv dc bf af fl hl ld cm dn cl cf so bw wh lk mv pg fn ch rn wr la mk li mm lc) (hle : le ≤ 180) (ht : t < 3) (hc : c < 16) (hr : rn t = 1) (hw : wr t < 20) (hn : ¬ ar_CF rn hl t c 0) (hf : f < 3) (hp : pg f = c / 4 + 1) :
    ar_INV se ce (le + 1) fc hd B C (upd cv c v) dc (upd bf (le + 1) (cv c)) (upd af (le + 1) v) (upd fl (4 * f + c % 4) v) (upd hl t (hl t ||| ((1 : Int32) <<< (nI c &&& 31)))) (upd ld (20 * t + li t) (cv c)) (ar_u cm (c / 4) (le + 1)) dn cl cf (ar_u so (le + 1) 0) (ar_u bw (le + 1) t) (ar_u wh (le + 1) c) (ar_u lk (le + 1) (la t)) mv pg (ar_u fn f (le + 1)) (if ch f = 0 then ar_u ch f (le + 1) else ch) rn (ar_u wr t (wr t + 1)) (ar_u la t (le + 1)) mk (ar_u li t (li t + 1)) mm (ar_u lc (20 * t + li t) c) := by
  have hlen := fun u hu => ar_INV_len h (u := u) hu
  obtain ⟨hP, hD, hG, hK, hT, h1, hM, hV, hC⟩ := h
  have hW := hG.1
  have hla := hT.2.2.1 t ht hr
  have hlat : la t ≤ le := by rw [hla]; exact ar_lo_le le t
  obtain ⟨a1, a2, a3, a4, a5, a6⟩ := h1 t ht hr
  have hcv : cv c = ar_vl so wh af B le c := hD.2.2.2.1 c hc (Or.inr (by have := @ar_lz_le so wh le c; omega))
  obtain ⟨p1, p2⟩ := ar_ap_PD (kd := 0) (v := v) hP hD (by omega) hf hc hp
  have nin : ∀ u, u < 3 → u ≠ t → ¬ ar_in (ar_Q so bw wh lk bf le u) c := fun u hu hut hi => by
    obtain ⟨q1, q2⟩ := ar_Q_hb hW hT hu hi
    exact hn ⟨u, Nat.zero_le _, hu, hut, q1, q2⟩
  have gG := hG.2 le hD.1.1 (Nat.le_refl _)
  have G1 : ar_G (ar_u so (le + 1) 0) (ar_u bw (le + 1) t) (ar_u wh (le + 1) c) (ar_u lk (le + 1) (la t)) (upd bf (le + 1) (cv c)) (upd af (le + 1) v) B C (le + 1) := by
    refine ar_ap_G0 hW gG ht rfl hla hcv nin (by omega) (fun u hu => ?_)
    by_cases e : u = t
    · subst e
      rw [ar_ap_Qt0 hW rfl hlat, List.length_cons, a1, ar_yl_len]; omega
    · rw [ar_ap_Qu hW e]; exact hlen u hu
  refine ⟨p1, p2, ar_LG_ap hG (by omega) ht hc hlat G1, ar_CK_cg hK (Nat.le_refl _) hD.1.1 (fun j hj => ⟨ar_un (by omega), ar_un (by omega)⟩), ?_, fun u hu r => ?_, fun u hu => ?_, hV, fun j => ?_⟩
  · refine ar_ap_TL hT (by omega) ht hr (fun u hu => pk_un hu) (fun x hx => by rw [pk_us]; exact ar_hb_or hc hx) hc hW (fun u hu hut r hb => hn ⟨u, Nat.zero_le _, hu, hut, r, hb⟩) ?_
    rw [hla]
    by_cases z : ar_lo so bw le t = 0
    · exact Or.inl z
    · exact Or.inr (ar_lo_K hr z)
  · by_cases e : u = t
    · subst e
      rw [ar_us, ar_us, ar_us]
      exact ar_ap_T1w hW (h1 u hu r) rfl rfl hlat hw ar_us pk_us (fun j hj => ⟨ar_un (by omega), pk_un (by omega)⟩)
    · rw [ar_un e, ar_un e, ar_un e]
      have b := h1 u hu r
      have b3 := b.2.2.1
      have b4 := b.2.2.2.1
      refine ar_T1_cg (ar_ap_T1u hW b e (by rw [hT.2.2.1 u hu r]; exact ar_lo_le le u)) (fun j hj => ⟨ar_un (by omega), pk_un (by omega)⟩)
  · obtain ⟨m1, m2, m3, m4⟩ := hM u hu
    by_cases e : u = t
    · subst e
      rw [ar_us, ar_us]; exact ⟨m1, by omega, m3, by omega⟩
    · rw [ar_un e, ar_un e]; exact ⟨m1, m2, m3, m4⟩
  · by_cases e : j = 20 * t + li t
    · rw [e, ar_us]; exact hc
    · rw [ar_un e]; exact hC j
theorem ar_CH (h : ar_INV se ce le fc hd B C cv dc bf af fl hl ld cm dn cl cf so bw wh lk mv pg fn ch rn wr la mk li mm lc) (hle : le ≤ 201) (ht : t < 3) (hc : c < 16) (hr : rn t = 1) (hw : wr t < 20) (hn : ¬ ar_CF rn hl t c 0) :
    ∃ X' : SX, (∀ k, i_Rel k X' ((upd cv c v), (ar_N rn), (upd hl t (hl t ||| ((1 : Int32) <<< (nI c &&& 31)))), (ar_N (ar_u wr t (wr t + 1))), (ar_N (ar_u li t (li t + 1))), (ar_N mm), (ar_N (ar_u lc (20 * t + li t) c)), (upd ld (20 * t + li t) (cv c)))) ∧ ∀ (post : Int32 → SX → Prop), post (ar_bs (hl t ||| ((1 : Int32) <<< (nI c &&& 31))) 16 0 0) X' → wpX_change post ((nI se), (nI ce), (nI le), (nI fc), (nI hd), (nI sl), dc, (ar_N dn), (ar_N cl), (ar_N cf), (ar_N so), (ar_N bw), (ar_N wh), bf, af, (ar_N lk), (ar_N mv), (ar_P pg), fl, (ar_N fn), (ar_N ch), (ar_N rn), hl, (ar_N wr), (ar_N la), (ar_N mk)) (nI t) (nI c) v := by
  obtain ⟨se', ce', le', dc', dn', cl', cf', so', bw', wh', bf', af', lk', mv', fn', ch', la', mk', B', cm', h', hle', k1⟩ := ar_MR (sl := sl) h hle
  obtain ⟨f, hd2, se2, dc2, dn2, pg2, fl2, fn2, ch2, hf, hp, h2, k2⟩ := ar_INV_br (sl := sl) (p := c / 4) h' (by omega) (by omega)
  have hI := ar_INV_w (v := v) h2 hle' ht hc hr hw hn hf hp
  have lal : la' t ≤ le' := by rw [h2.2.2.2.2.1.2.2.1 t ht hr]; exact ar_lo_le le' t
  have flc := (h2.1.2.2.2.2.1 f c hf hc hp).1
  have c1 := h2.2.1.2.2.2.2.2.1 f (c / 4) hf hp
  refine ⟨_, fun k => ar_ri (k := k) (sl := sl) hI (by omega), fun post hpo => ?_⟩
  have w : vp_in (nI t) 3 := vp_in_nI ht (by omega)
  have et : (nI t).toNatClampNeg = t := ar_cl (by omega)
  unfold wpX_change
  refine k1 _ ?_
  show wpX_bringIn _ _ _
  rw [ar_shr2 (by omega)]
  refine k2 _ ⟨by rw [ar_and3 (by omega), ar_4]; exact vp_in_nI (by omega) (by omega), nm_r (e' := cv c) (by rw [ar_and3 (by omega), ar_4, ar_cl (by omega)]; exact flc) ⟨w, ?_⟩⟩
  rw [ar_Nv (show t < 2000000000 by omega)]
  refine ar_AP (kd := 0) (l := la' t) (by omega) (by omega) ht (by omega) (by omega) ?_
  refine ar_AY hf hc (by omega) (by omega) ⟨w, w, nm_r (e' := (upd hl t (hl t ||| ((1 : Int32) <<< (nI c &&& 31))))) (by rw [et]) ⟨w, w, nm_r (e' := ar_N (ar_u wr t (wr t + 1))) (ar_Nu et (by rw [ar_Nv (by omega), nI_1, ar_vb2 (by omega)])) ⟨w, ?_⟩⟩⟩
  rw [et, pk_us]
  exact ar_xB hpo
/-- a read -/
theorem ar_RD (h : ar_INV se ce le fc hd B C cv dc bf af fl hl ld cm dn cl cf so bw wh lk mv pg fn ch rn wr la mk li mm lc) (hle : le ≤ 201) (hc : c < 16) : ∃ hd' se' dc' dn' pg' fl' fn' ch', ar_INV se' ce le fc hd' B C cv dc' bf af fl' hl ld cm dn' cl cf so bw wh lk mv pg' fn' ch' rn wr la mk li mm lc ∧
      ∀ (post : Int32 → SX → Prop), post (cv c) ((nI se'), (nI ce), (nI le), (nI fc), (nI hd'), (nI sl), dc', (ar_N dn'), (ar_N cl), (ar_N cf), (ar_N so), (ar_N bw), (ar_N wh), bf, af, (ar_N lk), (ar_N mv), (ar_P pg'), fl', (ar_N fn'), (ar_N ch'), (ar_N rn), hl, (ar_N wr), (ar_N la), (ar_N mk)) → wpX_read post ((nI se), (nI ce), (nI le), (nI fc), (nI hd), (nI sl), dc, (ar_N dn), (ar_N cl), (ar_N cf), (ar_N so), (ar_N bw), (ar_N wh), bf, af, (ar_N lk), (ar_N mv), (ar_P pg), fl, (ar_N fn), (ar_N ch), (ar_N rn), hl, (ar_N wr), (ar_N la), (ar_N mk)) (nI c) := by
  obtain ⟨f, hd2, se2, dc2, dn2, pg2, fl2, fn2, ch2, hf, hp, h2, k2⟩ := ar_INV_br (sl := sl) (p := c / 4) h (by omega) (by omega)
  have flc := (h2.1.2.2.2.2.1 f c hf hc hp).1
  refine ⟨hd2, se2, dc2, dn2, pg2, fl2, fn2, ch2, h2, fun post hpo => ?_⟩
  refine br_f (nI_pos (by omega)) (br_t (nI_le (b := 15) (by omega) (by omega)) ?_)
  show wpX_bringIn _ _ _
  rw [ar_shr2 (by omega)]
  refine k2 _ ⟨by rw [ar_and3 (by omega), ar_4]; exact vp_in_nI (by omega) (by omega), ?_⟩
  rw [ar_and3 (by omega), ar_4, ar_cl (by omega), flc]
  exact hpo
theorem ar_yrd {post : Int32 → Prop} (hc : c < 16) (hp : post (cv c)) : wpY_read post (cv, (ar_N rn), hl, (ar_N wr), (ar_N li), (ar_N mm), (ar_N lc), ld) (nI c) :=
  br_f (nI_pos (by omega)) (br_f (nI_ge (b := 16) (by omega) (by omega)) ⟨vp_in_nI hc (by omega), by rw [ar_cl (by omega)]; exact hp⟩)
theorem ar_yrx (x : Int32) : ∃ r, ∀ post : Int32 → Prop, post r → wpY_read post (cv, (ar_N rn), hl, (ar_N wr), (ar_N li), (ar_N mm), (ar_N lc), ld) x := by
  rcases ar_cx x with (hb | hb) | ⟨c, hc, rfl⟩
  · exact ⟨0, fun post hp => br_t hb hp⟩
  · exact ⟨0, fun post hp => br_f (ar_nn16 hb) (br_t hb hp)⟩
  · exact ⟨cv c, fun post hp => ar_yrd hc hp⟩
end
theorem i_vc_write {k : Nat} {u : SX} {v : SY} (I : i_Rel k u v) (hk : k + 4 ≤ 2049) (v1 : Int32) (v2 : Int32) (v3 : Int32) : wpX_write (fun r u' => wpY_write (fun r' v' => r' = r ∧ i_Rel (k + 4) u' v') v v1 v2 v3) u v1 v2 v3 := by
  refine ar_el (P := fun u v => wpX_write (fun r u' => wpY_write (fun r' v' => r' = r ∧ i_Rel (k + 4) u' v') v v1 v2 v3) u v1 v2 v3) ?_ I
  intro se ce le fc hd sl dc dn cl cf so bw wh bf af lk mv pg fl fn ch rn hl wr la mk cv li mm lc ld B C cm h hle
  show wpX_write _ _ _ _ _
  unfold wpX_write
  rcases ar_chk h v1 v2 with ⟨r, r0, x, y⟩ | ⟨t, c, ht, hc, rfl, rfl, hr, hw, hn, x, y⟩
  · exact x _ (br_f r0 (y _ _ ⟨rfl, ar_ri h hle⟩))
  · obtain ⟨X', hX, hx⟩ := ar_CH (v := v3) (sl := sl) h hle ht hc hr hw hn
    exact x _ (br_t rfl (hx _ (y _ _ ⟨rfl, hX _⟩)))
theorem i_vc_read {k : Nat} {u : SX} {v : SY} (I : i_Rel k u v) (hk : k + 4 ≤ 2049) (v1 : Int32) : wpX_read (fun r u' => wpY_read (fun r' => r' = r ∧ i_Rel (k + 4) u' v) v v1) u v1 := by
  refine ar_el (P := fun u v => wpX_read (fun r u' => wpY_read (fun r' => r' = r ∧ i_Rel (k + 4) u' v) v v1) u v1) ?_ I
  intro se ce le fc hd sl dc dn cl cf so bw wh bf af lk mv pg fl fn ch rn hl wr la mk cv li mm lc ld B C cm h hle
  show wpX_read _ _ _
  rcases ar_cx v1 with (hb | hb) | ⟨c, hc, rfl⟩
  · exact br_t hb (br_t hb ⟨rfl, ar_ri h hle⟩)
  · exact br_f (ar_nn16 hb) (br_f (ar_n15 hb) (br_f (ar_nn16 hb) (br_t hb ⟨rfl, ar_ri h hle⟩)))
  · obtain ⟨hd2, se2, dc2, dn2, pg2, fl2, fn2, ch2, h2, k2⟩ := ar_RD (sl := sl) h hle hc
    exact k2 _ (ar_yrd hc ⟨rfl, ar_ri h2 hle⟩)
theorem i_vc_add {k : Nat} {u : SX} {v : SY} (I : i_Rel k u v) (hk : k + 4 ≤ 2049) (v1 : Int32) (v2 : Int32) (v3 : Int32) : wpX_add (fun r u' => wpY_add (fun r' v' => r' = r ∧ i_Rel (k + 4) u' v') v v1 v2 v3) u v1 v2 v3 := by
  refine ar_el (P := fun u v => wpX_add (fun r u' => wpY_add (fun r' v' => r' = r ∧ i_Rel (k + 4) u' v') v v1 v2 v3) u v1 v2 v3) ?_ I
  intro se ce le fc hd sl dc dn cl cf so bw wh bf af lk mv pg fl fn ch rn hl wr la mk cv li mm lc ld B C cm h hle
  show wpX_add _ _ _ _ _
  unfold wpX_add
  rcases ar_chk h v1 v2 with ⟨r, r0, x, y⟩ | ⟨t, c, ht, hc, rfl, rfl, hr, hw, hn, x, y⟩
  · refine x _ (br_f r0 ?_)
    obtain ⟨q, hq⟩ := ar_yrx (cv := cv) (rn := rn) (hl := hl) (wr := wr) (li := li) (mm := mm) (lc := lc) (ld := ld) v2
    unfold wpY_add
    exact hq _ (nm_e (y _ _ ⟨rfl, ar_ri h hle⟩))
  · obtain ⟨hd2, se2, dc2, dn2, pg2, fl2, fn2, ch2, h2, k2⟩ := ar_RD (sl := sl) h hle hc
    obtain ⟨X', hX, hx⟩ := ar_CH (v := cv c + v3) (sl := sl) h2 hle ht hc hr hw hn
    refine x _ (br_t rfl (k2 _ (nm_e (hx _ ?_))))
    unfold wpY_add
    exact ar_yrd hc (nm_e (y _ _ ⟨rfl, hX _⟩))
end
section
section
variable {se ce le fc hd sl : Nat} {dc bf af fl hl : Nat → Int32} {dn cl cf so bw wh lk mv pg fn ch rn wr la mk : Nat → Nat}
variable {cv ld : Nat → Int32} {li mm lc : Nat → Nat}
variable {B C C' : Nat → Int32} {cm : Nat → Nat} {t kd se' : Nat}
theorem ar_INV_e (hP : ar_PL fc hd cv cm dc dn pg fl fn ch) (hD : ar_DL (ar_lz (ar_u so (le + 1) kd) (ar_u wh (le + 1) 0)) (ar_vl (ar_u so (le + 1) kd) (ar_u wh (le + 1) 0) (upd af (le + 1) 0) B) (le + 1) se' (ar_fs ce cf 4) (le + 1 + 1) cv cm dc dn pg ch) (hG : ar_LG (ar_u so (le + 1) kd) (ar_u bw (le + 1) t) (ar_u wh (le + 1) 0) (ar_u lk (le + 1) (la t)) (upd bf (le + 1) 0) (upd af (le + 1) 0) B C' (le + 1) se')
    (hW : ar_WF so bw wh lk le) (hK : ar_CK so bw cl cf ce se) (hs : se ≤ se') (hsl : se ≤ le) (hT : ar_TL so bw wh lk rn hl la le) (h1 : ∀ u, u < 3 → u ≠ t → rn u = 1 → ar_T1 so bw wh lk bf lc ld le u (la u) (mk u) (mm u) (li u) (wr u))
    (hM : ∀ t, t < 3 → rn t ≤ 1 ∧ la t ≤ 300 ∧ mk t ≤ 300 ∧ wr t ≤ 20) (hV : ∀ j, mv j ≤ 300) (hC : ∀ j, lc j < 16) (hk : ¬ kd < 2) (ht : t < 3) (hle : le < 300) : ar_INV se' ce (le + 1) fc hd B C' cv dc (upd bf (le + 1) 0) (upd af (le + 1) 0) fl hl ld cm dn cl cf (ar_u so (le + 1) kd) (ar_u bw (le + 1) t) (ar_u wh (le + 1) 0) (ar_u lk (le + 1) (la t)) mv pg fn ch (ar_u rn t 0) wr (ar_u la t (le + 1)) mk li mm lc := by
  refine ⟨hP, hD, hG, ar_CK_cg hK hs hsl (fun j hj => ⟨ar_un (by omega), ar_un (by omega)⟩), ar_en_TL hT hk ht, fun u hu r => ?_, fun u hu => ?_, hV, hC⟩
  · have e : u ≠ t := by
      intro z
      rw [z, ar_us] at r
      omega
    rw [ar_un e] at r
    rw [ar_un e]
    exact ar_ap_T1u hW (h1 u hu e r) e (by rw [hT.2.2.1 u hu r]; exact ar_lo_le le u)
  · obtain ⟨m1, m2, m3, m4⟩ := hM u hu
    by_cases e : u = t
    · subst e
      rw [ar_us, ar_us]; exact ⟨by omega, by omega, m3, m4⟩
    · rw [ar_un e, ar_un e]; exact ⟨m1, m2, m3, m4⟩
/-- a commit keeps the invariant, with other committed cells -/
theorem ar_INV_cm (h : ar_INV se ce le fc hd B C cv dc bf af fl hl ld cm dn cl cf so bw wh lk mv pg fn ch rn wr la mk li mm lc) (hle : le ≤ 180) (ht : t < 3) (hr : rn t = 1) (hkd : kd = 2) (hse : se' = le + 1) : ∃ C', ar_INV se' ce (le + 1) fc hd B C' cv dc (upd bf (le + 1) 0) (upd af (le + 1) 0) fl hl ld cm dn cl cf (ar_u so (le + 1) kd) (ar_u bw (le + 1) t) (ar_u wh (le + 1) 0) (ar_u lk (le + 1) (la t)) mv pg fn ch (ar_u rn t 0) wr (ar_u la t (le + 1)) mk li mm lc := by
  have hlen := fun u hu => ar_INV_len h (u := u) hu
  obtain ⟨hP, hD, hG, hK, hT, h1, hM, hV, hC⟩ := h
  have hW := hG.1
  have hla := hT.2.2.1 t ht hr
  have hlat : la t ≤ le := by rw [hla]; exact ar_lo_le le t
  have hk : ¬ kd < 2 := by omega
  have gG := hG.2 le hD.1.1 (Nat.le_refl _)
  have hsl := hD.1.1
  have D1 := ar_se_DL (s := le + 1) ar_zv (ar_en_PD (kd := kd) (c := 0) (v := 0) hD hk) (by omega) (Nat.le_refl _)
  subst hse
  refine ⟨fun c => ar_ro (ar_Q (ar_u so (le + 1) kd) (ar_u bw (le + 1) t) (ar_u wh (le + 1) 0) (ar_u lk (le + 1) (la t)) (upd bf (le + 1) 0) (le + 1)) c (ar_vl (ar_u so (le + 1) kd) (ar_u wh (le + 1) 0) (upd af (le + 1) 0) B (le + 1) c) 3, ar_INV_e hP D1 ⟨ar_ap_WF hW (by omega) ht (by omega) hlat, fun k k1 k2 => ?_⟩ hW hK (by omega) hsl hT (fun u hu _ r => h1 u hu r) hM hV hC hk ht (by omega)⟩
  have ek : k = le + 1 := by omega
  subst ek
  have qt := ar_ap_Qt2 (so := so) (bw := bw) (wh := wh) (lk := lk) (bf := bf) (le := le) (t := t) (c := 0) (l := la t) (o := 0) hk
  have hsub : ∀ u x, ar_in (ar_Q (ar_u so (le + 1) kd) (ar_u bw (le + 1) t) (ar_u wh (le + 1) 0) (ar_u lk (le + 1) (la t)) (upd bf (le + 1) 0) (le + 1) u) x → ar_in (ar_Q so bw wh lk bf le u) x := fun u x hi => by
    by_cases e : u = t
    · rw [e, qt] at hi; exact absurd hi ar_in_nil
    · rw [ar_ap_Qu hW e] at hi; exact hi
  refine ⟨⟨fun a b x ha hb hab hi hj => gG.1.1 a b x ha hb hab (hsub a x hi) (hsub b x hj), fun c _ => rfl⟩, ?_⟩
  have := ar_wt_le (P := ar_Q (ar_u so (le + 1) kd) (ar_u bw (le + 1) t) (ar_u wh (le + 1) 0) (ar_u lk (le + 1) (la t)) (upd bf (le + 1) 0) (le + 1)) (lo := ar_lo (ar_u so (le + 1) kd) (ar_u bw (le + 1) t) (le + 1)) (fun u hu => by
    by_cases e : u = t
    · rw [e, qt]; exact Nat.zero_le _
    · rw [ar_ap_Qu hW e]; exact hlen u hu)
  omega
theorem ar_CM (h : ar_INV se ce le fc hd B C cv dc bf af fl hl ld cm dn cl cf so bw wh lk mv pg fn ch rn wr la mk li mm lc) (hle : le ≤ 201) (ht : t < 3) (hr : rn t = 1) : ∃ X' : SX, (∀ k, i_Rel k X' (cv, (ar_N (ar_u rn t 0)), hl, (ar_N wr), (ar_N li), (ar_N mm), (ar_N lc), ld)) ∧
    ∀ (post : Int32 → SX → Prop), post (ar_bs (hl t) 16 0 0) X' → wpX_commit post ((nI se), (nI ce), (nI le), (nI fc), (nI hd), (nI sl), dc, (ar_N dn), (ar_N cl), (ar_N cf), (ar_N so), (ar_N bw), (ar_N wh), bf, af, (ar_N lk), (ar_N mv), (ar_P pg), fl, (ar_N fn), (ar_N ch), (ar_N rn), hl, (ar_N wr), (ar_N la), (ar_N mk)) (nI t) := by
  obtain ⟨se1, ce', le', dc', dn', cl', cf', so', bw', wh', bf', af', lk', mv', fn', ch', la', mk', B', cm', h', hle', k1⟩ := ar_MR (sl := sl) h hle
  obtain ⟨C', hI⟩ := ar_INV_cm h' hle' ht hr rfl rfl
  have lal : la' t ≤ le' := by rw [h'.2.2.2.2.1.2.2.1 t ht hr]; exact ar_lo_le le' t
  refine ⟨_, fun k => ar_ri (k := k) (sl := sl) hI (by omega), fun post hpo => ?_⟩
  have w : vp_in (nI t) 3 := vp_in_nI ht (by omega)
  have et : (nI t).toNatClampNeg = t := ar_cl (by omega)
  have er : ¬ ar_N rn (nI t).toNatClampNeg = 0 := by rw [ar_Nv (by omega), hr]; decide
  unfold wpX_commit
  refine ar_xg ht (br_f ar_10 ⟨w, br_f er (k1 _ ⟨w, ?_⟩)⟩)
  rw [ar_Nv (show t < 2000000000 by omega)]
  refine ar_AP (kd := 2) (c := 0) (l := la' t) (by omega) (by omega) ht (by omega) (by omega) ⟨w, nm_r (ar_Nu et ar_vz0) ⟨w, ?_⟩⟩
  rw [et]
  exact ar_xB hpo
end
theorem i_vc_commit {k : Nat} {u : SX} {v : SY} (I : i_Rel k u v) (hk : k + 4 ≤ 2049) (v1 : Int32) : wpX_commit (fun r u' => wpY_commit (fun r' v' => r' = r ∧ i_Rel (k + 4) u' v') v v1) u v1 := by
  refine ar_el (P := fun u v => wpX_commit (fun r u' => wpY_commit (fun r' v' => r' = r ∧ i_Rel (k + 4) u' v') v v1) u v1) ?_ I
  intro se ce le fc hd sl dc dn cl cf so bw wh bf af lk mv pg fl fn ch rn hl wr la mk cv li mm lc ld B C cm h hle
  show wpX_commit _ _ _
  rcases ar_tx v1 with hb | ⟨t, ht, rfl⟩
  · unfold wpX_commit
    refine ar_xb hb (br_t rfl ?_)
    unfold wpY_commit
    exact ar_yrb hb (br_f (by decide) ⟨rfl, ar_ri h hle⟩)
  · have w : vp_in (nI t) 3 := vp_in_nI ht (by omega)
    have e : (nI t).toNatClampNeg = t := ar_cl (by omega)
    have er : ar_N rn (nI t).toNatClampNeg = nI (rn t) := ar_Nv (by omega)
    by_cases r : rn t = 0
    · unfold wpX_commit
      refine ar_xg ht (br_f ar_10 ⟨w, br_t (by rw [er, r]; rfl) ?_⟩)
      unfold wpY_commit
      exact ar_yr2 ht r (br_f (by decide) ⟨rfl, ar_ri h hle⟩)
    · have m := h.2.2.2.2.2.2.1 t ht
      have r1 : rn t = 1 := by omega
      obtain ⟨X', hX, hx⟩ := ar_CM (sl := sl) h hle ht r1
      refine hx _ ?_
      unfold wpY_commit
      refine ar_yr0 ht r1 (br_t (by decide) ⟨w, nm_r (ar_Nu e ar_vz0) ⟨w, ?_⟩⟩)
      rw [e]
      exact ar_yB ⟨rfl, hX _⟩
end
section
section
variable {se ce le fc hd sl : Nat} {dc bf af fl hl : Nat → Int32} {dn cl cf so bw wh lk mv pg fn ch rn wr la mk : Nat → Nat}
variable {cv ld : Nat → Int32} {li mm lc : Nat → Nat}
variable {B C : Nat → Int32} {cm : Nat → Nat} {t lim M : Nat}
theorem ar_UT (h : ar_INV se ce le fc hd B C cv dc bf af fl hl ld cm dn cl cf so bw wh lk mv pg fn ch rn wr la mk li mm lc) (hle : le ≤ 180) (ht : t < 3) (hr : rn t = 1) (h1t : ar_T1 so bw wh lk bf lc ld le t (la t) lim M (li t) (wr t)) :
    ∃ r se' le' hd' sl' dc' dn' so' bw' wh' bf' af' lk' pg' fl' fn' ch' la' cv' cm' li', ar_PL fc hd' cv' cm' dc' dn' pg' fl' fn' ch' ∧ ar_DL (ar_lz so' wh') (ar_vl so' wh' af' B) le' se' (ar_fs ce cf 4) (le' + 1) cv' cm' dc' dn' pg' ch' ∧ ar_LG so' bw' wh' lk' bf' af' B C le' se' ∧ ar_CK so' bw' cl cf ce se' ∧
      ar_TL so' bw' wh' lk' rn hl la' le' ∧ ar_T1 so' bw' wh' lk' bf' lc ld le' t (la' t) lim M (li' t) (wr t) ∧ (∀ u, u < 3 → u ≠ t → rn u = 1 → ar_T1 so' bw' wh' lk' bf' lc ld le' u (la' u) (mk u) (mm u) (li' u) (wr u)) ∧
      le' ≤ 200 ∧ li' t = M ∧ (∀ u, u < 3 → la' u ≤ 300) ∧ (∀ (post : Int32 → SX → Prop), post (nI r) ((nI se'), (nI ce), (nI le'), (nI fc), (nI hd'), (nI sl'), dc', (ar_N dn'), (ar_N cl), (ar_N cf), (ar_N so'), (ar_N bw'), (ar_N wh'), bf', af', (ar_N lk'), (ar_N mv), (ar_P pg'), fl', (ar_N fn'), (ar_N ch'), (ar_N rn), hl, (ar_N wr), (ar_N la'), (ar_N mk)) → wpX_undoDownTo post ((nI se), (nI ce), (nI le), (nI fc), (nI hd), (nI 100000), dc, (ar_N dn), (ar_N cl), (ar_N cf), (ar_N so), (ar_N bw), (ar_N wh), bf, af, (ar_N lk), (ar_N mv), (ar_P pg), fl, (ar_N fn), (ar_N ch), (ar_N rn), hl, (ar_N wr), (ar_N la), (ar_N mk)) (nI t) (nI lim)) ∧
      (∀ (post : Int32 → SY → Prop), post (nI r) (cv', (ar_N rn), hl, (ar_N wr), (ar_N li'), (ar_N mm), (ar_N lc), ld) → wpY_takeBack post (cv, (ar_N rn), hl, (ar_N wr), (ar_N li), (ar_N mm), (ar_N lc), ld) (nI t) (nI M)) := by
  obtain ⟨hP, hD, hG, hK, hT, h1, hM, hV, hC⟩ := h
  have hla := hT.2.2.1 t ht hr
  have hlat : la t ≤ le := by rw [hla]; exact ar_lo_le le t
  have b3 := h1t.2.2.1
  have b4 := h1t.2.2.2.1
  obtain ⟨r, se', le', hd', sl', dc', dn', so', bw', wh', bf', af', lk', pg', fl', fn', ch', la', cv', cm', li', q1, q2, q3, q4, q5, q6, ⟨q7, q8, q9, q10⟩, q11, q12, q13, q14, q15⟩ := ar_UN (ce := ce) (cl := cl) (cf := cf) (mv := mv) (mk := mk) (mm := mm) ht hr hC (la t) (la t) 0 se le hd 100000 dc dn so bw wh bf af lk pg fl fn ch la cv cm li (Nat.le_refl _) hP hD hG hT h1t (fun u hu _ r => h1 u hu r) rfl rfl
    (by
      rw [hla]
      by_cases z : ar_lo so bw le t = 0
      · exact Or.inl z
      · exact Or.inr (ar_lo_K hr z)) (by omega) (by omega) (by omega)
  refine ⟨r, se', le', hd', sl', dc', dn', so', bw', wh', bf', af', lk', pg', fl', fn', ch', la', cv', cm', li', q1, q2, q3, ar_CK_cg hK q7 hD.1.1 q13, q4, q5, q6, by omega, q10, fun u hu => ?_, fun post hp => ⟨vp_in_nI ht (by omega), nm_r (ar_Nv (by omega)) ⟨_, q14 post hp⟩⟩, fun post hp => ⟨_, q15 post hp⟩⟩
  by_cases e : u = t
  · rw [e]; have := q12 hlat; omega
  · rw [q11 u e]; exact (hM u hu).2.1
theorem ar_BK (h : ar_INV se ce le fc hd B C cv dc bf af fl hl ld cm dn cl cf so bw wh lk mv pg fn ch rn wr la mk li mm lc) (hle : le ≤ 201) (ht : t < 3) (hr : rn t = 1) : ∃ (r : Int32) (X' : SX) (Y' : SY), (∀ k, i_Rel k X' Y') ∧ (∀ (post : Int32 → SX → Prop), post r X' → wpX_back post ((nI se), (nI ce), (nI le), (nI fc), (nI hd), (nI sl), dc, (ar_N dn), (ar_N cl), (ar_N cf), (ar_N so), (ar_N bw), (ar_N wh), bf, af, (ar_N lk), (ar_N mv), (ar_P pg), fl, (ar_N fn), (ar_N ch), (ar_N rn), hl, (ar_N wr), (ar_N la), (ar_N mk)) (nI t)) ∧ (∀ (post : Int32 → SY → Prop), post r Y' → wpY_back post (cv, (ar_N rn), hl, (ar_N wr), (ar_N li), (ar_N mm), (ar_N lc), ld) (nI t)) := by
  obtain ⟨se1, ce1, le1, dc1, dn1, cl1, cf1, so1, bw1, wh1, bf1, af1, lk1, mv1, fn1, ch1, la1, mk1, B1, cm1, h', hle', k1⟩ := ar_MR (sl := sl) h hle
  obtain ⟨r, se', le', hd', sl', dc', dn', so', bw', wh', bf', af', lk', pg', fl', fn', ch', la', cv', cm', li', q1, q2, q3, q4, q5, q6, q7, q8, q9, q10, q11, q12⟩ := ar_UT h' hle' ht hr (h'.2.2.2.2.2.1 t ht hr)
  obtain ⟨hP, hD, hG, hK, hT, h1, hM, hV, hC⟩ := h'
  have w : vp_in (nI t) 3 := vp_in_nI ht (by omega)
  have er : ¬ ar_N rn (nI t).toNatClampNeg = 0 := by rw [ar_Nv (by omega), hr]; decide
  have hI : ar_INV se' ce1 le' fc hd' B1 C cv' dc' bf' af' fl' hl ld cm' dn' cl1 cf1 so' bw' wh' lk' mv1 pg' fn' ch' rn wr la' mk1 li' mm lc := by
    refine ⟨q1, q2, q3, q4, q5, fun u hu r => ?_, fun u hu => ⟨(hM u hu).1, q10 u hu, (hM u hu).2.2.1, (hM u hu).2.2.2⟩, hV, hC⟩
    by_cases e : u = t
    · subst e; exact q6
    · exact q7 u hu e r
  refine ⟨nI r, _, _, fun k => ar_ri (k := k) (sl := sl') hI (by omega), fun post hp => ?_, fun post hp => ?_⟩
  · unfold wpX_back
    refine ar_xg ht (br_f ar_10 ⟨w, br_f er (k1 _ ⟨w, ?_⟩)⟩)
    rw [ar_Nv (show t < 2000000000 by omega)]
    exact q11 _ hp
  · unfold wpY_back
    refine ar_yr0 ht hr (br_t (by decide) ⟨w, ?_⟩)
    rw [ar_Nv (show t < 2000000000 by omega)]
    exact q12 _ hp
theorem ar_AB (h : ar_INV se ce le fc hd B C cv dc bf af fl hl ld cm dn cl cf so bw wh lk mv pg fn ch rn wr la mk li mm lc) (hle : le ≤ 201) (ht : t < 3) (hr : rn t = 1) : ∃ (r : Int32) (X' : SX) (Y' : SY), (∀ k, i_Rel k X' Y') ∧ (∀ (post : Int32 → SX → Prop), post r X' → wpX_abort post ((nI se), (nI ce), (nI le), (nI fc), (nI hd), (nI sl), dc, (ar_N dn), (ar_N cl), (ar_N cf), (ar_N so), (ar_N bw), (ar_N wh), bf, af, (ar_N lk), (ar_N mv), (ar_P pg), fl, (ar_N fn), (ar_N ch), (ar_N rn), hl, (ar_N wr), (ar_N la), (ar_N mk)) (nI t)) ∧ (∀ (post : Int32 → SY → Prop), post r Y' → wpY_abort post (cv, (ar_N rn), hl, (ar_N wr), (ar_N li), (ar_N mm), (ar_N lc), ld) (nI t)) := by
  obtain ⟨se1, ce1, le1, dc1, dn1, cl1, cf1, so1, bw1, wh1, bf1, af1, lk1, mv1, fn1, ch1, la1, mk1, B1, cm1, h', hle', k1⟩ := ar_MR (sl := sl) h hle
  have t1 := h'.2.2.2.2.2.1 t ht hr
  obtain ⟨r, se', le', hd', sl', dc', dn', so', bw', wh', bf', af', lk', pg', fl', fn', ch', la', cv', cm', li', q1, q2, q3, q4, q5, q6, q7, q8, q9, q10, q11, q12⟩ := ar_UT (lim := 0) (M := 0) h' hle' ht hr ⟨t1.1, by rw [t1.1, ar_yl_len]; rfl, t1.2.2.1, t1.2.2.2.1, Nat.zero_le _, t1.2.2.2.2.2⟩
  obtain ⟨hP, hD, hG, hK, hT, h1, hM, hV, hC⟩ := h'
  have w : vp_in (nI t) 3 := vp_in_nI ht (by omega)
  have et : (nI t).toNatClampNeg = t := ar_cl (by omega)
  have er : ¬ ar_N rn (nI t).toNatClampNeg = 0 := by rw [ar_Nv (by omega), hr]; decide
  have hla := q5.2.2.1 t ht hr
  have lal : la' t ≤ le' := by rw [hla]; exact ar_lo_le le' t
  have hq : ar_Q so' bw' wh' lk' bf' le' t = [] := by
    unfold ar_Q
    rw [← hla, q6.1, q9]; rfl
  have hwt := ar_wt_le (P := ar_Q so' bw' wh' lk' bf' le') (lo := ar_lo so' bw' le') (fun u hu => by
    by_cases e : u = t
    · rw [e, hq]; exact Nat.zero_le _
    · unfold ar_Q
      by_cases r : rn u = 1
      · obtain ⟨a1, a2, a3, a4, _⟩ := q7 u hu e r
        rw [← q5.2.2.1 u hu r, a1, ar_yl_len]
        omega
      · rw [q5.2.2.2 u hu r, ar_c_0]
        exact Nat.zero_le _)
  have gG := q3.2 le' q2.1.1 (Nat.le_refl _)
  have G1 := ar_LG_ap (kd := 3) (t := t) (c := 0) (l := la' t) (o := 0) (v := 0) q3 (by omega) ht (by omega) lal (ar_ap_G2 q3.1 gG ht (by omega) hq (Or.inr (by omega)))
  have hI := ar_INV_e (kd := 3) (t := t) (mv := mv1) (mk := mk1) q1 (ar_en_PD (kd := 3) (c := 0) (v := 0) q2 (by omega)) G1 q3.1 q4 (Nat.le_refl _) q2.1.1 q5 q7 (fun u hu => ⟨(hM u hu).1, q10 u hu, (hM u hu).2.2.1, (hM u hu).2.2.2⟩) hV hC (by omega) ht (by omega)
  refine ⟨ar_bs (hl t) 16 0 0, _, _, fun k => ar_ri (k := k) (sl := sl') hI (by omega), fun post hp => ?_, fun post hp => ?_⟩
  · unfold wpX_abort
    refine ar_xg ht (br_f ar_10 ⟨w, br_f er (k1 _ (q11 _ ⟨w, ?_⟩))⟩)
    rw [ar_Nv (show t < 2000000000 by omega)]
    refine ar_AP (kd := 3) (c := 0) (l := la' t) (by omega) (by omega) ht (by omega) (by omega) ⟨w, nm_r (ar_Nu et ar_vz0) ⟨w, ?_⟩⟩
    rw [et]
    exact ar_xB hp
  · unfold wpY_abort
    refine ar_yr0 ht hr (br_t (by decide) (q12 _ ⟨w, nm_r (ar_Nu et ar_vz0) ⟨w, ?_⟩⟩))
    rw [et]
    exact ar_yB hp
end
theorem i_vc_back {k : Nat} {u : SX} {v : SY} (I : i_Rel k u v) (hk : k + 4 ≤ 2049) (v1 : Int32) : wpX_back (fun r u' => wpY_back (fun r' v' => r' = r ∧ i_Rel (k + 4) u' v') v v1) u v1 := by
  refine ar_el (P := fun u v => wpX_back (fun r u' => wpY_back (fun r' v' => r' = r ∧ i_Rel (k + 4) u' v') v v1) u v1) ?_ I
  intro se ce le fc hd sl dc dn cl cf so bw wh bf af lk mv pg fl fn ch rn hl wr la mk cv li mm lc ld B C cm h hle
  show wpX_back _ _ _
  rcases ar_tx v1 with hb | ⟨t, ht, rfl⟩
  · unfold wpX_back
    refine ar_xb hb (br_t rfl ?_)
    unfold wpY_back
    exact ar_yrb hb (br_f (by decide) ⟨rfl, ar_ri h hle⟩)
  · have w : vp_in (nI t) 3 := vp_in_nI ht (by omega)
    have er : ar_N rn (nI t).toNatClampNeg = nI (rn t) := ar_Nv (by omega)
    by_cases r : rn t = 0
    · unfold wpX_back
      refine ar_xg ht (br_f ar_10 ⟨w, br_t (by rw [er, r]; rfl) ?_⟩)
      unfold wpY_back
      exact ar_yr2 ht r (br_f (by decide) ⟨rfl, ar_ri h hle⟩)
    · have m := h.2.2.2.2.2.2.1 t ht
      obtain ⟨r, X', Y', hX, hx, hy⟩ := ar_BK (sl := sl) h hle ht (by omega)
      exact hx _ (hy _ ⟨rfl, hX _⟩)
theorem i_vc_abort {k : Nat} {u : SX} {v : SY} (I : i_Rel k u v) (hk : k + 4 ≤ 2049) (v1 : Int32) : wpX_abort (fun r u' => wpY_abort (fun r' v' => r' = r ∧ i_Rel (k + 4) u' v') v v1) u v1 := by
  refine ar_el (P := fun u v => wpX_abort (fun r u' => wpY_abort (fun r' v' => r' = r ∧ i_Rel (k + 4) u' v') v v1) u v1) ?_ I
  intro se ce le fc hd sl dc dn cl cf so bw wh bf af lk mv pg fl fn ch rn hl wr la mk cv li mm lc ld B C cm h hle
  show wpX_abort _ _ _
  rcases ar_tx v1 with hb | ⟨t, ht, rfl⟩
  · unfold wpX_abort
    refine ar_xb hb (br_t rfl ?_)
    unfold wpY_abort
    exact ar_yrb hb (br_f (by decide) ⟨rfl, ar_ri h hle⟩)
  · have w : vp_in (nI t) 3 := vp_in_nI ht (by omega)
    have er : ar_N rn (nI t).toNatClampNeg = nI (rn t) := ar_Nv (by omega)
    by_cases r : rn t = 0
    · unfold wpX_abort
      refine ar_xg ht (br_f ar_10 ⟨w, br_t (by rw [er, r]; rfl) ?_⟩)
      unfold wpY_abort
      exact ar_yr2 ht r (br_f (by decide) ⟨rfl, ar_ri h hle⟩)
    · have m := h.2.2.2.2.2.2.1 t ht
      obtain ⟨r, X', Y', hX, hx, hy⟩ := ar_AB (sl := sl) h hle ht (by omega)
      exact hx _ (hy _ ⟨rfl, hX _⟩)
end
section
def ar_rc (rn : Nat → Nat) : Nat → Nat → Int32 → Int32
  | 0, _, a => a
  | d + 1, i, a => ar_rc rn d (i + 1) (if rn i = 0 then a else a + 1)
theorem ar_fs_le {ce : Nat} {cf : Nat → Nat} : ∀ p q, q < p → cf q ≠ 0 → ar_fs ce cf p ≤ cf q := by
  intro p
  induction p with
  | zero => intro q h; omega
  | succ p ih =>
    intro q h h0
    unfold ar_fs
    by_cases e : q = p
    · subst e
      by_cases z : cf q ≠ 0 ∧ cf q < ar_fs ce cf q
      · rw [if_pos z]; exact Nat.le_refl _
      · rw [if_neg z]
        have : ¬ cf q < ar_fs ce cf q := fun y => z ⟨h0, y⟩
        omega
    · have := ih q (by omega) h0
      by_cases z : cf p ≠ 0 ∧ cf p < ar_fs ce cf p
      · rw [if_pos z]; omega
      · rw [if_neg z]; exact this
section
variable {se ce le fc hd sl : Nat} {dc bf af fl hl : Nat → Int32} {dn cl cf so bw wh lk mv pg fn ch rn wr la mk : Nat → Nat}
variable {cv ld : Nat → Int32} {li mm lc : Nat → Nat}
variable {B C : Nat → Int32} {cm : Nat → Nat}
theorem ar_xrc {post : Int32 → Prop} (hrn : ∀ u, u < 3 → rn u ≤ 1) : ∀ d i a, i + d = 3 → post (ar_rc rn d i a) → wX_runningCount_4 post (nI se) (nI ce) (nI le) (nI fc) (nI hd) (nI sl) dc (ar_N dn) (ar_N cl) (ar_N cf) (ar_N so) (ar_N bw) (ar_N wh) bf af (ar_N lk) (ar_N mv) (ar_P pg) fl (ar_N fn) (ar_N ch) (ar_N rn) hl (ar_N wr) (ar_N la) (ar_N mk) (d + 1) a (nI i) := by
  intro d
  induction d with
  | zero =>
    intro i a hi hp
    have e : i = 3 := by omega
    subst e
    rw [wX_runningCount_4]
    exact br_t (show (3 : Int32) ≤ nI 3 by decide) hp
  | succ d ih =>
    intro i a hi hp
    have m := hrn i (by omega)
    rw [wX_runningCount_4]
    have er : ar_N rn (nI i).toNatClampNeg = nI (rn i) := ar_Nv (by omega)
    unfold ar_rc at hp
    refine br_f (nI_ge (b := 3) (by omega) (by omega)) ⟨vp_in_nI (by omega) (by omega), ?_⟩
    by_cases z : rn i = 0
    · rw [if_pos z] at hp
      exact br_t (by rw [er, z]; rfl) (nm_r (nI_1 i) (ih (i + 1) _ (by omega) hp))
    · rw [if_neg z] at hp
      exact br_f (by rw [er]; exact nI_ne0 (by omega) (by omega)) (nm_e (nm_r (nI_1 i) (ih (i + 1) _ (by omega) hp)))
theorem ar_yrc {post : Int32 → Prop} (hrn : ∀ u, u < 3 → rn u ≤ 1) : ∀ d i a, i + d = 3 → post (ar_rc rn d i a) → wY_checkpoint_4 post cv (ar_N rn) hl (ar_N wr) (ar_N li) (ar_N mm) (ar_N lc) ld (d + 1) a (nI i) := by
  intro d
  induction d with
  | zero =>
    intro i a hi hp
    have e : i = 3 := by omega
    subst e
    rw [wY_checkpoint_4]
    exact br_t (show (3 : Int32) ≤ nI 3 by decide) hp
  | succ d ih =>
    intro i a hi hp
    have m := hrn i (by omega)
    rw [wY_checkpoint_4]
    have er : ar_N rn (nI i).toNatClampNeg = nI (rn i) := ar_Nv (by omega)
    unfold ar_rc at hp
    refine br_f (nI_ge (b := 3) (by omega) (by omega)) ⟨vp_in_nI (by omega) (by omega), ?_⟩
    by_cases z : rn i = 0
    · rw [if_pos z] at hp
      exact br_t (by rw [er, z]; rfl) (nm_r (nI_1 i) (ih (i + 1) _ (by omega) hp))
    · rw [if_neg z] at hp
      exact br_f (by rw [er]; exact nI_ne0 (by omega) (by omega)) (nm_e (nm_r (nI_1 i) (ih (i + 1) _ (by omega) hp)))
theorem ar_xRC {post : Int32 → Prop} (hrn : ∀ u, u < 3 → rn u ≤ 1) (hp : post (ar_rc rn 3 0 0)) : wpX_runningCount post ((nI se), (nI ce), (nI le), (nI fc), (nI hd), (nI sl), dc, (ar_N dn), (ar_N cl), (ar_N cf), (ar_N so), (ar_N bw), (ar_N wh), bf, af, (ar_N lk), (ar_N mv), (ar_P pg), fl, (ar_N fn), (ar_N ch), (ar_N rn), hl, (ar_N wr), (ar_N la), (ar_N mk)) := ⟨4, ar_xrc hrn 3 0 0 rfl hp⟩
theorem ar_yRC {post : Int32 → Prop} (hrn : ∀ u, u < 3 → rn u ≤ 1) (hp : post (ar_rc rn 3 0 0)) : wpY_checkpoint post (cv, (ar_N rn), hl, (ar_N wr), (ar_N li), (ar_N mm), (ar_N lc), ld) := ⟨4, ar_yrc hrn 3 0 0 rfl hp⟩
theorem ar_c76 (h3 : fc ≤ 3) (hpg : ∀ f, f < 3 → pg f ≤ 4) (hin : ∀ f g, f < 3 → g < 3 → pg f ≠ 0 → pg f = pg g → f = g) (hrn : ∀ u, u < 3 → rn u ≤ 1) (hch : ∀ f, f < 3 → pg f ≠ 0 → ch f < 32768) : ∀ d i cf, i + d = fc →
    (∀ f p, f < i → pg f = p + 1 → cf p = ch f) → (∀ p, p < 4 → (∀ f, f < i → pg f ≠ p + 1) → cf p = 0) →
    ∃ cf', (∀ f p, f < fc → pg f = p + 1 → cf' p = ch f) ∧ (∀ p, p < 4 → (∀ f, f < fc → pg f ≠ p + 1) → cf' p = 0) ∧
      ∀ (post : Int32 → SX → Prop), post (ar_rc rn 3 0 0) ((nI se), (nI ce), (nI le), (nI fc), (nI hd), (nI sl), dc, (ar_N dn), (ar_N cl), (ar_N cf'), (ar_N so), (ar_N bw), (ar_N wh), bf, af, (ar_N lk), (ar_N mv), (ar_P pg), fl, (ar_N fn), (ar_N ch), (ar_N rn), hl, (ar_N wr), (ar_N la), (ar_N mk)) → wX_checkpoint_76 post (nI se) (nI ce) (nI le) (nI fc) (nI hd) (nI sl) (d + 1) (nI i) dc (ar_N dn) (ar_N cl) (ar_N cf) (ar_N so) (ar_N bw) (ar_N wh) bf af (ar_N lk) (ar_N mv) (ar_P pg) fl (ar_N fn) (ar_N ch) (ar_N rn) hl (ar_N wr) (ar_N la) (ar_N mk) := by
  intro d
  induction d with
  | zero =>
    intro i cf hi a b
    have e : i = fc := by omega
    subst e
    refine ⟨cf, a, b, fun post hp => ?_⟩
    rw [wX_checkpoint_76]
    exact br_t (nI_le (Nat.le_refl _) (by omega)) (ar_xRC hrn hp)
  | succ d ih =>
    intro i cf hi a b
    have w : vp_in (nI i) 3 := vp_in_nI (by omega) (by omega)
    have p4 := hpg i (by omega)
    by_cases z : pg i = 0
    · obtain ⟨cf', q1, q2, q3⟩ := ih (i + 1) cf (by omega) (fun f p hf hp => by
        by_cases e : f = i
        · rw [e, z] at hp; omega
        · exact a f p (by omega) hp) (fun p hp hn => b p hp (fun f hf => hn f (by omega)))
      refine ⟨cf', q1, q2, fun post hp => ?_⟩
      rw [wX_checkpoint_76]
      exact br_f (nI_ge (by omega) (by omega)) ⟨w, br_t (by rw [ar_Pv0 (by omega) z]; decide) (nm_r (nI_1 i) (q3 post hp))⟩
    · obtain ⟨p0, hp0⟩ : ∃ p, pg i = p + 1 := ⟨pg i - 1, by omega⟩
      have c3 := hch i (by omega) z
      have ep : ar_P pg (nI i).toNatClampNeg = nI p0 := ar_Pv1 (by omega) hp0
      obtain ⟨cf', q1, q2, q3⟩ := ih (i + 1) (ar_u cf p0 (ch i)) (by omega) (fun f p hf hp => by
        by_cases e : f = i
        · have : p = p0 := by rw [e, hp0] at hp; omega
          rw [this, e, ar_us]
        · have : p ≠ p0 := fun y => e (hin f i (by omega) (by omega) (by omega) (by rw [hp, hp0, y]))
          rw [ar_un this]
          exact a f p (by omega) hp) (fun p hp hn => by
          have : p ≠ p0 := fun y => hn i (by omega) (by rw [hp0, y])
          rw [ar_un this]
          exact b p hp (fun f hf => hn f (by omega)))
      refine ⟨cf', q1, q2, fun post hp => ?_⟩
      rw [wX_checkpoint_76]
      exact br_f (nI_ge (by omega) (by omega)) ⟨w, br_f (by rw [ep]; exact nI_pos (by omega)) ⟨w, w, by rw [ep]; exact vp_in_nI (by omega) (by omega), nm_r (ar_Nu (by rw [ep]; exact ar_cl (by omega)) (by rw [ar_Nv (by omega), ar_vs c3])) (nm_r (nI_1 i) (q3 post hp))⟩⟩
theorem ar_c56 {post : Int32 → SX → Prop} (h : ∃ n, wX_checkpoint_76 post (nI se) (nI ce) (nI le) (nI fc) (nI hd) (nI sl) n (nI 0) dc (ar_N dn) (ar_N cl) (ar_N (ar_z cf 4)) (ar_N so) (ar_N bw) (ar_N wh) bf af (ar_N lk) (ar_N mv) (ar_P pg) fl (ar_N fn) (ar_N ch) (ar_N rn) hl (ar_N wr) (ar_N la) (ar_N mk)) : ∀ d i, i + d = 4 → wX_checkpoint_56 post (nI se) (nI ce) (nI le) (nI fc) (nI hd) (nI sl) (d + 1) (nI i) dc (ar_N dn) (ar_N cl) (ar_N (ar_z cf i)) (ar_N so) (ar_N bw) (ar_N wh) bf af (ar_N lk) (ar_N mv) (ar_P pg) fl (ar_N fn) (ar_N ch) (ar_N rn) hl (ar_N wr) (ar_N la) (ar_N mk) := by
  intro d
  induction d with
  | zero =>
    intro i hi
    have e : i = 4 := by omega
    subst e
    rw [wX_checkpoint_56]
    exact br_t (show (4 : Int32) ≤ nI 4 by decide) h
  | succ d ih =>
    intro i hi
    rw [wX_checkpoint_56]
    exact br_f (nI_ge (b := 4) (by omega) (by omega)) ⟨vp_in_nI (by omega) (by omega), nm_r (ar_Nz (by omega) ar_vs0) (nm_r (nI_1 i) (ih (i + 1) (by omega)))⟩
theorem ar_c18 {post : Int32 → SX → Prop} (hrn : ∀ u, u < 3 → rn u ≤ 1) (hla : ∀ u, u < 3 → la u ≤ 300) (h : ∃ n, wX_checkpoint_56 post (nI se) (nI ce) (nI le) (nI fc) (nI hd) (nI sl) n (nI 0) dc (ar_N dn) (ar_N (ar_k cl (fun t => if rn t = 0 then 0 else la t) 3)) (ar_N cf) (ar_N so) (ar_N bw) (ar_N wh) bf af (ar_N lk) (ar_N mv) (ar_P pg) fl (ar_N fn) (ar_N ch) (ar_N rn) hl (ar_N wr) (ar_N la) (ar_N mk)) : ∀ d i, i + d = 3 → wX_checkpoint_18 post (nI se) (nI ce) (nI le) (nI fc) (nI hd) (nI sl) (d + 1) (nI i) dc (ar_N dn) (ar_N (ar_k cl (fun t => if rn t = 0 then 0 else la t) i)) (ar_N cf) (ar_N so) (ar_N bw) (ar_N wh) bf af (ar_N lk) (ar_N mv) (ar_P pg) fl (ar_N fn) (ar_N ch) (ar_N rn) hl (ar_N wr) (ar_N la) (ar_N mk) := by
  intro d
  induction d with
  | zero =>
    intro i hi
    have e : i = 3 := by omega
    subst e
    rw [wX_checkpoint_18]
    exact br_t (show (3 : Int32) ≤ nI 3 by decide) h
  | succ d ih =>
    intro i hi
    have ih := ih (i + 1) (by omega)
    have m := hrn i (by omega)
    have l3 := hla i (by omega)
    have w : vp_in (nI i) 3 := vp_in_nI (by omega) (by omega)
    have er : ar_N rn (nI i).toNatClampNeg = nI (rn i) := ar_Nv (by omega)
    rw [← ar_k1] at ih
    rw [wX_checkpoint_18]
    refine br_f (nI_ge (b := 3) (by omega) (by omega)) ⟨w, ?_⟩
    by_cases z : rn i = 0
    · rw [if_pos z] at ih
      exact br_t (by rw [er, z]; rfl) ⟨w, nm_r (ar_Nu (ar_cl (by omega)) ar_vs0) (nm_r (nI_1 i) ih)⟩
    · rw [if_neg z] at ih
      exact br_f (by rw [er]; exact nI_ne0 (by omega) (by omega)) ⟨w, w, nm_r (ar_Nu (ar_cl (by omega)) (by rw [ar_Nv (by omega), ar_vs (by omega)])) (nm_r (nI_1 i) ih)⟩
theorem ar_CP (h : ar_INV se ce le fc hd B C cv dc bf af fl hl ld cm dn cl cf so bw wh lk mv pg fn ch rn wr la mk li mm lc) (hle : le ≤ 201) : ∃ X' : SX, (∀ k, i_Rel k X' (cv, (ar_N rn), hl, (ar_N wr), (ar_N li), (ar_N mm), (ar_N lc), ld)) ∧ ∀ (post : Int32 → SX → Prop), post (ar_rc rn 3 0 0) X' → wpX_checkpoint post ((nI se), (nI ce), (nI le), (nI fc), (nI hd), (nI sl), dc, (ar_N dn), (ar_N cl), (ar_N cf), (ar_N so), (ar_N bw), (ar_N wh), bf, af, (ar_N lk), (ar_N mv), (ar_P pg), fl, (ar_N fn), (ar_N ch), (ar_N rn), hl, (ar_N wr), (ar_N la), (ar_N mk)) := by
  obtain ⟨hP, hD, hG, hK, hT, h1, hM, hV, hC⟩ := h
  have D1 := ar_se_DL (s := le) ar_zv hD hD.1.1 (Nat.le_refl _)
  have hrn : ∀ u, u < 3 → rn u ≤ 1 := fun u hu => (hM u hu).1
  obtain ⟨a1, a2, a3, a4, a5, a6, a7⟩ := hP
  obtain ⟨b1, b2, b3, b4, b5, b6, b7⟩ := D1
  have hcv : ∀ c, c < 16 → cv c = ar_vl so wh af B le c := fun c hc => b4 c hc (Or.inr (by have := @ar_lz_le so wh le c; omega))
  obtain ⟨cf', q1, q2, q3⟩ := ar_c76 (se := le) (ce := le) (le := le) (fc := fc) (hd := hd) (sl := sl) (dc := dc) (dn := dn) (cl := ar_k cl (fun t => if rn t = 0 then 0 else la t) 3) (so := so) (bw := bw) (wh := wh) (bf := bf) (af := af) (lk := lk) (mv := mv) (pg := pg) (fl := fl) (fn := fn) (ch := ch) (rn := rn) (hl := hl) (wr := wr) (la := la) (mk := mk) a1.2.1 (fun f hf => (a2 f hf).1) a3 hrn
    (fun f hf hz => by have := b6 f (pg f - 1) hf (by omega); omega) fc 0 (ar_z cf 4) (by omega) (fun f p hf => by omega) (fun p hp _ => ar_zi hp)
  have inp : ∀ f p, f < 3 → pg f = p + 1 → f < fc := fun f p hf hq => by
    by_cases y : f < fc
    · exact y
    · have := (a2 f hf).2 (by omega); omega
  have hcf : ∀ p, p < 4 → cf' p ≤ le := fun p hp => by
    by_cases z : ∃ f, f < fc ∧ pg f = p + 1
    · obtain ⟨f, hf, hq⟩ := z
      rw [q1 f p hf hq]
      exact b6 f p (by omega) hq
    · rw [q2 p hp (fun f hf hq => z ⟨f, hf, hq⟩)]; exact Nat.zero_le _
  have fb := @ar_fs_b le cf' 4
  have hI : ar_INV le le le fc hd B C cv dc bf af fl hl ld cm dn (ar_k cl (fun t => if rn t = 0 then 0 else la t) 3) cf' so bw wh lk mv pg fn ch rn wr la mk li mm lc := by
    refine ⟨⟨a1, a2, a3, a4, a5, a6, a7⟩, ⟨⟨Nat.le_refl _, fb.1, by omega, by omega, Nat.le_refl _⟩, b2, fun c hc hz => ?_, b4, b5, b6, b7⟩, ar_LG_se hG hD.1.1, ⟨Nat.le_refl _, fun t ht => ?_, hcf⟩, hT, h1, hM, hV, hC⟩
    · by_cases z : ∃ f, f < 3 ∧ pg f = c / 4 + 1
      · obtain ⟨f, hf, hq⟩ := z
        by_cases y : ch f = 0
        · rw [(a5 f c hf hc hq).2 y]; exact hcv c hc
        · refine b7 f c hf hc hq y ?_
          rcases hz with hz | hz
          · exact Or.inl hz
          · right
            have e := q1 f (c / 4) (inp f _ hf hq) hq
            have := ar_fs_le (ce := le) (cf := cf') 4 (c / 4) (by omega) (by rw [e]; exact y)
            omega
      · rw [a7 c hc (fun f hf hq => z ⟨f, hf, hq⟩)]; exact hcv c hc
    · rw [ar_ki ht]
      by_cases z : rn t = 0
      · show (if rn t = 0 then 0 else la t) = _
        rw [if_pos z, hT.2.2.2 t ht (by omega)]
      · show (if rn t = 0 then 0 else la t) = _
        rw [if_neg z]
        exact hT.2.2.1 t ht (by have := hrn t ht; omega)
  refine ⟨_, fun k => ar_ri (k := k) (sl := sl) hI hle, fun post hp => ⟨4, ?_⟩⟩
  have c5 := ar_c56 (post := post) (se := le) (ce := le) (le := le) (fc := fc) (hd := hd) (sl := sl) (dc := dc) (dn := dn) (cl := ar_k cl (fun t => if rn t = 0 then 0 else la t) 3) (cf := cf) (so := so) (bw := bw) (wh := wh) (bf := bf) (af := af) (lk := lk) (mv := mv) (pg := pg) (fl := fl) (fn := fn) (ch := ch) (rn := rn) (hl := hl) (wr := wr) (la := la) (mk := mk) ⟨_, q3 post hp⟩ 4 0 rfl
  rw [ar_z0] at c5
  have c1 := ar_c18 (post := post) (se := le) (ce := le) (le := le) (fc := fc) (hd := hd) (sl := sl) (dc := dc) (dn := dn) (cl := cl) (cf := cf) (so := so) (bw := bw) (wh := wh) (bf := bf) (af := af) (lk := lk) (mv := mv) (pg := pg) (fl := fl) (fn := fn) (ch := ch) (rn := rn) (hl := hl) (wr := wr) (la := la) (mk := mk) hrn (fun u hu => (hM u hu).2.1) ⟨_, c5⟩ 3 0 rfl
  rw [ar_k0] at c1
  exact c1
end
theorem i_vc_checkpoint {k : Nat} {u : SX} {v : SY} (I : i_Rel k u v) (hk : k + 4 ≤ 2049) : wpX_checkpoint (fun r u' => wpY_checkpoint (fun r' => r' = r ∧ i_Rel (k + 4) u' v) v) u := by
  refine ar_el (P := fun u v => wpX_checkpoint (fun r u' => wpY_checkpoint (fun r' => r' = r ∧ i_Rel (k + 4) u' v) v) u) ?_ I
  intro se ce le fc hd sl dc dn cl cf so bw wh bf af lk mv pg fl fn ch rn hl wr la mk cv li mm lc ld B C cm h hle
  show wpX_checkpoint _ _
  obtain ⟨X', hX, hx⟩ := ar_CP (sl := sl) h hle
  exact hx _ (ar_yRC (fun u hu => (h.2.2.2.2.2.2.1 u hu).1) ⟨rfl, hX _⟩)
end
section
def ar_ya (lc : Nat → Nat) (ld : Nat → Int32) (t : Nat) : Nat → (Nat → Int32) → Nat → Int32
  | 0, s => s
  | i + 1, s => ar_ya lc ld t i (upd s (lc (20 * t + i)) (ld (20 * t + i)))
theorem ar_ya_uv {lc : Nat → Nat} {ld : Nat → Int32} {t c : Nat} : ∀ i s, ar_ya lc ld t i s c = ar_uv (ar_yl lc ld t i) c (s c) := by
  intro i
  induction i with
  | zero => intro s; rfl
  | succ i ih =>
    intro s
    unfold ar_ya ar_yl
    rw [ih]
    show _ = ar_uv (ar_yl lc ld t i) c (if lc (20 * t + i) = c then ld (20 * t + i) else s c)
    by_cases e : lc (20 * t + i) = c
    · rw [if_pos e, e, pk_us]
    · rw [if_neg e, pk_un (fun z => e z.symm)]
theorem ar_zz {g : Nat → Nat} {i : Nat} : ar_z (ar_z g i) i = ar_z g i := by
  funext j
  by_cases h : j < i
  · rw [ar_zi h, ar_zi h]
  · rw [ar_zo h]
def ar_yP (rn li lc : Nat → Nat) (ld : Nat → Int32) (t : Nat) : List (Nat × Int32) := if rn t = 1 then ar_yl lc ld t (li t) else []
section
variable {hl ld : Nat → Int32} {rn wr mm lc : Nat → Nat} {t : Nat}
theorem ar_yTB (ht : t < 3) (hlc : ∀ j, lc j < 16) : ∀ i (cv : Nat → Int32) (li : Nat → Nat) (r : Nat), li t = i → i ≤ 20 →
    ∃ li', (∀ u, u ≠ t → li' u = li u) ∧ ∀ (post : Int32 → SY → Prop), post (nI (r + i)) ((ar_ya lc ld t i cv), (ar_N rn), hl, (ar_N wr), (ar_N li'), (ar_N mm), (ar_N lc), ld) → wY_takeBack_2 post (nI t) (nI 0) (i + 1) (nI r) cv (ar_N rn) hl (ar_N wr) (ar_N li) (ar_N mm) (ar_N lc) ld := by
  intro i
  induction i with
  | zero =>
    intro cv li r hi _
    exact ⟨li, fun u _ => rfl, fun post hp => ar_yE ht (by omega) (by omega) hp⟩
  | succ i ih =>
    intro cv li r hi h20
    obtain ⟨li', q1, q2⟩ := ih (upd cv (lc (20 * t + i)) (ld (20 * t + i))) (ar_u li t i) (r + 1) ar_us (by omega)
    refine ⟨li', fun u hu => by rw [q1 u hu, ar_un hu], fun post hp => ar_yT ht hi (by omega) (Nat.zero_le _) (hlc _) (q2 post ?_)⟩
    rw [show r + 1 + i = r + (i + 1) by omega]
    exact hp
theorem ar_yAB {cv : Nat → Int32} {li : Nat → Nat} (ht : t < 3) (hlc : ∀ j, lc j < 16) (hr : rn t ≤ 1) (h20 : rn t = 1 → li t ≤ 20) : ∃ (r : Int32) (cv' : Nat → Int32) (li' : Nat → Nat), (∀ c, cv' c = ar_uv (ar_yP rn li lc ld t) c (cv c)) ∧ (∀ u, u ≠ t → li' u = li u) ∧
    ∀ (post : Int32 → SY → Prop), post r (cv', (ar_N (ar_u rn t 0)), hl, (ar_N wr), (ar_N li'), (ar_N mm), (ar_N lc), ld) → wpY_abort post (cv, (ar_N rn), hl, (ar_N wr), (ar_N li), (ar_N mm), (ar_N lc), ld) (nI t) := by
  unfold ar_yP
  by_cases z : rn t = 1
  · rw [if_pos z]
    obtain ⟨li', q1, q2⟩ := ar_yTB (hl := hl) (ld := ld) (rn := rn) (wr := wr) (mm := mm) ht hlc (li t) cv li 0 rfl (h20 z)
    have w : vp_in (nI t) 3 := vp_in_nI ht (by omega)
    have et : (nI t).toNatClampNeg = t := ar_cl (by omega)
    refine ⟨ar_bs (hl t) 16 0 0, ar_ya lc ld t (li t) cv, li', fun c => ar_ya_uv _ _, q1, fun post hp => ?_⟩
    unfold wpY_abort
    refine ar_yr0 ht z (br_t (by decide) ⟨_, q2 _ ⟨w, nm_r (ar_Nu et ar_vz0) ⟨w, ?_⟩⟩⟩)
    rw [et]
    exact ar_yB hp
  · rw [if_neg z]
    have z0 : rn t = 0 := by omega
    have e : ar_u rn t 0 = rn := funext fun j => by
      by_cases y : j = t
      · rw [y, ar_us, z0]
      · rw [ar_un y]
    refine ⟨-2, cv, li, fun c => rfl, fun u _ => rfl, fun post hp => ?_⟩
    rw [e] at hp
    unfold wpY_abort
    exact ar_yr2 ht z0 (br_f (by decide) hp)
theorem ar_yCR {cv : Nat → Int32} {li : Nat → Nat} (hlc : ∀ j, lc j < 16) (hr : ∀ u, u < 3 → rn u ≤ 1) (h20 : ∀ u, u < 3 → rn u = 1 → li u ≤ 20) : ∀ d i (cvi : Nat → Int32) (lii : Nat → Nat), i + d = 3 → (∀ c, cvi c = ar_ro (ar_yP rn li lc ld) c (cv c) i) → (∀ u, i ≤ u → lii u = li u) →
    ∃ cv' li', (∀ c, cv' c = ar_ro (ar_yP rn li lc ld) c (cv c) 3) ∧ ∀ (post : Int32 → SY → Prop) (x1 : Int32), post x1 (cv', (ar_N (ar_z rn 3)), hl, (ar_N wr), (ar_N li'), (ar_N mm), (ar_N lc), ld) → wY_crash_7 post x1 (d + 1) (nI i) cvi (ar_N (ar_z rn i)) hl (ar_N wr) (ar_N lii) (ar_N mm) (ar_N lc) ld := by
  intro d
  induction d with
  | zero =>
    intro i cvi lii hi hc _
    have e : i = 3 := by omega
    subst e
    refine ⟨cvi, lii, hc, fun post x1 hp => ?_⟩
    rw [wY_crash_7]
    exact br_t (show (3 : Int32) ≤ nI 3 by decide) hp
  | succ d ih =>
    intro i cvi lii hi hc hli
    have ri : ar_z rn i i = rn i := ar_zo (by omega)
    obtain ⟨r, cv1, li1, p1, p2, p3⟩ := ar_yAB (hl := hl) (ld := ld) (rn := ar_z rn i) (wr := wr) (mm := mm) (lc := lc) (t := i) (cv := cvi) (li := lii) (by omega) hlc (by rw [ri]; exact hr i (by omega)) (fun z => by rw [ri] at z; rw [hli i (Nat.le_refl _)]; exact h20 i (by omega) z)
    have eP : ar_yP (ar_z rn i) lii lc ld i = ar_yP rn li lc ld i := by unfold ar_yP; rw [ri, hli i (Nat.le_refl _)]
    obtain ⟨cv', li', q1, q2⟩ := ih (i + 1) cv1 li1 (by omega) (fun c => by rw [p1 c, eP, hc c]; rfl) (fun u hu => by rw [p2 u (by omega)]; exact hli u (by omega))
    refine ⟨cv', li', q1, fun post x1 hp => ?_⟩
    rw [wY_crash_7]
    rw [ar_z1] at p3
    exact br_f (nI_ge (b := 3) (by omega) (by omega)) (p3 _ (nm_r (nI_1 i) (q2 post x1 hp)))
end
section
variable {se ce le fc hd sl : Nat} {dc bf af fl hl : Nat → Int32} {dn cl cf so bw wh lk mv pg fn ch rn wr la mk : Nat → Nat}
variable {cv ld : Nat → Int32} {li mm lc : Nat → Nat}
variable {B C : Nat → Int32} {cm : Nat → Nat}
/-- the reference's crash: the committed cells -/
theorem ar_yCrash (h : ar_INV se ce le fc hd B C cv dc bf af fl hl ld cm dn cl cf so bw wh lk mv pg fn ch rn wr la mk li mm lc) : ∃ cv' li', (∀ c, c < 16 → cv' c = C c) ∧ ∀ (post : Int32 → SY → Prop), post (ar_rc rn 3 0 0) (cv', (ar_N (ar_z rn 3)), hl, (ar_N wr), (ar_N li'), (ar_N mm), (ar_N lc), ld) → wpY_crash post (cv, (ar_N rn), hl, (ar_N wr), (ar_N li), (ar_N mm), (ar_N lc), ld) := by
  obtain ⟨hP, hD, hG, hK, hT, h1, hM, hV, hC⟩ := h
  have hrn : ∀ u, u < 3 → rn u ≤ 1 := fun u hu => (hM u hu).1
  obtain ⟨cv', li', q1, q2⟩ := ar_yCR (hl := hl) (ld := ld) (wr := wr) (mm := mm) hC hrn (fun u hu r => by have := (h1 u hu r).2.2.1; have := (h1 u hu r).2.2.2.1; omega) 3 0 cv li rfl (fun c => rfl) (fun u _ => rfl)
  refine ⟨cv', li', fun c hc => ?_, fun post hp => ?_⟩
  · have gG := hG.2 le hD.1.1 (Nat.le_refl _)
    rw [q1 c, ← gG.1.2 c hc, hD.2.2.2.1 c hc (Or.inr (by have := @ar_lz_le so wh le c; omega))]
    refine ar_ro_cg 3 (fun u w hu => ?_)
    have : ar_yP rn li lc ld u = ar_Q so bw wh lk bf le u := by
      unfold ar_yP ar_Q
      by_cases r : rn u = 1
      · rw [if_pos r, ← hT.2.2.1 u hu r]
        exact (h1 u hu r).1.symm
      · rw [if_neg r, hT.2.2.2 u hu r, ar_c_0]
    rw [this]
  · unfold wpY_crash
    refine ar_yRC hrn ⟨4, ?_⟩
    have := q2 post _ hp
    rw [ar_z0] at this
    exact this
theorem ar_R1 (h : ar_CR so bw wh lk cl cf dn bf af B C dc ce se le fc hd) (hM : ∀ t, t < 3 → mk t ≤ 300 ∧ wr t ≤ 20) (hV : ∀ j, mv j ≤ 300) (hlc : ∀ j, lc j < 16) (hcv : ∀ c, c < 16 → cv c = C c) :
    ∃ X' : SX, (∀ k, i_Rel k X' (cv, (ar_N (ar_z rn 3)), hl, (ar_N wr), (ar_N li), (ar_N mm), (ar_N lc), ld)) ∧ ∀ (post : SX → Prop), post X' → wpX_restart post ((nI se), (nI ce), (nI se), (nI fc), (nI hd), (nI sl), dc, (ar_N dn), (ar_N cl), (ar_N cf), (ar_N so), (ar_N bw), (ar_N wh), bf, af, (ar_N lk), (ar_N mv), (ar_P (ar_z pg 3)), fl, (ar_N fn), (ar_N ch), (ar_N (ar_z rn 3)), hl, (ar_N wr), (ar_N (ar_z la 3)), (ar_N mk)) (nI 100000) := by
  obtain ⟨se', ce', le', hd', sl', dc', dn', cl', cf', so', bw', wh', bf', af', lk', pg', fl', fn', ch', la', cv', q1, q2, q3⟩ := ar_RS (sl := sl) (mv := mv) (pg := pg) (fl := fl) (fn := fn) (ch := ch) (rn := rn) (hl := hl) (wr := wr) (la := la) (mk := mk) (s := 100000) h (by omega)
  have s0 := q2 (by omega)
  rcases q1 with ⟨_, e1, e2, e3, c⟩ | ⟨e, _⟩
  · subst e1 e2 e3
    have hI := ar_INV_cl (cv := cv) (rn := ar_z rn 3) (mk := mk) (wr := wr) (mv := mv) (lc := lc) (so := so') (bw := bw') (wh := wh') (lk := lk') (bf := bf') (af := af') (hl := hl) (ld := ld) (li := li) (mm := mm) c hcv (fun t ht => ⟨ar_zi ht, hM t ht⟩) hV hlc
    exact ⟨_, fun k => ar_ri (k := k) (sl := sl') hI (by omega), q3⟩
  · omega
/-- two crashes -/
theorem ar_R2 {s : Nat} (h : ar_CR so bw wh lk cl cf dn bf af B C dc ce se le fc hd) (hs : s ≤ 40) (hM : ∀ t, t < 3 → mk t ≤ 300 ∧ wr t ≤ 20) (hV : ∀ j, mv j ≤ 300) (hlc : ∀ j, lc j < 16) (hcv : ∀ c, c < 16 → cv c = C c) :
    ∃ X' : SX, (∀ k, i_Rel k X' (cv, (ar_N (ar_z rn 3)), hl, (ar_N wr), (ar_N li), (ar_N mm), (ar_N lc), ld)) ∧ ∀ (post : Int32 → SX → Prop) (x2 : Int32), post x2 X' → wX_crashTwice_30 post x2 (nI s) (nI se) (nI ce) (nI se) (nI fc) (nI hd) (nI sl) dc (ar_N dn) (ar_N cl) (ar_N cf) (ar_N so) (ar_N bw) (ar_N wh) bf af (ar_N lk) (ar_N mv) (ar_P (ar_z pg 3)) fl (ar_N fn) (ar_N ch) (ar_N (ar_z rn 3)) hl (ar_N wr) (ar_N (ar_z la 3)) (ar_N mk) := by
  obtain ⟨se', ce', le', hd', sl', dc', dn', cl', cf', so', bw', wh', bf', af', lk', pg', fl', fn', ch', la', cv', q1, q2, q3⟩ := ar_RS (sl := sl) (mv := mv) (pg := pg) (fl := fl) (fn := fn) (ch := ch) (rn := rn) (hl := hl) (wr := wr) (la := la) (mk := mk) (s := s) h (by omega)
  have fin : ∀ B' : Nat → Int32, ar_CR so' bw' wh' lk' cl' cf' dn' bf' af' B' C dc' ce' se' le' fc hd' → ∃ X' : SX, (∀ k, i_Rel k X' (cv, (ar_N (ar_z rn 3)), hl, (ar_N wr), (ar_N li), (ar_N mm), (ar_N lc), ld)) ∧ ∀ (post : Int32 → SX → Prop) (x2 : Int32), post x2 X' → wX_crashTwice_30 post x2 (nI s) (nI se) (nI ce) (nI se) (nI fc) (nI hd) (nI sl) dc (ar_N dn) (ar_N cl) (ar_N cf) (ar_N so) (ar_N bw) (ar_N wh) bf af (ar_N lk) (ar_N mv) (ar_P (ar_z pg 3)) fl (ar_N fn) (ar_N ch) (ar_N (ar_z rn 3)) hl (ar_N wr) (ar_N (ar_z la 3)) (ar_N mk) := by
    intro B' hB
    obtain ⟨X', hX, hx⟩ := ar_R1 (sl := sl') (pg := pg') (fl := fl') (fn := fn') (ch := ch') (rn := ar_z rn 3) (hl := hl) (la := la') (ld := ld) (li := li) (mm := mm) hB hM hV hlc hcv
    rw [ar_zz] at hX hx
    refine ⟨X', hX, fun post x2 hp => ?_⟩
    unfold wX_crashTwice_30
    refine q3 _ (ar_LM ?_)
    rw [ar_zz]
    exact hx _ hp
  rcases q1 with ⟨_, e1, e2, e3, c⟩ | ⟨_, c⟩
  · subst e1 e2 e3
    have hI := ar_INV_cl (cv := C) (rn := ar_z rn 3) (mk := mk) (wr := wr) (mv := mv) (lc := lc) (so := so') (bw := bw') (wh := wh') (lk := lk') (bf := bf') (af := af') (hl := hl) (ld := ld) (li := li) (mm := mm) c (fun c _ => rfl) (fun t ht => ⟨ar_zi ht, hM t ht⟩) hV hlc
    exact fin C (ar_DL_CR hI.1 hI.2.1 hI.2.2.1 hI.2.2.2.1)
  · exact fin B c
end
theorem i_vc_crash {k : Nat} {u : SX} {v : SY} (I : i_Rel k u v) (hk : k + 4 ≤ 2049) : wpX_crash (fun r u' => wpY_crash (fun r' v' => r' = r ∧ i_Rel (k + 4) u' v') v) u := by
  refine ar_el (P := fun u v => wpX_crash (fun r u' => wpY_crash (fun r' v' => r' = r ∧ i_Rel (k + 4) u' v') v) u) ?_ I
  intro se ce le fc hd sl dc dn cl cf so bw wh bf af lk mv pg fl fn ch rn hl wr la mk cv li mm lc ld B C cm h hle
  show wpX_crash _ _
  obtain ⟨cv', li', hc, hy⟩ := ar_yCrash h
  obtain ⟨hP, hD, hG, hK, hT, h1, hM, hV, hC⟩ := h
  obtain ⟨X', hX, hx⟩ := ar_R1 (sl := sl) (pg := pg) (fl := fl) (fn := fn) (ch := ch) (rn := rn) (hl := hl) (la := la) (ld := ld) (li := li') (mm := mm) (ar_DL_CR hP hD hG hK) (fun t ht => (hM t ht).2.2) hV hC hc
  unfold wpX_crash
  exact ar_xRC (fun u hu => (hM u hu).1) (ar_LM (hx _ (hy _ ⟨rfl, hX _⟩)))
theorem i_vc_crashTwice {k : Nat} {u : SX} {v : SY} (I : i_Rel k u v) (hk : k + 4 ≤ 2049) (v1 : Int32) : wpX_crashTwice (fun r u' => wpY_crashTwice (fun r' v' => r' = r ∧ i_Rel (k + 4) u' v') v v1) u v1 := by
  refine ar_el (P := fun u v => wpX_crashTwice (fun r u' => wpY_crashTwice (fun r' v' => r' = r ∧ i_Rel (k + 4) u' v') v v1) u v1) ?_ I
  intro se ce le fc hd sl dc dn cl cf so bw wh bf af lk mv pg fl fn ch rn hl wr la mk cv li mm lc ld B C cm h hle
  show wpX_crashTwice _ _ _
  obtain ⟨cv', li', hc, hy⟩ := ar_yCrash h
  obtain ⟨hP, hD, hG, hK, hT, h1, hM, hV, hC⟩ := h
  unfold wpX_crashTwice
  have go : ∀ s : Nat, s ≤ 40 → ∀ z : Int32, z = nI s → wX_crashTwice_30 (fun r u' => wpY_crashTwice (fun r' v' => r' = r ∧ i_Rel (k + 4) u' v') (cv, (ar_N rn), hl, (ar_N wr), (ar_N li), (ar_N mm), (ar_N lc), ld) v1) (ar_rc rn 3 0 0) z (nI se) (nI ce) (nI se) (nI fc) (nI hd) (nI sl) dc (ar_N dn) (ar_N cl) (ar_N cf) (ar_N so) (ar_N bw) (ar_N wh) bf af (ar_N lk) (ar_N mv) (ar_P (ar_z pg 3)) fl (ar_N fn) (ar_N ch) (ar_N (ar_z rn 3)) hl (ar_N wr) (ar_N (ar_z la 3)) (ar_N mk) := by
    intro s hs z e
    subst e
    obtain ⟨X', hX, hx⟩ := ar_R2 (sl := sl) (pg := pg) (fl := fl) (fn := fn) (ch := ch) (rn := rn) (hl := hl) (la := la) (ld := ld) (li := li') (mm := mm) (s := s) (ar_DL_CR hP hD hG hK) hs (fun t ht => (hM t ht).2.2) hV hC hc
    refine hx _ _ ?_
    unfold wpY_crashTwice
    exact hy _ ⟨rfl, hX _⟩
  refine ar_xRC (fun u hu => (hM u hu).1) (ar_LM ?_)
  by_cases a : 0 ≤ v1
  · by_cases b : v1 ≤ 40
    · have b' := Int32.le_iff_toInt_le.mp b
      rw [show (40 : Int32).toInt = 40 by decide] at b'
      obtain ⟨j, hj, rfl⟩ := nI_of (Int32.not_lt.mpr a)
      rw [nI_toInt hj] at b'
      exact br_t a (br_t b (go j (by omega) _ rfl))
    · exact br_t a (br_f b (go 40 (by omega) _ rfl))
  · exact br_f a (go 0 (by omega) _ rfl)
end
