section
theorem pk_us {f : Nat → Int32} {k : Nat} {x : Int32} : upd f k x k = x := if_pos rfl
theorem pk_un {f : Nat → Int32} {k j : Nat} {x : Int32} (h : j ≠ k) : upd f k x j = f j := if_neg h
theorem pk_sub {a b : Nat} (h : b ≤ a) : nI a - nI b = nI (a - b) := by
  obtain ⟨c, rfl⟩ : ∃ c, a = c + b := ⟨a - b, by omega⟩
  rw [← nI_add, Int32.add_sub_cancel, Nat.add_sub_cancel]
theorem pk_m1 (n : Nat) : nI (n + 1) + (-1) = nI n := by
  rw [← nI_1, Int32.add_assoc, show (1 : Int32) + (-1) = 0 from rfl, Int32.add_zero]
theorem pk_mul (a b : Nat) : nI a * nI b = nI (a * b) := (Int32.ofNat_mul a b).symm
theorem pk_div {a d : Nat} (ha : a < 2 ^ 31) (h0 : 0 < d) (hd : d < 2 ^ 31) : nI a / nI d = nI (a / d) := by
  apply Int32.toInt_inj.mp
  rw [lg_idiv_nonneg (by rw [nI_toInt ha]; omega) (by rw [nI_toInt hd]; omega), nI_toInt ha, nI_toInt hd, nI_toInt (Nat.lt_of_le_of_lt (Nat.div_le_self a d) ha)]
  first | rfl | exact (Int.natCast_ediv _ _).symm
theorem pk_rem {a d : Nat} (ha : a < 2 ^ 31) (h0 : 0 < d) (hd : d < 2 ^ 31) : nI a - nI a / nI d * nI d = nI (a % d) := by
  rw [pk_div ha h0 hd, pk_mul, pk_sub (Nat.div_mul_le_self a d)]
  exact congrArg nI (by have := Nat.div_add_mod' a d; omega)
theorem pk_sub_toInt {a b : Nat} (ha : a < 2 ^ 30) (hb : b < 2 ^ 30) : (nI a - nI b).toInt = (a : Int) - b := by
  rw [Int32.toInt_sub, nI_toInt (by omega), nI_toInt (by omega)]
  exact Int.bmod_eq_of_le (by omega) (by omega)
theorem pk_sneg {a b : Nat} (hb : b < 2 ^ 30) (h : a < b) : nI a - nI b < 0 := by
  rw [Int32.lt_iff_toInt_lt, pk_sub_toInt (by omega) hb, show (0 : Int32).toInt = 0 from by decide]
  omega
theorem pk_ix (x : Int32) {n : Nat} (hn : n < 2 ^ 31) : x < 0 ∨ nI n ≤ x ∨ ∃ j : Nat, j < n ∧ x = nI j := by
  by_cases h : x < 0
  · exact Or.inl h
  · obtain ⟨j, hj, rfl⟩ := nI_of h
    by_cases h2 : j < n
    · exact Or.inr (Or.inr ⟨j, h2, rfl⟩)
    · exact Or.inr (Or.inl (nI_le (by omega) hj))
theorem pk_le {x y : Int32} {A B : Prop} (a b : Nat) (f : a ≤ b → A) (g : b < a → B) (hx : x = nI a := by rfl) (hy : y = nI b := by rfl) (ha : a < 2 ^ 31 := by omega) (hb : b < 2 ^ 31 := by omega) : (x ≤ y → A) ∧ (¬ x ≤ y → B) := by
  subst hx hy
  rw [nI_leI ha hb]
  exact ⟨f, fun z => g (by omega)⟩
theorem pk_lt {x y : Int32} {A B : Prop} (a b : Nat) (f : a < b → A) (g : b ≤ a → B) (hx : x = nI a := by rfl) (hy : y = nI b := by rfl) (ha : a < 2 ^ 31 := by omega) (hb : b < 2 ^ 31 := by omega) : (x < y → A) ∧ (¬ x < y → B) := by
  subst hx hy
  rw [nI_ltI ha hb]
  exact ⟨f, fun z => g (by omega)⟩
theorem pk_eq {x y : Int32} {A B : Prop} (a b : Nat) (f : a = b → A) (g : a ≠ b → B) (hx : x = nI a := by rfl) (hy : y = nI b := by rfl) (ha : a < 2 ^ 31 := by omega) (hb : b < 2 ^ 31 := by omega) : (x = y → A) ∧ (¬ x = y → B) := by
  subst hx hy
  rw [nI_eq ha hb]
  exact ⟨f, g⟩
theorem pk_in {x : Int32} (n N : Nat) (h : n < N) (hx : x = nI n := by rfl) (hN : N < 2 ^ 31 := by omega) : vp_in x N := by
  subst hx
  exact vp_in_nI h hN
theorem pk_cl {x : Int32} (n : Nat) (hx : x = nI n := by rfl) (h : n < 2 ^ 31 := by omega) : x.toNatClampNeg = n := by
  subst hx
  exact nI_clamp h
theorem pk_tn {n : Nat} (h : n < 2 ^ 32) : (nI n).toBitVec.toNat = n := Nat.mod_eq_of_lt h
theorem pk_and (x : Int32) {m : Int32} (k : Nat) (hm : m.toBitVec.toNat = 2 ^ k - 1) : x &&& m = nI (x.toBitVec.toNat % 2 ^ k) := by
  apply Int32.toBitVec_inj.mp
  apply BitVec.eq_of_toNat_eq
  rw [Int32.toBitVec_and, BitVec.toNat_and, hm, Nat.and_two_pow_sub_one_eq_mod]
  show _ = (BitVec.ofNat 32 _).toNat
  rw [BitVec.toNat_ofNat]
  exact (Nat.mod_eq_of_lt (Nat.lt_of_le_of_lt (Nat.mod_le _ _) x.toBitVec.isLt)).symm
theorem pk_andN {n : Nat} (h : n < 2 ^ 32) {m : Int32} (k : Nat) (hm : m.toBitVec.toNat = 2 ^ k - 1) : nI n &&& m = nI (n % 2 ^ k) := by
  rw [pk_and _ k hm, pk_tn h]
theorem pk_andE (x : Int32) {m : Int32} (k : Nat) (hm : m.toBitVec.toNat = 2 ^ k - 1) : ∃ j : Nat, j < 2 ^ k ∧ x &&& m = nI j := ⟨_, Nat.mod_lt _ (Nat.two_pow_pos k), pk_and x k hm⟩
theorem pk_andIn (x : Int32) {m : Int32} (k : Nat) (hm : m.toBitVec.toNat = 2 ^ k - 1) (hk : k ≤ 30) : vp_in (x &&& m) (2 ^ k) := by
  obtain ⟨j, hj, e⟩ := pk_andE x k hm
  rw [e]
  exact vp_in_nI hj (Nat.lt_of_le_of_lt (Nat.pow_le_pow_right (by decide) hk) (by decide))
theorem pk_shl (a s : Int32) (k : Nat) (hs : (s.toBitVec.smod 32).toNat = k) : (a <<< s).toBitVec.toNat = a.toBitVec.toNat * 2 ^ k % 2 ^ 32 := by
  show (a.toBitVec <<< (s.toBitVec.smod 32).toNat).toNat = _
  rw [hs, BitVec.toNat_shiftLeft, Nat.shiftLeft_eq]
theorem pk_shlN {n : Nat} (s : Int32) (k : Nat) (hs : (s.toBitVec.smod 32).toNat = k) (h : n * 2 ^ k < 2 ^ 32) : nI n <<< s = nI (n * 2 ^ k) := by
  apply Int32.toBitVec_inj.mp
  apply BitVec.eq_of_toNat_eq
  have hn : n < 2 ^ 32 := Nat.lt_of_le_of_lt (Nat.le_mul_of_pos_right n (Nat.two_pow_pos k)) h
  rw [pk_shl _ _ k hs, pk_tn hn, pk_tn h, Nat.mod_eq_of_lt h]
theorem pk_shr (a s : Int32) (k : Nat) (hs : (s.toBitVec.smod 32).toNat = k) : (a >>> s).toInt = a.toInt >>> k := by
  show (a.toBitVec.sshiftRight (s.toBitVec.smod 32).toNat).toInt = _
  rw [hs, BitVec.toInt_sshiftRight]
  rfl
theorem pk_shrN {n : Nat} (h : n < 2 ^ 31) (s : Int32) (k : Nat) (hs : (s.toBitVec.smod 32).toNat = k) : nI n >>> s = nI (n / 2 ^ k) := by
  apply Int32.toInt_inj.mp
  have h2 : n / 2 ^ k ≤ n := Nat.div_le_self _ _
  rw [pk_shr _ _ k hs, nI_toInt h, nI_toInt (by omega), Int.shiftRight_eq_div_pow]
  rfl
theorem pk_ushr (x s : Int32) (k : Nat) (hs : ((s.toUInt32 &&& Int32.toUInt32 31).toBitVec % 32).toNat = k) : (x.toUInt32 >>> (s.toUInt32 &&& Int32.toUInt32 31)).toInt32.toBitVec.toNat = x.toBitVec.toNat / 2 ^ k := by
  have e : (x.toUInt32 >>> (s.toUInt32 &&& Int32.toUInt32 31)).toInt32.toBitVec = x.toBitVec >>> k := by
    rw [← hs]
    exact UInt32.toBitVec_shiftRight _ _
  rw [e, BitVec.toNat_ushiftRight, Nat.shiftRight_eq_div_pow]
theorem pk_ushrN {n : Nat} (hn : n < 2 ^ 32) (s : Int32) (k : Nat) (hs : ((s.toUInt32 &&& Int32.toUInt32 31).toBitVec % 32).toNat = k) : ((nI n).toUInt32 >>> (s.toUInt32 &&& Int32.toUInt32 31)).toInt32 = nI (n / 2 ^ k) := by
  apply Int32.toBitVec_inj.mp
  apply BitVec.eq_of_toNat_eq
  rw [pk_ushr _ s k hs, pk_tn hn, pk_tn (Nat.lt_of_le_of_lt (Nat.div_le_self _ _) hn)]
theorem pk_nb (z : Int32) : narrow .byte (.int z.toInt8.toInt32) = .int z.toInt8.toInt32 := congrArg Value.int (by simp)
theorem pk_ns (z : Int32) : narrow .short (.int z.toInt16.toInt32) = .int z.toInt16.toInt32 := congrArg Value.int (by simp)
theorem pk_fb (r : Int32) : fits .byte (.int r.toInt8.toInt32) = true := by
  have ⟨a, b⟩ := lg_i2b_range r
  have h1 : (-128 : Int32).toInt = -128 := by decide
  have h2 : (127 : Int32).toInt = 127 := by decide
  simp only [fits, Bool.and_eq_true, decide_eq_true_eq, Int32.le_iff_toInt_le, h1, h2]
  omega
theorem pk_fs (r : Int32) : fits .short (.int r.toInt16.toInt32) = true := by
  have ⟨a, b⟩ := lg_i2s_range r
  have h1 : (-32768 : Int32).toInt = -32768 := by decide
  have h2 : (32767 : Int32).toInt = 32767 := by decide
  simp only [fits, Bool.and_eq_true, decide_eq_true_eq, Int32.le_iff_toInt_le, h1, h2]
  omega
theorem pk_charN {q : Nat} (hq : q < 65536) : narrow .char (.int (nI q)) = .int (nI q) ∧ fits .char (.int (nI q)) = true := by
  constructor
  · have e : (nI q).toUInt32.toUInt16.toUInt32.toInt32 = nI q := by
      apply Int32.toBitVec_inj.mp
      apply BitVec.eq_of_toNat_eq
      show (nI q).toUInt32.toUInt16.toUInt32.toNat = q % 2 ^ 32
      rw [UInt16.toNat_toUInt32, UInt32.toNat_toUInt16, show (nI q).toUInt32.toNat = q % 2 ^ 32 from rfl]
      omega
    exact congrArg Value.int e
  · have a : (0 : Int32) ≤ nI q := nI_pos' (by omega)
    have b : nI q ≤ 65535 := nI_le (b := 65535) (by omega) (by decide)
    show (decide ((0 : Int32) ≤ nI q) && decide (nI q ≤ 65535)) = true
    rw [decide_eq_true a, decide_eq_true b]
    rfl
theorem pk_char (x : Int32) : (x.toUInt32 % 65536).toInt32 = nI (x.toBitVec.toNat % 65536) := by
  apply Int32.toBitVec_inj.mp
  apply BitVec.eq_of_toNat_eq
  rw [pk_tn (by omega)]
  show (x.toUInt32 % 65536).toNat = _
  rw [UInt32.toNat_mod]
  rfl
theorem pk_nc (x : Int32) : narrow .char (.int (x.toUInt32 % 65536).toInt32) = .int (x.toUInt32 % 65536).toInt32 := by
  rw [pk_char]
  exact (pk_charN (Nat.mod_lt _ (by decide))).1
theorem pk_fc (x : Int32) : fits .char (.int (x.toUInt32 % 65536).toInt32) = true := by
  rw [pk_char]
  exact (pk_charN (Nat.mod_lt _ (by decide))).2
theorem pk_vb (z : Int32) : vp_nar .byte z.toInt8.toInt32 = z.toInt8.toInt32 := by rw [vp_nar_byte]; simp
theorem pk_vs (z : Int32) : vp_nar .short z.toInt16.toInt32 = z.toInt16.toInt32 := by rw [vp_nar_short]; simp
theorem pk_vc (z : Int32) : vp_nar .char (z.toUInt32 % 65536).toInt32 = (z.toUInt32 % 65536).toInt32 := Value.int.inj (pk_nc z)
/-! ===== Int32 by its bits: bt x i ===== -/
def bt (x : Int32) (i : Nat) : Bool := x.toBitVec.getLsbD i
theorem b_ext {x y : Int32} (h : ∀ i, i < 32 → bt x i = bt y i) : x = y := Int32.toBitVec_inj.mp (BitVec.eq_of_getLsbD_eq (fun i hi => h i hi))
theorem b_or (x y : Int32) (i : Nat) : bt (x ||| y) i = (bt x i || bt y i) := by unfold bt; rw [Int32.toBitVec_or, BitVec.getLsbD_or]
theorem b_and (x y : Int32) (i : Nat) : bt (x &&& y) i = (bt x i && bt y i) := by unfold bt; rw [Int32.toBitVec_and, BitVec.getLsbD_and]
theorem b_xor (x y : Int32) (i : Nat) : bt (x ^^^ y) i = (bt x i ^^ bt y i) := by unfold bt; rw [Int32.toBitVec_xor, BitVec.getLsbD_xor]
theorem b_big {x : Int32} {i : Nat} (h : 32 ≤ i) : bt x i = false := BitVec.getLsbD_of_ge _ _ h
theorem b_255 (i : Nat) : bt 255 i = decide (i < 8) := by
  rcases Nat.lt_or_ge i 32 with h | h
  · exact (by decide +kernel : ∀ i, i < 32 → bt 255 i = decide (i < 8)) i h
  · rw [b_big h, decide_eq_false (by omega)]
theorem b_65535 (i : Nat) : bt 65535 i = decide (i < 16) := by
  rcases Nat.lt_or_ge i 32 with h | h
  · exact (by decide +kernel : ∀ i, i < 32 → bt 65535 i = decide (i < 16)) i h
  · rw [b_big h, decide_eq_false (by omega)]
theorem b_m1 : ∀ i, i < 32 → bt (-1) i = true := by decide +kernel
theorem b_0 (i : Nat) : bt 0 i = false := BitVec.getLsbD_zero
theorem s_l : ∀ n, n < 32 → ((nI n &&& 31).toBitVec.smod 32).toNat = n := by decide +kernel
theorem s_u : ∀ n, n < 32 → (((nI n).toUInt32 &&& Int32.toUInt32 31).toBitVec % 32).toNat = n := by decide +kernel
theorem b_shl (n : Nat) (hn : n < 32) (x : Int32) {i : Nat} (hi : i < 32) : bt (x <<< (nI n &&& 31)) i = (decide (n ≤ i) && bt x (i - n)) := by
  unfold bt
  rw [Int32.toBitVec_shiftLeft]
  show (x.toBitVec <<< ((nI n &&& 31).toBitVec.smod 32).toNat).getLsbD i = _
  rw [s_l n hn, BitVec.getLsbD_shiftLeft]
  rcases Nat.lt_or_ge i n with h | h
  · simp [h, Nat.not_le.mpr h]
  · simp [hi, h, Nat.not_lt.mpr h]
theorem b_ushr (n : Nat) (hn : n < 32) (x : Int32) (i : Nat) : bt ((x.toUInt32 >>> ((nI n).toUInt32 &&& Int32.toUInt32 31)).toInt32) i = bt x (n + i) := by
  show (x.toUInt32 >>> ((nI n).toUInt32 &&& Int32.toUInt32 31)).toBitVec.getLsbD i = x.toUInt32.toBitVec.getLsbD (n + i)
  rw [UInt32.toBitVec_shiftRight]
  show (x.toUInt32.toBitVec >>> (((nI n).toUInt32 &&& Int32.toUInt32 31).toBitVec % 32).toNat).getLsbD i = _
  rw [s_u n hn, BitVec.getLsbD_ushiftRight]
theorem b_sshr (n : Nat) (hn : n < 32) (x : Int32) {i : Nat} (hi : i < 32) : bt (x >>> (nI n &&& 31)) i = if n + i < 32 then bt x (n + i) else bt x 31 := by
  unfold bt
  rw [Int32.toBitVec_shiftRight]
  show (x.toBitVec.sshiftRight ((nI n &&& 31).toBitVec.smod 32).toNat).getLsbD i = _
  rw [s_l n hn, BitVec.getLsbD_sshiftRight, BitVec.msb_eq_getLsbD_last]
  simp [hi]
theorem b_shl8 (x : Int32) {i : Nat} (hi : i < 32) : bt (x <<< ((8 : Int32) &&& 31)) i = (decide (8 ≤ i) && bt x (i - 8)) := b_shl 8 (by omega) x hi
theorem b_shl16 (x : Int32) {i : Nat} (hi : i < 32) : bt (x <<< ((16 : Int32) &&& 31)) i = (decide (16 ≤ i) && bt x (i - 16)) := b_shl 16 (by omega) x hi
theorem b_shl24 (x : Int32) {i : Nat} (hi : i < 32) : bt (x <<< ((24 : Int32) &&& 31)) i = (decide (24 ≤ i) && bt x (i - 24)) := b_shl 24 (by omega) x hi
theorem b_sshr8 (x : Int32) {i : Nat} (hi : i < 32) : bt (x >>> ((8 : Int32) &&& 31)) i = if 8 + i < 32 then bt x (8 + i) else bt x 31 := b_sshr 8 (by omega) x hi
/-! ===== nI under and, xor, >>>, one bit, 65535 ===== -/
theorem nx_and (a b : Nat) : nI a &&& nI b = nI (a &&& b) := by
  apply Int32.toBitVec_inj.1
  show BitVec.ofNat 32 a &&& BitVec.ofNat 32 b = BitVec.ofNat 32 (a &&& b)
  apply BitVec.eq_of_getLsbD_eq
  intro i hi
  simp [hi]
theorem nx_xor (a b : Nat) : nI a ^^^ nI b = nI (a ^^^ b) := by
  apply Int32.toBitVec_inj.1
  show BitVec.ofNat 32 a ^^^ BitVec.ofNat 32 b = BitVec.ofNat 32 (a ^^^ b)
  apply BitVec.eq_of_getLsbD_eq
  intro i hi
  simp [hi]
theorem nx_cnt : ∀ j : Fin 32, (UInt32.ofNat j.val &&& Int32.toUInt32 31).toNat % 32 = j.val := by decide +kernel
end
section
/-! the machine: states, reachability, decoding, one step -/
abbrev mx_us (w k : Int32) : Int32 := (w.toUInt32 >>> (k.toUInt32 &&& Int32.toUInt32 31)).toInt32
/-- u with the machine's changing parts; not halted -/
def mx_c (u : SX) (ip ng zr cy ov pc : Int32) (mm rr pl : Nat → Int32) : SX := match u with
  | (nc, sc, tc, lv, ce, tk, sz, ls, dp, sd, _, _, _, _, _, _, st, _, nk, nx, ny, nw, ek, ex, ey, ew, qk, qx, qy, qz, qw, fn, fs, fp, gn, gp, gs, gq, _, _, _) => (nc, sc, tc, lv, ce, tk, sz, ls, dp, sd, ip, ng, zr, cy, ov, 0, st, pc, nk, nx, ny, nw, ek, ex, ey, ew, qk, qx, qy, qz, qw, fn, fs, fp, gn, gp, gs, gq, mm, rr, pl)
/-- u when the machine has halted -/
def mx_h (u : SX) (ip ng zr cy ov pc : Int32) (mm rr pl : Nat → Int32) : SX := match u with
  | (nc, sc, tc, lv, ce, tk, sz, ls, dp, sd, _, _, _, _, _, _, _, _, nk, nx, ny, nw, ek, ex, ey, ew, qk, qx, qy, qz, qw, fn, fs, fp, gn, gp, gs, gq, _, _, _) => (nc, sc, tc, lv, ce, tk, sz, ls, dp, sd, ip, ng, zr, cy, ov, 1, rr 12, pc, nk, nx, ny, nw, ek, ex, ey, ew, qk, qx, qy, qz, qw, fn, fs, fp, gn, gp, gs, gq, mm, rr, pl)
def mx_R (post : Int32 → SX → Prop) (s : SX) : Prop := match s with
  | (nc, sc, tc, lv, ce, tk, sz, ls, dp, sd, ip, ng, zr, cy, ov, hl, st, pc, nk, nx, ny, nw, ek, ex, ey, ew, qk, qx, qy, qz, qw, fn, fs, fp, gn, gp, gs, gq, mm, rr, pl) => ∃ n, wX_run_70 post n nc sc tc lv ce tk sz ls dp sd ip ng zr cy ov hl st pc nk nx ny nw ek ex ey ew qk qx qy qz qw fn fs fp gn gp gs gq mm rr pl
def mx_r (s s' : SX) : Prop := ∀ post, mx_R post s' → mx_R post s
theorem mx_rf (s : SX) : mx_r s s := fun _ h => h
theorem mx_tr {a b c : SX} (h : mx_r a b) (k : mx_r b c) : mx_r a c := fun post hp => h post (k post hp)
theorem mx_st {u : SX} {ip ng zr cy ov pc : Int32} {mm rr pl : Nat → Int32} {s' : SX} (h : ∀ post : SX → Prop, post s' → wpX_step post (mx_c u ip ng zr cy ov pc mm rr pl)) : mx_r (mx_c u ip ng zr cy ov pc mm rr pl) s' := by
  intro post hp
  obtain ⟨nc, sc, tc, lv, ce, tk, sz, ls, dp, sd, _, _, _, _, _, _, st, _, nk, nx, ny, nw, ek, ex, ey, ew, qk, qx, qy, qz, qw, fn, fs, fp, gn, gp, gs, gq, _, _, _⟩ := u
  obtain ⟨b1, b2, b3, b4, b5, b6, b7, b8, b9, b10, b11, b12, b13, b14, b15, b16, b17, b18, b19, b20, b21, b22, b23, b24, b25, b26, b27, b28, b29, b30, b31, b32, b33, b34, b35, b36, b37, b38, b39, b40, b41⟩ := s'
  obtain ⟨n, hn⟩ := hp
  exact ⟨n + 1, br_t rfl (h _ hn)⟩
/-- what a condition asks -/
def mx_mt (c : Nat) (ng zr cy ov : Int32) : Prop := match c with
  | 0 => ¬ zr = 0
  | 1 => ¬ zr = 1
  | 8 => ¬ cy = 0 ∧ zr = 0
  | 9 => ¬ (¬ cy = 0 ∧ zr = 0)
  | 10 => ng = ov
  | 11 => ¬ ng = ov
  | 12 => zr = 0 ∧ ng = ov
  | 13 => ¬ (zr = 0 ∧ ng = ov)
  | _ => True
abbrev mx_cc (c : Nat) : Prop := c = 0 ∨ c = 1 ∨ c = 8 ∨ c = 9 ∨ c = 10 ∨ c = 11 ∨ c = 12 ∨ c = 13 ∨ c = 14
section
variable {nc sc tc lv ce tk sz ls dp sd ip ng zr cy ov hl st pc : Int32} {nk nx ny nw ek ex ey ew qk qx qy qz qw fn fs fp gn gp gs gq mm rr pl : Nat → Int32}
theorem mx_m0 {post : Int32 → Prop} {c z : Int32} (h14 : ¬ 14 ≤ c) (hc : c &&& 1 = 0) (h1 : ¬ z = 0 → post 1) (h0 : z = 0 → post 0) : wX_isMet_140 post c z nc sc tc lv ce tk sz ls dp sd ip ng zr cy ov hl st pc nk nx ny nw ek ex ey ew qk qx qy qz qw fn fs fp gn gp gs gq mm rr pl :=
  br_f h14 (br_t hc (br_c (fun e => h0 e) (fun e => h1 e)))
theorem mx_m1 {post : Int32 → Prop} {c z : Int32} (h14 : ¬ 14 ≤ c) (hc : ¬ c &&& 1 = 0) (h1 : ¬ z = 1 → post 1) (h0 : z = 1 → post 0) : wX_isMet_140 post c z nc sc tc lv ce tk sz ls dp sd ip ng zr cy ov hl st pc nk nx ny nw ek ex ey ew qk qx qy qz qw fn fs fp gn gp gs gq mm rr pl :=
  br_f h14 (br_f hc (br_c (fun e => h0 e) (fun e => h1 e)))
theorem mx_01 : ¬ (0 : Int32) = 1 := by decide
theorem mx_10 : ¬ (1 : Int32) = 0 := by decide
theorem mx_met {post : Int32 → Prop} (c : Nat) (hc : mx_cc c) (h1 : mx_mt c ng zr cy ov → post 1) (h0 : ¬ mx_mt c ng zr cy ov → post 0) : wpX_isMet post (nc, sc, tc, lv, ce, tk, sz, ls, dp, sd, ip, ng, zr, cy, ov, hl, st, pc, nk, nx, ny, nw, ek, ex, ey, ew, qk, qx, qy, qz, qw, fn, fs, fp, gn, gp, gs, gq, mm, rr, pl) (nI c) := by
  rcases hc with rfl | rfl | rfl | rfl | rfl | rfl | rfl | rfl | rfl
  · exact nm_r (e' := 0) (by decide) (br_t rfl (mx_m0 (by decide) (by decide) (fun e => h1 e) (fun e => h0 (fun z => z e))))
  · exact nm_r (e' := 0) (by decide) (br_t rfl (mx_m1 (by decide) (by decide) (fun e => h1 e) (fun e => h0 (fun z => z e))))
  · refine nm_r (e' := 4) (by decide) (br_f (by decide) (br_f (by decide) (br_f (by decide) (br_f (by decide) (br_t rfl ?_)))))
    refine br_c (fun e => ?_) (fun e => br_c (fun z => ?_) (fun z => ?_))
    · exact mx_m0 (by decide) (by decide) (fun q => absurd rfl q) (fun _ => h0 (fun q => q.1 e))
    · exact mx_m0 (by decide) (by decide) (fun _ => h1 ⟨e, z⟩) (fun q => absurd q mx_10)
    · exact mx_m0 (by decide) (by decide) (fun q => absurd rfl q) (fun _ => h0 (fun q => z q.2))
  · refine nm_r (e' := 4) (by decide) (br_f (by decide) (br_f (by decide) (br_f (by decide) (br_f (by decide) (br_t rfl ?_)))))
    refine br_c (fun e => ?_) (fun e => br_c (fun z => ?_) (fun z => ?_))
    · exact mx_m1 (by decide) (by decide) (fun _ => h1 (fun q => q.1 e)) (fun q => absurd q mx_01)
    · exact mx_m1 (by decide) (by decide) (fun q => absurd rfl q) (fun _ => h0 (fun q => q ⟨e, z⟩))
    · exact mx_m1 (by decide) (by decide) (fun _ => h1 (fun q => z q.2)) (fun q => absurd q mx_01)
  · refine nm_r (e' := 5) (by decide) (br_f (by decide) (br_f (by decide) (br_f (by decide) (br_f (by decide) (br_f (by decide) (br_t rfl ?_))))))
    refine br_c (fun e => ?_) (fun e => ?_)
    · exact mx_m0 (by decide) (by decide) (fun _ => h1 e) (fun q => absurd q mx_10)
    · exact mx_m0 (by decide) (by decide) (fun q => absurd rfl q) (fun _ => h0 e)
  · refine nm_r (e' := 5) (by decide) (br_f (by decide) (br_f (by decide) (br_f (by decide) (br_f (by decide) (br_f (by decide) (br_t rfl ?_))))))
    refine br_c (fun e => ?_) (fun e => ?_)
    · exact mx_m1 (by decide) (by decide) (fun q => absurd rfl q) (fun _ => h0 (fun q => q e))
    · exact mx_m1 (by decide) (by decide) (fun _ => h1 e) (fun q => absurd q mx_01)
  · refine nm_r (e' := 6) (by decide) (br_f (by decide) (br_f (by decide) (br_f (by decide) (br_f (by decide) (br_f (by decide) (br_f (by decide) (br_t rfl ?_)))))))
    refine br_c (fun z => br_c (fun e => ?_) (fun e => ?_)) (fun z => ?_)
    · exact mx_m0 (by decide) (by decide) (fun _ => h1 ⟨z, e⟩) (fun q => absurd q mx_10)
    · exact mx_m0 (by decide) (by decide) (fun q => absurd rfl q) (fun _ => h0 (fun q => e q.2))
    · exact mx_m0 (by decide) (by decide) (fun q => absurd rfl q) (fun _ => h0 (fun q => z q.1))
  · refine nm_r (e' := 6) (by decide) (br_f (by decide) (br_f (by decide) (br_f (by decide) (br_f (by decide) (br_f (by decide) (br_f (by decide) (br_t rfl ?_)))))))
    refine br_c (fun z => br_c (fun e => ?_) (fun e => ?_)) (fun z => ?_)
    · exact mx_m1 (by decide) (by decide) (fun q => absurd rfl q) (fun _ => h0 (fun q => q ⟨z, e⟩))
    · exact mx_m1 (by decide) (by decide) (fun _ => h1 (fun q => e q.2)) (fun q => absurd q mx_01)
    · exact mx_m1 (by decide) (by decide) (fun _ => h1 (fun q => z q.1)) (fun q => absurd q mx_01)
  · exact nm_r (e' := 7) (by decide) (br_f (by decide) (br_f (by decide) (br_f (by decide) (br_f (by decide) (br_f (by decide) (br_f (by decide) (br_f (by decide) (br_t (by decide) (h1 trivial)))))))))
end
/-! the last operand -/
def mx_trn (x b : Int32) : Int32 := if b = 0 then x else mx_us x b ||| (x <<< ((32 - b) &&& 31))
def mx_op (w : Int32) (rr : Nat → Int32) (y : Int32) : Prop := ∀ (u : SX) (ip ng zr cy ov pc : Int32) (mm pl : Nat → Int32) (P : Int32 → Prop), P y → wpX_lastOperand P (mx_c u ip ng zr cy ov pc mm rr pl) w
section
variable {nc sc tc lv ce tk sz ls dp sd ip ng zr cy ov hl st pc : Int32} {nk nx ny nw ek ex ey ew qk qx qy qz qw fn fs fp gn gp gs gq mm rr pl : Nat → Int32}
theorem mx_turn {P : Int32 → Prop} {x b : Int32} (h : P (mx_trn x b)) : wpX_turned P (nc, sc, tc, lv, ce, tk, sz, ls, dp, sd, ip, ng, zr, cy, ov, hl, st, pc, nk, nx, ny, nw, ek, ex, ey, ew, qk, qx, qy, qz, qw, fn, fs, fp, gn, gp, gs, gq, mm, rr, pl) x b := by
  unfold mx_trn at h
  refine br_c (fun e => ?_) (fun e => ?_)
  · rw [if_pos e] at h; exact h
  · rw [if_neg e] at h; exact h
end
abbrev mx_dI (w y : Int32) : Prop := ¬ (w &&& 33554432) = 0 ∧ mx_trn (w &&& 255) (2 * (mx_us w 8 &&& 15)) = y
theorem mx_opI {w y : Int32} {rr : Nat → Int32} (h : mx_dI w y) : mx_op w rr y := by
  intro u ip ng zr cy ov pc mm pl P hP
  obtain ⟨nc, sc, tc, lv, ce, tk, sz, ls, dp, sd, _, _, _, _, _, _, st, _, nk, nx, ny, nw, ek, ex, ey, ew, qk, qx, qy, qz, qw, fn, fs, fp, gn, gp, gs, gq, _, _, _⟩ := u
  exact br_f h.1 (mx_turn (P := fun r => P r) (by rw [h.2]; exact hP))
/-- how: 0 left, 1 right, 3 round; bit 4: by a register -/
abbrev mx_dS (w : Int32) (rm how reg : Nat) : Prop := (w &&& 33554432) = 0 ∧ (w &&& 15) = nI rm ∧ (mx_us w 5 &&& 3) = nI how ∧ (mx_us w 4 &&& 1) = nI reg
theorem mx_sl0 (x : Int32) : x <<< ((0 : Int32) &&& 31) = x := by
  apply b_ext; intro i hi
  exact (b_shl 0 (by decide) x hi).trans (by simp)
theorem mx_opR {w : Int32} {rr : Nat → Int32} (rm : Nat) (hr : rm < 16) (h : mx_dS w rm 0 0 ∧ (mx_us w 7 &&& 31) = 0) : mx_op w rr (rr rm) := by
  intro u ip ng zr cy ov pc mm pl P hP
  obtain ⟨nc, sc, tc, lv, ce, tk, sz, ls, dp, sd, _, _, _, _, _, _, st, _, nk, nx, ny, nw, ek, ex, ey, ew, qk, qx, qy, qz, qw, fn, fs, fp, gn, gp, gs, gq, _, _, _⟩ := u
  obtain ⟨⟨h1, h2, h3, h4⟩, h5⟩ := h
  refine br_t h1 ⟨by rw [h2]; exact vp_in_nI hr (by decide), nm_r (e' := rr rm) (by rw [h2, nI_clamp (by omega)]) (nm_r h3 (br_t h4 ?_))⟩
  refine br_f (by decide) (br_t (by rw [h5]; decide) (br_t rfl ?_))
  rw [h5, mx_sl0]; exact hP
theorem mx_opS {w : Int32} {rr : Nat → Int32} (rm : Nat) (hr : rm < 16) (h : mx_dS w rm 1 0 ∧ (mx_us w 7 &&& 31) = 1) : mx_op w rr (mx_us (rr rm) 1) := by
  intro u ip ng zr cy ov pc mm pl P hP
  obtain ⟨nc, sc, tc, lv, ce, tk, sz, ls, dp, sd, _, _, _, _, _, _, st, _, nk, nx, ny, nw, ek, ex, ey, ew, qk, qx, qy, qz, qw, fn, fs, fp, gn, gp, gs, gq, _, _, _⟩ := u
  obtain ⟨⟨h1, h2, h3, h4⟩, h5⟩ := h
  refine br_t h1 ⟨by rw [h2]; exact vp_in_nI hr (by decide), nm_r (e' := rr rm) (by rw [h2, nI_clamp (by omega)]) (nm_r h3 (br_t h4 ?_))⟩
  refine br_f (by decide) (br_t (by rw [h5]; decide) (br_f (by decide) ?_))
  rw [h5]; exact hP
theorem mx_opL {w : Int32} {rr : Nat → Int32} (rm rs k : Nat) (hr : rm < 16) (hs : rs < 16) (hk : k < 32) (h : mx_dS w rm 0 1 ∧ (mx_us w 8 &&& 15) = nI rs) (hv : rr rs &&& 255 = nI k) : mx_op w rr (rr rm <<< (nI k &&& 31)) := by
  intro u ip ng zr cy ov pc mm pl P hP
  obtain ⟨nc, sc, tc, lv, ce, tk, sz, ls, dp, sd, _, _, _, _, _, _, st, _, nk, nx, ny, nw, ek, ex, ey, ew, qk, qx, qy, qz, qw, fn, fs, fp, gn, gp, gs, gq, _, _, _⟩ := u
  obtain ⟨⟨h1, h2, h3, h4⟩, h5⟩ := h
  refine br_t h1 ⟨by rw [h2]; exact vp_in_nI hr (by decide), nm_r (e' := rr rm) (by rw [h2, nI_clamp (by omega)]) (nm_r h3 (br_f (by rw [h4]; decide) ⟨by rw [h5]; exact vp_in_nI hs (by decide), ?_⟩))⟩
  have e : rr (mx_us w 8 &&& 15).toNatClampNeg &&& 255 = nI k := by rw [h5, nI_clamp (by omega)]; exact hv
  refine br_f (by decide) (br_t (by rw [e]; exact nI_le (b := 31) (by omega) (by decide)) (br_t rfl ?_))
  rw [e]; exact hP
theorem mx_opQ {w : Int32} {rr : Nat → Int32} (rm rs k : Nat) (hr : rm < 16) (hs : rs < 16) (hk : k < 32) (h : mx_dS w rm 1 1 ∧ (mx_us w 8 &&& 15) = nI rs) (hv : rr rs &&& 255 = nI k) : mx_op w rr (mx_us (rr rm) (nI k)) := by
  intro u ip ng zr cy ov pc mm pl P hP
  obtain ⟨nc, sc, tc, lv, ce, tk, sz, ls, dp, sd, _, _, _, _, _, _, st, _, nk, nx, ny, nw, ek, ex, ey, ew, qk, qx, qy, qz, qw, fn, fs, fp, gn, gp, gs, gq, _, _, _⟩ := u
  obtain ⟨⟨h1, h2, h3, h4⟩, h5⟩ := h
  refine br_t h1 ⟨by rw [h2]; exact vp_in_nI hr (by decide), nm_r (e' := rr rm) (by rw [h2, nI_clamp (by omega)]) (nm_r h3 (br_f (by rw [h4]; decide) ⟨by rw [h5]; exact vp_in_nI hs (by decide), ?_⟩))⟩
  have e : rr (mx_us w 8 &&& 15).toNatClampNeg &&& 255 = nI k := by rw [h5, nI_clamp (by omega)]; exact hv
  refine br_f (by decide) (br_t (by rw [e]; exact nI_le (b := 31) (by omega) (by decide)) (br_f (by decide) ?_))
  rw [e]; exact hP
theorem mx_opO {w : Int32} {rr : Nat → Int32} (rm rs k : Nat) (hr : rm < 16) (hs : rs < 16) (hk : k < 32) (h : mx_dS w rm 3 1 ∧ (mx_us w 8 &&& 15) = nI rs) (hv : rr rs &&& 255 = nI k) : mx_op w rr (mx_trn (rr rm) (nI k)) := by
  intro u ip ng zr cy ov pc mm pl P hP
  obtain ⟨nc, sc, tc, lv, ce, tk, sz, ls, dp, sd, _, _, _, _, _, _, st, _, nk, nx, ny, nw, ek, ex, ey, ew, qk, qx, qy, qz, qw, fn, fs, fp, gn, gp, gs, gq, _, _, _⟩ := u
  obtain ⟨⟨h1, h2, h3, h4⟩, h5⟩ := h
  refine br_t h1 ⟨by rw [h2]; exact vp_in_nI hr (by decide), nm_r (e' := rr rm) (by rw [h2, nI_clamp (by omega)]) (nm_r h3 (br_f (by rw [h4]; decide) ⟨by rw [h5]; exact vp_in_nI hs (by decide), ?_⟩))⟩
  have e : rr (mx_us w 8 &&& 15).toNatClampNeg &&& 255 = nI k := by rw [h5, nI_clamp (by omega)]; exact hv
  have e2 : nI k &&& 31 = nI k := by
    rw [pk_andN (by omega) 5 (by decide), Nat.mod_eq_of_lt (by omega)]
  refine br_t rfl (mx_turn (P := fun r => P r) ?_)
  rw [e, e2]; exact hP
/-! operations -/
def mx_al (o : Nat) (x y : Int32) : Int32 := match o with
  | 0 => x &&& y
  | 2 => x - y
  | 3 => y - x
  | 4 => x + y
  | 12 => x ||| y
  | 14 => x &&& (y ^^^ (-1))
  | 15 => y ^^^ (-1)
  | _ => y
abbrev mx_oo (o : Nat) : Prop := o = 0 ∨ o = 2 ∨ o = 3 ∨ o = 4 ∨ o = 12 ∨ o = 13 ∨ o = 14 ∨ o = 15
/-- the word is an operation: condition, operation, flags, the first operand's register, the result's -/
abbrev mx_D (w : Int32) (c o s rn rd : Nat) : Prop := mx_us w 28 = nI c ∧ ¬ (mx_us w 24 &&& 15) = 15 ∧ ¬ (mx_us w 25 &&& 7) = 5 ∧ ¬ (mx_us w 26 &&& 3) = 1 ∧ ((mx_us w 22 &&& 63) = 0 → ¬ (mx_us w 4 &&& 15) = 9) ∧ (mx_us w 21 &&& 15) = nI o ∧ (mx_us w 20 &&& 1) = nI s ∧ (mx_us w 16 &&& 15) = nI rn ∧ (mx_us w 12 &&& 15) = nI rd
section
variable {nc sc tc lv ce tk sz ls dp sd ip ng zr cy ov hl st pc : Int32} {nk nx ny nw ek ex ey ew qk qx qy qz qw fn fs fp gn gp gs gq mm rr pl : Nat → Int32} {post : SX → Prop} {w x y : Int32}
theorem mx_143 {o r : Int32} (rd : Nat) (h20 : (mx_us w 20 &&& 1) = 0) (h12 : (mx_us w 12 &&& 15) = nI rd) (hrd : rd < 15) (k : post (nc, sc, tc, lv, ce, tk, sz, ls, dp, sd, ip, ng, zr, cy, ov, hl, st, pc, nk, nx, ny, nw, ek, ex, ey, ew, qk, qx, qy, qz, qw, fn, fs, fp, gn, gp, gs, gq, mm, upd rr rd r, pl)) : wX_operate_143 post w o x y r nc sc tc lv ce tk sz ls dp sd ip ng zr cy ov hl st pc nk nx ny nw ek ex ey ew qk qx qy qz qw fn fs fp gn gp gs gq mm rr pl :=
  br_t h20 (nm_r h12 (br_f (by rw [show (15 : Int32) = nI 15 from rfl, nI_eq (by omega) (by decide)]; omega) ⟨vp_in_nI (by omega) (by decide), nm_r (e' := upd rr rd r) (by rw [nI_clamp (by omega)]) k⟩))
theorem mx_143p {o r : Int32} (h20 : (mx_us w 20 &&& 1) = 0) (h12 : (mx_us w 12 &&& 15) = nI 15) (k : post (nc, sc, tc, lv, ce, tk, sz, ls, dp, sd, r, ng, zr, cy, ov, hl, st, pc, nk, nx, ny, nw, ek, ex, ey, ew, qk, qx, qy, qz, qw, fn, fs, fp, gn, gp, gs, gq, mm, rr, pl)) : wX_operate_143 post w o x y r nc sc tc lv ce tk sz ls dp sd ip ng zr cy ov hl st pc nk nx ny nw ek ex ey ew qk qx qy qz qw fn fs fp gn gp gs gq mm rr pl :=
  br_t h20 (nm_r h12 (br_t rfl k))
theorem mx_oper (o rn : Nat) (ho : mx_oo o) (h21 : (mx_us w 21 &&& 15) = nI o) (h16 : (mx_us w 16 &&& 15) = nI rn) (hrn : rn < 16) (hy : ∀ P : Int32 → Prop, P y → wpX_lastOperand P (nc, sc, tc, lv, ce, tk, sz, ls, dp, sd, ip, ng, zr, cy, ov, hl, st, pc, nk, nx, ny, nw, ek, ex, ey, ew, qk, qx, qy, qz, qw, fn, fs, fp, gn, gp, gs, gq, mm, rr, pl) w) (k : wX_operate_143 post w (nI o) (rr rn) y (mx_al o (rr rn) y) nc sc tc lv ce tk sz ls dp sd ip ng zr cy ov hl st pc nk nx ny nw ek ex ey ew qk qx qy qz qw fn fs fp gn gp gs gq mm rr pl) : wpX_operate post (nc, sc, tc, lv, ce, tk, sz, ls, dp, sd, ip, ng, zr, cy, ov, hl, st, pc, nk, nx, ny, nw, ek, ex, ey, ew, qk, qx, qy, qz, qw, fn, fs, fp, gn, gp, gs, gq, mm, rr, pl) w := by
  refine nm_r h21 ⟨by rw [h16]; exact vp_in_nI hrn (by decide), nm_r (e' := rr rn) (by rw [h16, nI_clamp (by omega)]) (hy _ ?_)⟩
  rcases ho with rfl | rfl | rfl | rfl | rfl | rfl | rfl | rfl
  · exact br_t rfl (nm_e k)
  · exact br_f (by decide) (br_f (by decide) (br_t rfl (nm_e k)))
  · exact br_f (by decide) (br_f (by decide) (br_f (by decide) (br_f (by decide) (br_t rfl (nm_e k)))))
  · exact br_f (by decide) (br_f (by decide) (br_f (by decide) (br_f (by decide) (br_f (by decide) (br_t rfl (nm_e k))))))
  · exact br_f (by decide) (br_f (by decide) (br_f (by decide) (br_f (by decide) (br_f (by decide) (br_f (by decide) (br_t rfl (nm_e k)))))))
  · exact br_f (by decide) (br_f (by decide) (br_f (by decide) (br_f (by decide) (br_f (by decide) (br_f (by decide) (br_f (by decide) (br_f (by decide) (br_f (by decide) k))))))))
  · exact br_f (by decide) (br_f (by decide) (br_f (by decide) (br_f (by decide) (br_f (by decide) (br_f (by decide) (br_f (by decide) (br_t rfl (nm_e k))))))))
  · exact br_f (by decide) (br_f (by decide) (br_f (by decide) (br_f (by decide) (br_f (by decide) (br_f (by decide) (br_f (by decide) (br_f (by decide) (br_t rfl (nm_e k)))))))))
/-- flags of a comparison and of a test -/
def mx_fN (r : Int32) : Int32 := if 0 ≤ r then 0 else 1
def mx_fZ (r : Int32) : Int32 := if r = 0 then 1 else 0
def mx_fC (x y : Int32) : Int32 := if x + (-2147483648) < y + (-2147483648) then 0 else 1
def mx_fV (x y : Int32) : Int32 := if 0 ≤ ((x ^^^ y) &&& (x ^^^ (x - y))) then 0 else 1
theorem mx_fs (z : Int32) (h : z = 0 ∨ z = 1) : narrow .boolean (.int z) = .int z ∧ fits .boolean (.int z) = true := by
  rcases h with rfl | rfl <;> exact ⟨rfl, rfl⟩
theorem mx_01if (p : Prop) [Decidable p] : (if p then (0 : Int32) else 1) = 0 ∨ (if p then (0 : Int32) else 1) = 1 := by
  by_cases h : p
  · exact Or.inl (if_pos h)
  · exact Or.inr (if_neg h)
theorem mx_206 {z : Int32} (hz : z = 0 ∨ z = 1) (k : post (nc, sc, tc, lv, ce, tk, sz, ls, dp, sd, ip, ng, zr, z, mx_fV x y, hl, st, pc, nk, nx, ny, nw, ek, ex, ey, ew, qk, qx, qy, qz, qw, fn, fs, fp, gn, gp, gs, gq, mm, rr, pl)) : wX_operate_206 post x y (x - y) z nc sc tc lv ce tk sz ls dp sd ip ng zr cy ov hl st pc nk nx ny nw ek ex ey ew qk qx qy qz qw fn fs fp gn gp gs gq mm rr pl := by
  unfold mx_fV at k
  refine ⟨(mx_fs z hz).1, (mx_fs z hz).2, br_c (fun e => ?_) (fun e => ?_)⟩
  · rw [if_pos e] at k; exact k
  · rw [if_neg e] at k; exact k
theorem mx_177c {z : Int32} (hz : z = 0 ∨ z = 1) (k : post (nc, sc, tc, lv, ce, tk, sz, ls, dp, sd, ip, z, zr, mx_fC x y, mx_fV x y, hl, st, pc, nk, nx, ny, nw, ek, ex, ey, ew, qk, qx, qy, qz, qw, fn, fs, fp, gn, gp, gs, gq, mm, rr, pl)) : wX_operate_177 post 10 x y (x - y) z nc sc tc lv ce tk sz ls dp sd ip ng zr cy ov hl st pc nk nx ny nw ek ex ey ew qk qx qy qz qw fn fs fp gn gp gs gq mm rr pl := by
  refine ⟨(mx_fs z hz).1, (mx_fs z hz).2, br_t rfl (br_c (fun e => mx_206 (Or.inl rfl) ?_) (fun e => mx_206 (Or.inr rfl) ?_))⟩
  · unfold mx_fC at k; rw [if_pos e] at k; exact k
  · unfold mx_fC at k; rw [if_neg e] at k; exact k
theorem mx_177t {z r : Int32} (hz : z = 0 ∨ z = 1) (k : post (nc, sc, tc, lv, ce, tk, sz, ls, dp, sd, ip, z, zr, cy, ov, hl, st, pc, nk, nx, ny, nw, ek, ex, ey, ew, qk, qx, qy, qz, qw, fn, fs, fp, gn, gp, gs, gq, mm, rr, pl)) : wX_operate_177 post 8 x y r z nc sc tc lv ce tk sz ls dp sd ip ng zr cy ov hl st pc nk nx ny nw ek ex ey ew qk qx qy qz qw fn fs fp gn gp gs gq mm rr pl :=
  ⟨(mx_fs z hz).1, (mx_fs z hz).2, br_f (by decide) k⟩
theorem mx_163c {z : Int32} (hz : z = 0 ∨ z = 1) (k : post (nc, sc, tc, lv, ce, tk, sz, ls, dp, sd, ip, mx_fN (x - y), z, mx_fC x y, mx_fV x y, hl, st, pc, nk, nx, ny, nw, ek, ex, ey, ew, qk, qx, qy, qz, qw, fn, fs, fp, gn, gp, gs, gq, mm, rr, pl)) : wX_operate_163 post 10 x y (x - y) z nc sc tc lv ce tk sz ls dp sd ip ng zr cy ov hl st pc nk nx ny nw ek ex ey ew qk qx qy qz qw fn fs fp gn gp gs gq mm rr pl := by
  unfold mx_fN at k
  refine ⟨(mx_fs z hz).1, (mx_fs z hz).2, br_c (fun e => mx_177c (Or.inl rfl) ?_) (fun e => mx_177c (Or.inr rfl) ?_)⟩
  · rw [if_pos e] at k; exact k
  · rw [if_neg e] at k; exact k
theorem mx_163t {z r : Int32} (hz : z = 0 ∨ z = 1) (k : post (nc, sc, tc, lv, ce, tk, sz, ls, dp, sd, ip, mx_fN r, z, cy, ov, hl, st, pc, nk, nx, ny, nw, ek, ex, ey, ew, qk, qx, qy, qz, qw, fn, fs, fp, gn, gp, gs, gq, mm, rr, pl)) : wX_operate_163 post 8 x y r z nc sc tc lv ce tk sz ls dp sd ip ng zr cy ov hl st pc nk nx ny nw ek ex ey ew qk qx qy qz qw fn fs fp gn gp gs gq mm rr pl := by
  unfold mx_fN at k
  refine ⟨(mx_fs z hz).1, (mx_fs z hz).2, br_c (fun e => mx_177t (Or.inl rfl) ?_) (fun e => mx_177t (Or.inr rfl) ?_)⟩
  · rw [if_pos e] at k; exact k
  · rw [if_neg e] at k; exact k
theorem mx_143c (h20 : (mx_us w 20 &&& 1) = 1) (k : post (nc, sc, tc, lv, ce, tk, sz, ls, dp, sd, ip, mx_fN (x - y), mx_fZ (x - y), mx_fC x y, mx_fV x y, hl, st, pc, nk, nx, ny, nw, ek, ex, ey, ew, qk, qx, qy, qz, qw, fn, fs, fp, gn, gp, gs, gq, mm, rr, pl)) : wX_operate_143 post w 10 x y (x - y) nc sc tc lv ce tk sz ls dp sd ip ng zr cy ov hl st pc nk nx ny nw ek ex ey ew qk qx qy qz qw fn fs fp gn gp gs gq mm rr pl := by
  unfold mx_fZ at k
  refine br_f (by rw [h20]; decide) (br_c (fun e => mx_163c (Or.inr rfl) ?_) (fun e => mx_163c (Or.inl rfl) ?_))
  · rw [if_pos e] at k; exact k
  · rw [if_neg e] at k; exact k
theorem mx_143t {r : Int32} (h20 : (mx_us w 20 &&& 1) = 1) (k : post (nc, sc, tc, lv, ce, tk, sz, ls, dp, sd, ip, mx_fN r, mx_fZ r, cy, ov, hl, st, pc, nk, nx, ny, nw, ek, ex, ey, ew, qk, qx, qy, qz, qw, fn, fs, fp, gn, gp, gs, gq, mm, rr, pl)) : wX_operate_143 post w 8 x y r nc sc tc lv ce tk sz ls dp sd ip ng zr cy ov hl st pc nk nx ny nw ek ex ey ew qk qx qy qz qw fn fs fp gn gp gs gq mm rr pl := by
  unfold mx_fZ at k
  refine br_f (by rw [h20]; decide) (br_c (fun e => mx_163t (Or.inr rfl) ?_) (fun e => mx_163t (Or.inl rfl) ?_))
  · rw [if_pos e] at k; exact k
  · rw [if_neg e] at k; exact k
theorem mx_opercmp (rn : Nat) (h21 : (mx_us w 21 &&& 15) = nI 10) (h16 : (mx_us w 16 &&& 15) = nI rn) (hrn : rn < 16) (hy : ∀ P : Int32 → Prop, P y → wpX_lastOperand P (nc, sc, tc, lv, ce, tk, sz, ls, dp, sd, ip, ng, zr, cy, ov, hl, st, pc, nk, nx, ny, nw, ek, ex, ey, ew, qk, qx, qy, qz, qw, fn, fs, fp, gn, gp, gs, gq, mm, rr, pl) w) (k : wX_operate_143 post w 10 (rr rn) y (rr rn - y) nc sc tc lv ce tk sz ls dp sd ip ng zr cy ov hl st pc nk nx ny nw ek ex ey ew qk qx qy qz qw fn fs fp gn gp gs gq mm rr pl) : wpX_operate post (nc, sc, tc, lv, ce, tk, sz, ls, dp, sd, ip, ng, zr, cy, ov, hl, st, pc, nk, nx, ny, nw, ek, ex, ey, ew, qk, qx, qy, qz, qw, fn, fs, fp, gn, gp, gs, gq, mm, rr, pl) w := by
  refine nm_r h21 ⟨by rw [h16]; exact vp_in_nI hrn (by decide), nm_r (e' := rr rn) (by rw [h16, nI_clamp (by omega)]) (hy _ ?_)⟩
  exact br_f (by decide) (br_f (by decide) (br_f (by decide) (br_t rfl (nm_e k))))
theorem mx_opertst (rn : Nat) (h21 : (mx_us w 21 &&& 15) = nI 8) (h16 : (mx_us w 16 &&& 15) = nI rn) (hrn : rn < 16) (hy : ∀ P : Int32 → Prop, P y → wpX_lastOperand P (nc, sc, tc, lv, ce, tk, sz, ls, dp, sd, ip, ng, zr, cy, ov, hl, st, pc, nk, nx, ny, nw, ek, ex, ey, ew, qk, qx, qy, qz, qw, fn, fs, fp, gn, gp, gs, gq, mm, rr, pl) w) (k : wX_operate_143 post w 8 (rr rn) y (rr rn &&& y) nc sc tc lv ce tk sz ls dp sd ip ng zr cy ov hl st pc nk nx ny nw ek ex ey ew qk qx qy qz qw fn fs fp gn gp gs gq mm rr pl) : wpX_operate post (nc, sc, tc, lv, ce, tk, sz, ls, dp, sd, ip, ng, zr, cy, ov, hl, st, pc, nk, nx, ny, nw, ek, ex, ey, ew, qk, qx, qy, qz, qw, fn, fs, fp, gn, gp, gs, gq, mm, rr, pl) w := by
  refine nm_r h21 ⟨by rw [h16]; exact vp_in_nI hrn (by decide), nm_r (e' := rr rn) (by rw [h16, nI_clamp (by omega)]) (hy _ ?_)⟩
  exact br_f (by decide) (br_t rfl (nm_e k))
end
end
section
/-! one step of the machine, by the sort of the word -/
section
variable {u : SX} {ng zr cy ov pc : Int32} {mm rr pl : Nat → Int32} {w : Int32}
theorem mx_skip (p : Nat) (hp : p < 1024) (hw : mm p = w) (c : Nat) (hc : mx_cc c) (h28 : mx_us w 28 = nI c) (hm : ¬ mx_mt c ng zr cy ov) : mx_r (mx_c u (nI p) ng zr cy ov pc mm rr pl) (mx_c u (nI (p + 1)) ng zr cy ov pc mm rr pl) := by
  refine mx_st (fun post k => ?_)
  obtain ⟨nc, sc, tc, lv, ce, tk, sz, ls, dp, sd, _, _, _, _, _, _, st, _, nk, nx, ny, nw, ek, ex, ey, ew, qk, qx, qy, qz, qw, fn, fs, fp, gn, gp, gs, gq, _, _, _⟩ := u
  exact ⟨vp_in_nI hp (by decide), nm_r (e' := w) (by rw [nI_clamp (by omega)]; exact hw) (nm_r (nI_1 p) (nm_r h28 (mx_met c hc (fun h => absurd h hm) (fun _ => br_t rfl k))))⟩
theorem mx_alu (p : Nat) (hp : p < 1024) (hw : mm p = w) (c o rn rd : Nat) (hc : mx_cc c) (ho : mx_oo o) (hD : mx_D w c o 0 rn rd) (hrn : rn < 16) (hrd : rd < 15) {y : Int32} (hy : mx_op w rr y) (hm : mx_mt c ng zr cy ov) : mx_r (mx_c u (nI p) ng zr cy ov pc mm rr pl) (mx_c u (nI (p + 1)) ng zr cy ov pc mm (upd rr rd (mx_al o (rr rn) y)) pl) := by
  obtain ⟨h28, h24, h25, h26, h22, h21, h20, h16, h12⟩ := hD
  refine mx_st (fun post k => ?_)
  have hy' := fun P hP => hy u (nI (p + 1)) ng zr cy ov pc mm pl P hP
  obtain ⟨nc, sc, tc, lv, ce, tk, sz, ls, dp, sd, _, _, _, _, _, _, st, _, nk, nx, ny, nw, ek, ex, ey, ew, qk, qx, qy, qz, qw, fn, fs, fp, gn, gp, gs, gq, _, _, _⟩ := u
  have K : wX_step_186 post w nc sc tc lv ce tk sz ls dp sd (nI (p + 1)) ng zr cy ov 0 st pc nk nx ny nw ek ex ey ew qk qx qy qz qw fn fs fp gn gp gs gq mm rr pl := mx_oper o rn ho h21 h16 hrn hy' (mx_143 rd h20 h12 hrd k)
  exact ⟨vp_in_nI hp (by decide), nm_r (e' := w) (by rw [nI_clamp (by omega)]; exact hw) (nm_r (nI_1 p) (nm_r h28 (mx_met c hc (fun _ => br_f mx_10 (br_f h24 (br_f h25 (br_f h26 (br_c (fun e => br_f (h22 e) K) (fun _ => K)))))) (fun h => absurd hm h))))⟩
theorem mx_alup (p : Nat) (hp : p < 1024) (hw : mm p = w) (c o rn : Nat) (hc : mx_cc c) (ho : mx_oo o) (hD : mx_D w c o 0 rn 15) (hrn : rn < 16) {y : Int32} (hy : mx_op w rr y) (hm : mx_mt c ng zr cy ov) : mx_r (mx_c u (nI p) ng zr cy ov pc mm rr pl) (mx_c u (mx_al o (rr rn) y) ng zr cy ov pc mm rr pl) := by
  obtain ⟨h28, h24, h25, h26, h22, h21, h20, h16, h12⟩ := hD
  refine mx_st (fun post k => ?_)
  have hy' := fun P hP => hy u (nI (p + 1)) ng zr cy ov pc mm pl P hP
  obtain ⟨nc, sc, tc, lv, ce, tk, sz, ls, dp, sd, _, _, _, _, _, _, st, _, nk, nx, ny, nw, ek, ex, ey, ew, qk, qx, qy, qz, qw, fn, fs, fp, gn, gp, gs, gq, _, _, _⟩ := u
  have K : wX_step_186 post w nc sc tc lv ce tk sz ls dp sd (nI (p + 1)) ng zr cy ov 0 st pc nk nx ny nw ek ex ey ew qk qx qy qz qw fn fs fp gn gp gs gq mm rr pl := mx_oper o rn ho h21 h16 hrn hy' (mx_143p h20 h12 k)
  exact ⟨vp_in_nI hp (by decide), nm_r (e' := w) (by rw [nI_clamp (by omega)]; exact hw) (nm_r (nI_1 p) (nm_r h28 (mx_met c hc (fun _ => br_f mx_10 (br_f h24 (br_f h25 (br_f h26 (br_c (fun e => br_f (h22 e) K) (fun _ => K)))))) (fun h => absurd hm h))))⟩
theorem mx_cmp (p : Nat) (hp : p < 1024) (hw : mm p = w) (rn rd : Nat) (hD : mx_D w 14 10 1 rn rd) (hrn : rn < 16) {y : Int32} (hy : mx_op w rr y) : mx_r (mx_c u (nI p) ng zr cy ov pc mm rr pl) (mx_c u (nI (p + 1)) (mx_fN (rr rn - y)) (mx_fZ (rr rn - y)) (mx_fC (rr rn) y) (mx_fV (rr rn) y) pc mm rr pl) := by
  obtain ⟨h28, h24, h25, h26, h22, h21, h20, h16, h12⟩ := hD
  refine mx_st (fun post k => ?_)
  have hy' := fun P hP => hy u (nI (p + 1)) ng zr cy ov pc mm pl P hP
  obtain ⟨nc, sc, tc, lv, ce, tk, sz, ls, dp, sd, _, _, _, _, _, _, st, _, nk, nx, ny, nw, ek, ex, ey, ew, qk, qx, qy, qz, qw, fn, fs, fp, gn, gp, gs, gq, _, _, _⟩ := u
  have K : wX_step_186 post w nc sc tc lv ce tk sz ls dp sd (nI (p + 1)) ng zr cy ov 0 st pc nk nx ny nw ek ex ey ew qk qx qy qz qw fn fs fp gn gp gs gq mm rr pl := mx_opercmp rn h21 h16 hrn hy' (mx_143c h20 k)
  exact ⟨vp_in_nI hp (by decide), nm_r (e' := w) (by rw [nI_clamp (by omega)]; exact hw) (nm_r (nI_1 p) (nm_r h28 (mx_met 14 (by decide) (fun _ => br_f mx_10 (br_f h24 (br_f h25 (br_f h26 (br_c (fun e => br_f (h22 e) K) (fun _ => K)))))) (fun h => absurd trivial h))))⟩
theorem mx_tst (p : Nat) (hp : p < 1024) (hw : mm p = w) (rn rd : Nat) (hD : mx_D w 14 8 1 rn rd) (hrn : rn < 16) {y : Int32} (hy : mx_op w rr y) : mx_r (mx_c u (nI p) ng zr cy ov pc mm rr pl) (mx_c u (nI (p + 1)) (mx_fN (rr rn &&& y)) (mx_fZ (rr rn &&& y)) cy ov pc mm rr pl) := by
  obtain ⟨h28, h24, h25, h26, h22, h21, h20, h16, h12⟩ := hD
  refine mx_st (fun post k => ?_)
  have hy' := fun P hP => hy u (nI (p + 1)) ng zr cy ov pc mm pl P hP
  obtain ⟨nc, sc, tc, lv, ce, tk, sz, ls, dp, sd, _, _, _, _, _, _, st, _, nk, nx, ny, nw, ek, ex, ey, ew, qk, qx, qy, qz, qw, fn, fs, fp, gn, gp, gs, gq, _, _, _⟩ := u
  have K : wX_step_186 post w nc sc tc lv ce tk sz ls dp sd (nI (p + 1)) ng zr cy ov 0 st pc nk nx ny nw ek ex ey ew qk qx qy qz qw fn fs fp gn gp gs gq mm rr pl := mx_opertst rn h21 h16 hrn hy' (mx_143t h20 k)
  exact ⟨vp_in_nI hp (by decide), nm_r (e' := w) (by rw [nI_clamp (by omega)]; exact hw) (nm_r (nI_1 p) (nm_r h28 (mx_met 14 (by decide) (fun _ => br_f mx_10 (br_f h24 (br_f h25 (br_f h26 (br_c (fun e => br_f (h22 e) K) (fun _ => K)))))) (fun h => absurd trivial h))))⟩
abbrev mx_B (w : Int32) (c l : Nat) : Prop := mx_us w 28 = nI c ∧ ¬ (mx_us w 24 &&& 15) = 15 ∧ (mx_us w 25 &&& 7) = 5 ∧ (mx_us w 24 &&& 1) = nI l
abbrev mx_sx (w : Int32) : Int32 := (w <<< ((8 : Int32) &&& 31)) >>> ((8 : Int32) &&& 31)
theorem mx_bra (p t : Nat) (hp : p < 1024) (hw : mm p = w) (c : Nat) (hc : mx_cc c) (hB : mx_B w c 0) (ht : (nI (p + 1) + 1) + mx_sx w = nI t) (hm : mx_mt c ng zr cy ov) : mx_r (mx_c u (nI p) ng zr cy ov pc mm rr pl) (mx_c u (nI t) ng zr cy ov pc mm rr pl) := by
  obtain ⟨h28, h24, h25, hl⟩ := hB
  refine mx_st (fun post k => ?_)
  obtain ⟨nc, sc, tc, lv, ce, tk, sz, ls, dp, sd, _, _, _, _, _, _, st, _, nk, nx, ny, nw, ek, ex, ey, ew, qk, qx, qy, qz, qw, fn, fs, fp, gn, gp, gs, gq, _, _, _⟩ := u
  exact ⟨vp_in_nI hp (by decide), nm_r (e' := w) (by rw [nI_clamp (by omega)]; exact hw) (nm_r (nI_1 p) (nm_r h28 (mx_met c hc (fun _ => br_f mx_10 (br_f h24 (br_t h25 (br_t hl (nm_r ht k))))) (fun h => absurd hm h))))⟩
theorem mx_bl (p t : Nat) (hp : p < 1024) (hw : mm p = w) (hB : mx_B w 14 1) (ht : (nI (p + 1) + 1) + mx_sx w = nI t) : mx_r (mx_c u (nI p) ng zr cy ov pc mm rr pl) (mx_c u (nI t) ng zr cy ov pc mm (upd rr 14 (nI (p + 1))) pl) := by
  obtain ⟨h28, h24, h25, hl⟩ := hB
  refine mx_st (fun post k => ?_)
  obtain ⟨nc, sc, tc, lv, ce, tk, sz, ls, dp, sd, _, _, _, _, _, _, st, _, nk, nx, ny, nw, ek, ex, ey, ew, qk, qx, qy, qz, qw, fn, fs, fp, gn, gp, gs, gq, _, _, _⟩ := u
  exact ⟨vp_in_nI hp (by decide), nm_r (e' := w) (by rw [nI_clamp (by omega)]; exact hw) (nm_r (nI_1 p) (nm_r h28 (mx_met 14 (by decide) (fun _ => br_f mx_10 (br_f h24 (br_t h25 (br_f (by rw [hl]; decide) (nm_e (nm_r ht k)))))) (fun h => absurd trivial h))))⟩
/-- the interrupt 0: the machine halts and the run ends -/
theorem mx_swi0 (p : Nat) (hp : p < 1024) (hw : mm p = w) (c : Nat) (hc : mx_cc c) (h28 : mx_us w 28 = nI c) (h24 : (mx_us w 24 &&& 15) = 15) (h0 : (w &&& 255) = 0) (hm : mx_mt c ng zr cy ov) (post : Int32 → SX → Prop) (k : post (rr 0) (mx_h u (nI (p + 1)) ng zr cy ov pc mm rr pl)) : mx_R post (mx_c u (nI p) ng zr cy ov pc mm rr pl) := by
  obtain ⟨nc, sc, tc, lv, ce, tk, sz, ls, dp, sd, _, _, _, _, _, _, st, _, nk, nx, ny, nw, ek, ex, ey, ew, qk, qx, qy, qz, qw, fn, fs, fp, gn, gp, gs, gq, _, _, _⟩ := u
  refine ⟨2, br_t rfl ?_⟩
  exact ⟨vp_in_nI hp (by decide), nm_r (e' := w) (by rw [nI_clamp (by omega)]; exact hw) (nm_r (nI_1 p) (nm_r h28 (mx_met c hc (fun _ => br_f mx_10 (br_t h24 (br_t h0 (br_f mx_10 (nm_e k))))) (fun h => absurd hm h))))⟩
/-- the interrupt 1: a number is printed -/
def mx_pl (pc : Nat) (pl : Nat → Int32) (x : Int32) : Nat → Int32 := if pc < 30 then upd pl pc x else pl
theorem mx_prt (p q : Nat) (hp : p < 1024) (hq : q < 100000) (hpc : pc = nI q) (hw : mm p = w) (h28 : mx_us w 28 = nI 14) (h24 : (mx_us w 24 &&& 15) = 15) (h0 : ¬ (w &&& 255) = 0) : mx_r (mx_c u (nI p) ng zr cy ov pc mm rr pl) (mx_c u (nI (p + 1)) ng zr cy ov (nI (q + 1)) mm rr (mx_pl q pl (rr 0))) := by
  subst hpc
  refine mx_st (fun post k => ?_)
  unfold mx_pl at k
  obtain ⟨nc, sc, tc, lv, ce, tk, sz, ls, dp, sd, _, _, _, _, _, _, st, _, nk, nx, ny, nw, ek, ex, ey, ew, qk, qx, qy, qz, qw, fn, fs, fp, gn, gp, gs, gq, _, _, _⟩ := u
  refine ⟨vp_in_nI hp (by decide), nm_r (e' := w) (by rw [nI_clamp (by omega)]; exact hw) (nm_r (nI_1 p) (nm_r h28 (mx_met 14 (by decide) (fun _ => br_f mx_10 (br_t h24 (br_f h0 ?_))) (fun h => absurd trivial h))))⟩
  refine pk_le 30 q (fun hle => ?_) (fun hlt => ?_)
  · rw [if_neg (by omega)] at k; exact nm_r (nI_1 q) k
  · rw [if_pos hlt] at k; exact ⟨vp_in_nI hlt (by decide), nm_r (e' := upd pl q (rr 0)) (by rw [nI_clamp (by omega)]) (nm_r (nI_1 q) k)⟩
/-- r2 = r0 * r1 -/
theorem mx_mul (p : Nat) (hp : p < 1024) (hw : mm p = -536739440) : mx_r (mx_c u (nI p) ng zr cy ov pc mm rr pl) (mx_c u (nI (p + 1)) ng zr cy ov pc mm (upd rr 2 (rr 0 * rr 1)) pl) := by
  refine mx_st (fun post k => ?_)
  obtain ⟨nc, sc, tc, lv, ce, tk, sz, ls, dp, sd, _, _, _, _, _, _, st, _, nk, nx, ny, nw, ek, ex, ey, ew, qk, qx, qy, qz, qw, fn, fs, fp, gn, gp, gs, gq, _, _, _⟩ := u
  refine ⟨vp_in_nI hp (by decide), nm_r (e' := -536739440) (by rw [nI_clamp (by omega)]; exact hw) (nm_r (nI_1 p) (nm_r (e' := nI 14) (by decide +kernel) (mx_met 14 (by decide) (fun _ => br_f mx_10 (br_f (by decide +kernel) (br_f (by decide +kernel) (br_f (by decide +kernel) (br_t (by decide +kernel) (br_t (by decide +kernel) ?_)))))) (fun h => absurd trivial h))))⟩
  have e1 : ((-536739440 : Int32) &&& 15) = nI 0 := by decide +kernel
  have e2 : (mx_us (-536739440) 8 &&& 15) = nI 1 := by decide +kernel
  have e3 : (mx_us (-536739440) 16 &&& 15) = nI 2 := by decide +kernel
  refine ⟨by rw [e1]; exact vp_in_nI (by decide) (by decide), by rw [e2]; exact vp_in_nI (by decide) (by decide), by rw [e3]; exact vp_in_nI (by decide) (by decide), ?_⟩
  rw [e1, e2, e3]
  exact nm_e k
end
end
section
/-! transfers: push r0, pop r0, peek -/
def mx_wpush : Int32 := ((-450035712) ||| ((0 : Int32) <<< ((12 : Int32) &&& 31))) ||| 4
def mx_wpop : Int32 := ((-459472896) ||| ((0 : Int32) <<< ((12 : Int32) &&& 31))) ||| 4
def mx_wpeek (l r : Int32) : Int32 := (((-444596224) ||| (l <<< ((20 : Int32) &&& 31))) ||| 851968) ||| (r <<< ((12 : Int32) &&& 31))
theorem mx_m4 (n : Nat) : nI (n + 4) + (-4) = nI n := by
  rw [← nI_add, Int32.add_assoc, show nI 4 + (-4) = 0 from by decide, Int32.add_zero]
theorem mx_sh2 {j : Nat} (h : j < 2048) : nI (4 * j) >>> ((2 : Int32) &&& 31) = nI j := by
  rw [pk_shrN (by omega) _ 2 (by decide +kernel)]
  exact congrArg nI (by omega)
section
variable {u : SX} {ng zr cy ov pc : Int32} {mm rr pl : Nat → Int32}
theorem mx_push (p j : Nat) (hp : p < 1024) (hw : mm p = mx_wpush) (hj : j < 1024) (h13 : rr 13 = nI (4 * (j + 1))) : mx_r (mx_c u (nI p) ng zr cy ov pc mm rr pl) (mx_c u (nI (p + 1)) ng zr cy ov pc (upd mm j (rr 0)) (upd rr 13 (nI (4 * j))) pl) := by
  refine mx_st (fun post k => ?_)
  obtain ⟨nc, sc, tc, lv, ce, tk, sz, ls, dp, sd, _, _, _, _, _, _, st, _, nk, nx, ny, nw, ek, ex, ey, ew, qk, qx, qy, qz, qw, fn, fs, fp, gn, gp, gs, gq, _, _, _⟩ := u
  refine ⟨vp_in_nI hp (by decide), nm_r (e' := mx_wpush) (by rw [nI_clamp (by omega)]; exact hw) (nm_r (nI_1 p) (nm_r (e' := nI 14) (by decide +kernel) (mx_met 14 (by decide) (fun _ => br_f mx_10 (br_f (by decide +kernel) (br_f (by decide +kernel) (br_t (by decide +kernel) ?_)))) (fun h => absurd trivial h))))⟩
  have e1 : nI (4 * (j + 1)) + -(mx_wpush &&& 4095) = nI (4 * j) := by
    rw [show -(mx_wpush &&& 4095) = (-4 : Int32) from by decide +kernel]
    exact mx_m4 (4 * j)
  refine nm_r (e' := nI 13) (by decide +kernel) (nm_r (e' := nI 0) (by decide +kernel) (br_t (by decide +kernel) (br_f (by decide +kernel) ⟨vp_in_nI (by decide) (by decide), nm_r (e' := nI (4 * (j + 1))) h13 (br_f (by decide) (br_f (by decide) (br_f (by decide +kernel) ⟨vp_in_nI (by decide) (by decide), nm_r (e' := upd rr 13 (nI (4 * j))) (by rw [e1]; rfl) (br_t (by decide +kernel) ⟨vp_in_nI (by decide) (by decide), ?_⟩)⟩)))⟩)))
  rw [e1, mx_sh2 (by omega)]
  exact ⟨vp_in_nI hj (by decide), nm_r (e' := upd mm j (rr 0)) (by rw [nI_clamp (by omega)]; rfl) k⟩
theorem mx_pop (p j : Nat) (hp : p < 1024) (hw : mm p = mx_wpop) (hj : j < 1024) (h13 : rr 13 = nI (4 * j)) : mx_r (mx_c u (nI p) ng zr cy ov pc mm rr pl) (mx_c u (nI (p + 1)) ng zr cy ov pc mm (upd (upd rr 13 (nI (4 * (j + 1)))) 0 (mm j)) pl) := by
  refine mx_st (fun post k => ?_)
  obtain ⟨nc, sc, tc, lv, ce, tk, sz, ls, dp, sd, _, _, _, _, _, _, st, _, nk, nx, ny, nw, ek, ex, ey, ew, qk, qx, qy, qz, qw, fn, fs, fp, gn, gp, gs, gq, _, _, _⟩ := u
  refine ⟨vp_in_nI hp (by decide), nm_r (e' := mx_wpop) (by rw [nI_clamp (by omega)]; exact hw) (nm_r (nI_1 p) (nm_r (e' := nI 14) (by decide +kernel) (mx_met 14 (by decide) (fun _ => br_f mx_10 (br_f (by decide +kernel) (br_f (by decide +kernel) (br_t (by decide +kernel) ?_)))) (fun h => absurd trivial h))))⟩
  have e1 : nI (4 * j) + (mx_wpop &&& 4095) = nI (4 * (j + 1)) := by
    rw [show (mx_wpop &&& 4095) = nI 4 from by decide +kernel, nI_add]; rfl
  refine nm_r (e' := nI 13) (by decide +kernel) (nm_r (e' := nI 0) (by decide +kernel) (br_f (by decide +kernel) (br_t (by decide +kernel) ⟨vp_in_nI (by decide) (by decide), nm_r (e' := nI (4 * j)) h13 (br_t rfl (br_t rfl ⟨vp_in_nI (by decide) (by decide), nm_r (e' := upd rr 13 (nI (4 * (j + 1)))) (by rw [e1]; rfl) (br_f (by decide +kernel) ?_)⟩))⟩)))
  rw [mx_sh2 (by omega)]
  exact ⟨vp_in_nI hj (by decide), vp_in_nI (by decide) (by decide), nm_r (e' := upd (upd rr 13 (nI (4 * (j + 1)))) 0 (mm j)) (by rw [nI_clamp (show j < 2 ^ 31 by omega)]; rfl) k⟩
theorem mx_peekL (p j : Nat) (hp : p < 1024) (hw : mm p = mx_wpeek 1 0) (hj : j < 1024) (h13 : rr 13 = nI (4 * j)) : mx_r (mx_c u (nI p) ng zr cy ov pc mm rr pl) (mx_c u (nI (p + 1)) ng zr cy ov pc mm (upd rr 0 (mm j)) pl) := by
  refine mx_st (fun post k => ?_)
  obtain ⟨nc, sc, tc, lv, ce, tk, sz, ls, dp, sd, _, _, _, _, _, _, st, _, nk, nx, ny, nw, ek, ex, ey, ew, qk, qx, qy, qz, qw, fn, fs, fp, gn, gp, gs, gq, _, _, _⟩ := u
  refine ⟨vp_in_nI hp (by decide), nm_r (e' := mx_wpeek 1 0) (by rw [nI_clamp (by omega)]; exact hw) (nm_r (nI_1 p) (nm_r (e' := nI 14) (by decide +kernel) (mx_met 14 (by decide) (fun _ => br_f mx_10 (br_f (by decide +kernel) (br_f (by decide +kernel) (br_t (by decide +kernel) ?_)))) (fun h => absurd trivial h))))⟩
  have e1 : nI (4 * j) + (mx_wpeek 1 0 &&& 4095) = nI (4 * j) := by
    rw [show (mx_wpeek 1 0 &&& 4095) = nI 0 from by decide +kernel, nI_add, Nat.add_zero]
  refine nm_r (e' := nI 13) (by decide +kernel) (nm_r (e' := nI 0) (by decide +kernel) (br_f (by decide +kernel) (br_f (by decide +kernel) ⟨vp_in_nI (by decide) (by decide), nm_r (e' := nI (4 * j)) h13 (br_f (by decide) (br_f (by decide) (br_t (by decide +kernel) (br_f (by decide +kernel) ?_))))⟩)))
  rw [e1, mx_sh2 (by omega)]
  exact ⟨vp_in_nI hj (by decide), vp_in_nI (by decide) (by decide), nm_r (e' := upd rr 0 (mm j)) (by rw [nI_clamp (show j < 2 ^ 31 by omega)]; rfl) k⟩
theorem mx_peekS (p j : Nat) (hp : p < 1024) (hw : mm p = mx_wpeek 0 1) (hj : j < 1024) (h13 : rr 13 = nI (4 * j)) : mx_r (mx_c u (nI p) ng zr cy ov pc mm rr pl) (mx_c u (nI (p + 1)) ng zr cy ov pc (upd mm j (rr 1)) rr pl) := by
  refine mx_st (fun post k => ?_)
  obtain ⟨nc, sc, tc, lv, ce, tk, sz, ls, dp, sd, _, _, _, _, _, _, st, _, nk, nx, ny, nw, ek, ex, ey, ew, qk, qx, qy, qz, qw, fn, fs, fp, gn, gp, gs, gq, _, _, _⟩ := u
  refine ⟨vp_in_nI hp (by decide), nm_r (e' := mx_wpeek 0 1) (by rw [nI_clamp (by omega)]; exact hw) (nm_r (nI_1 p) (nm_r (e' := nI 14) (by decide +kernel) (mx_met 14 (by decide) (fun _ => br_f mx_10 (br_f (by decide +kernel) (br_f (by decide +kernel) (br_t (by decide +kernel) ?_)))) (fun h => absurd trivial h))))⟩
  have e1 : nI (4 * j) + (mx_wpeek 0 1 &&& 4095) = nI (4 * j) := by
    rw [show (mx_wpeek 0 1 &&& 4095) = nI 0 from by decide +kernel, nI_add, Nat.add_zero]
  refine nm_r (e' := nI 13) (by decide +kernel) (nm_r (e' := nI 1) (by decide +kernel) (br_f (by decide +kernel) (br_f (by decide +kernel) ⟨vp_in_nI (by decide) (by decide), nm_r (e' := nI (4 * j)) h13 (br_f (by decide) (br_f (by decide) (br_t (by decide +kernel) (br_t (by decide +kernel) ⟨vp_in_nI (by decide) (by decide), ?_⟩))))⟩)))
  rw [e1, mx_sh2 (by omega)]
  exact ⟨vp_in_nI hj (by decide), nm_r (e' := upd mm j (rr 1)) (by rw [nI_clamp (by omega)]; rfl) k⟩
end
/-! what the conditions say after a comparison -/
theorem mx_sub0 {x y : Int32} : x - y = 0 ↔ x = y := by
  constructor
  · intro h
    have := congrArg (fun z => z + y) h
    simpa [Int32.sub_add_cancel] using this
  · rintro rfl; exact Int32.sub_self _
theorem mx_cEQ {x y ng cy ov : Int32} : mx_mt 0 ng (mx_fZ (x - y)) cy ov ↔ x = y := by
  show ¬ mx_fZ (x - y) = 0 ↔ _
  unfold mx_fZ
  by_cases h : x = y
  · rw [if_pos (mx_sub0.mpr h)]; exact ⟨fun _ => h, fun _ => mx_10⟩
  · rw [if_neg (fun z => h (mx_sub0.mp z))]; exact ⟨fun z => absurd rfl z, fun z => absurd z h⟩
theorem mx_cT {r ng cy ov : Int32} : mx_mt 1 ng (mx_fZ r) cy ov ↔ ¬ r = 0 := by
  show ¬ mx_fZ r = 1 ↔ _
  unfold mx_fZ
  by_cases h : r = 0
  · rw [if_pos h]; exact ⟨fun z => absurd rfl z, fun z => absurd h z⟩
  · rw [if_neg h]; exact ⟨fun _ => h, fun _ => mx_01⟩
theorem mx_neg (z : Int32) : 0 ≤ z ↔ bt z 31 = false := by
  rw [Int32.le_iff_toInt_le]
  have e : bt z 31 = z.toBitVec.msb := by rw [BitVec.msb_eq_getLsbD_last]; rfl
  rw [e, show (0 : Int32).toInt = 0 from by decide]
  have h2 : z.toInt = z.toBitVec.toInt := rfl
  rw [h2, BitVec.toInt_eq_msb_cond]
  have := z.toBitVec.isLt
  cases h : z.toBitVec.msb
  · simp
  · simp; omega
theorem mx_nv (x y : Int32) : mx_fN (x - y) = mx_fV x y ↔ y ≤ x := by
  unfold mx_fN mx_fV
  have hx := mx_neg x
  have hy := mx_neg y
  have hr := mx_neg (x - y)
  have hv := mx_neg ((x ^^^ y) &&& (x ^^^ (x - y)))
  rw [b_and, b_xor, b_xor] at hv
  have e : (x - y).toInt = (x.toInt - y.toInt).bmod (2 ^ 32) := Int32.toInt_sub x y
  have x1 := x.le_toInt; have x2 := x.toInt_lt
  have y1 := y.le_toInt; have y2 := y.toInt_lt
  have d : (x - y).toInt = x.toInt - y.toInt ∨ (x - y).toInt = x.toInt - y.toInt + 4294967296 ∨ (x - y).toInt = x.toInt - y.toInt - 4294967296 := by
    rw [e]
    simp only [Int.bmod]
    split <;> omega
  have r1 := (x - y).le_toInt; have r2 := (x - y).toInt_lt
  rw [Int32.le_iff_toInt_le, show (0 : Int32).toInt = 0 from by decide] at hx hy hr
  rw [Int32.le_iff_toInt_le (x := y)]
  clear e
  generalize x - y = r at *
  by_cases hr' : 0 ≤ r <;> by_cases hv' : 0 ≤ ((x ^^^ y) &&& (x ^^^ r)) <;> simp only [hr', hv', if_true, if_false]
  all_goals (rw [Int32.le_iff_toInt_le, show (0 : Int32).toInt = 0 from by decide] at hr')
  all_goals (cases hbx : bt x 31 <;> cases hby : bt y 31 <;> cases hbr : bt r 31 <;> simp [hbx, hby, hbr, hv'] at hx hy hr hv <;> first | omega | (simp; omega) | (simp [mx_01, mx_10]; omega))
theorem mx_cLT {x y zr cy : Int32} : mx_mt 11 (mx_fN (x - y)) zr cy (mx_fV x y) ↔ x < y := by
  show ¬ mx_fN (x - y) = mx_fV x y ↔ _
  rw [mx_nv]; exact Int32.not_le
theorem mx_cGE {x y zr cy : Int32} : mx_mt 10 (mx_fN (x - y)) zr cy (mx_fV x y) ↔ y ≤ x := mx_nv x y
theorem mx_z0 {x y : Int32} : mx_fZ (x - y) = 0 ↔ ¬ x = y := by
  unfold mx_fZ
  by_cases h : x = y
  · rw [if_pos (mx_sub0.mpr h)]; exact ⟨fun z => absurd z mx_10, fun z => absurd h z⟩
  · rw [if_neg (fun z => h (mx_sub0.mp z))]; exact ⟨fun _ => h, fun _ => rfl⟩
theorem mx_cGT {x y cy : Int32} : mx_mt 12 (mx_fN (x - y)) (mx_fZ (x - y)) cy (mx_fV x y) ↔ y < x := by
  show (mx_fZ (x - y) = 0 ∧ mx_fN (x - y) = mx_fV x y) ↔ _
  rw [mx_nv, mx_z0, Int32.le_iff_toInt_le, Int32.lt_iff_toInt_lt, ← Int32.toInt_inj]
  omega
theorem mx_cLE {x y cy : Int32} : mx_mt 13 (mx_fN (x - y)) (mx_fZ (x - y)) cy (mx_fV x y) ↔ x ≤ y := by
  show ¬ (mx_fZ (x - y) = 0 ∧ mx_fN (x - y) = mx_fV x y) ↔ _
  rw [mx_nv, mx_z0, Int32.le_iff_toInt_le, Int32.le_iff_toInt_le, ← Int32.toInt_inj]
  omega
/-- above 31, unsigned -/
theorem mx_c31 {x ng ov : Int32} : mx_mt 8 ng (mx_fZ (x - 31)) (mx_fC x 31) ov ↔ ¬ (0 ≤ x ∧ x ≤ 31) := by
  show (¬ mx_fC x 31 = 0 ∧ mx_fZ (x - 31) = 0) ↔ _
  rw [mx_z0]
  unfold mx_fC
  have x1 := x.le_toInt; have x2 := x.toInt_lt
  have e : (x + (-2147483648)).toInt = (x.toInt - 2147483648).bmod (2 ^ 32) := by
    rw [Int32.toInt_add]; rfl
  have d : (x + (-2147483648)).toInt = if 0 ≤ x.toInt then x.toInt - 2147483648 else x.toInt + 2147483648 := by
    rw [e]; simp only [Int.bmod]; split <;> split <;> omega
  have e31 : x = 31 ↔ x.toInt = 31 := by rw [← Int32.toInt_inj, show (31 : Int32).toInt = 31 from by decide]
  rw [e31, Int32.le_iff_toInt_le, Int32.le_iff_toInt_le, show (0 : Int32).toInt = 0 from by decide, show (31 : Int32).toInt = 31 from by decide]
  by_cases h : x + (-2147483648) < (31 : Int32) + (-2147483648)
  · rw [if_pos h]
    rw [Int32.lt_iff_toInt_lt, d, show ((31 : Int32) + (-2147483648)).toInt = -2147483617 from by decide +kernel] at h
    constructor
    · intro z; exact absurd rfl z.1
    · intro z; exfalso; apply z; split at h <;> omega
  · rw [if_neg h]
    rw [Int32.lt_iff_toInt_lt, d, show ((31 : Int32) + (-2147483648)).toInt = -2147483617 from by decide +kernel] at h
    constructor
    · intro z q; have z2 := z.2; split at h <;> omega
    · intro z; refine ⟨mx_10, fun q => z ?_⟩; omega
theorem mx_c31n {x ng ov : Int32} : mx_mt 9 ng (mx_fZ (x - 31)) (mx_fC x 31) ov ↔ (0 ≤ x ∧ x ≤ 31) := by
  have h := mx_c31 (x := x) (ng := ng) (ov := ov)
  show ¬ (¬ mx_fC x 31 = 0 ∧ mx_fZ (x - 31) = 0) ↔ _
  have h' : (¬ mx_fC x 31 = 0 ∧ mx_fZ (x - 31) = 0) ↔ ¬ (0 ≤ x ∧ x ≤ 31) := h
  rw [h', Classical.not_not]
end
section
/-! bits: counting, the lowest one, clearing it, turning, ranges -/
def bz_cnt (x : Int32) : Nat → Nat
  | 0 => 0
  | m + 1 => bz_cnt x m + (if bt x m = true then 1 else 0)
def bz_ls (x : Int32) : Nat → Nat → Nat
  | 0, m => m
  | f + 1, m => if bt x m = true then m else bz_ls x f (m + 1)
def bz_pc (x : Int32) : Nat := bz_cnt x 32
def bz_lo (x : Int32) : Nat := bz_ls x 32 0
theorem bz_ls_spec (x : Int32) : ∀ f m, (bz_ls x f m = m + f ∧ ∀ j, m ≤ j → j < m + f → bt x j = false) ∨ (m ≤ bz_ls x f m ∧ bz_ls x f m < m + f ∧ bt x (bz_ls x f m) = true ∧ ∀ j, m ≤ j → j < bz_ls x f m → bt x j = false)
  | 0, m => Or.inl ⟨rfl, fun j h1 h2 => by omega⟩
  | f + 1, m => by
    unfold bz_ls
    by_cases h : bt x m = true
    · rw [if_pos h]; exact Or.inr ⟨Nat.le_refl _, by omega, h, fun j h1 h2 => by omega⟩
    · rw [if_neg h]
      have h' : bt x m = false := by cases e : bt x m <;> simp_all
      rcases bz_ls_spec x f (m + 1) with ⟨a, b⟩ | ⟨a, b, c, d⟩
      · refine Or.inl ⟨by omega, fun j h1 h2 => ?_⟩
        by_cases e : j = m
        · rw [e]; exact h'
        · exact b j (by omega) (by omega)
      · refine Or.inr ⟨by omega, by omega, c, fun j h1 h2 => ?_⟩
        by_cases e : j = m
        · rw [e]; exact h'
        · exact d j (by omega) h2
theorem bz_lo_spec (x : Int32) : (bz_lo x = 32 ∧ x = 0) ∨ (bz_lo x < 32 ∧ bt x (bz_lo x) = true ∧ ∀ j, j < bz_lo x → bt x j = false) := by
  rcases bz_ls_spec x 32 0 with ⟨a, b⟩ | ⟨a, b, c, d⟩
  · refine Or.inl ⟨a, b_ext (fun i hi => ?_)⟩
    rw [b i (by omega) (by omega), b_0]
  · exact Or.inr ⟨by unfold bz_lo; omega, c, fun j h => d j (by omega) h⟩
theorem bz_lo_eq {x : Int32} {l : Nat} (hl : l < 32) (h : bt x l = true) (hb : ∀ j, j < l → bt x j = false) : bz_lo x = l := by
  rcases bz_lo_spec x with ⟨-, e⟩ | ⟨a, b, c⟩
  · rw [e, b_0] at h; cases h
  · rcases Nat.lt_trichotomy (bz_lo x) l with q | q | q
    · rw [hb _ q] at b; cases b
    · exact q
    · rw [c _ q] at h; cases h
theorem bz_lo_32 {x : Int32} : bz_lo x = 32 ↔ x = 0 := by
  rcases bz_lo_spec x with ⟨a, e⟩ | ⟨a, b, c⟩
  · exact ⟨fun _ => e, fun _ => a⟩
  · constructor
    · intro h; omega
    · intro h; rw [h, b_0] at b; cases b
theorem bz_lo_le (x : Int32) : bz_lo x ≤ 32 := by
  rcases bz_lo_spec x with ⟨a, e⟩ | ⟨a, b, c⟩ <;> omega
theorem bz_tb (x : Int32) (i : Nat) : bt x i = x.toBitVec.toNat.testBit i := rfl
theorem bz_nI {n : Nat} (h : n < 2 ^ 32) (i : Nat) : bt (nI n) i = n.testBit i := by rw [bz_tb, pk_tn h]
theorem bz_1 {l : Nat} (hl : l < 32) (i : Nat) (hi : i < 32) : bt ((1 : Int32) <<< (nI l &&& 31)) i = decide (i = l) := by
  rw [b_shl l hl _ hi]
  have h1 : ∀ k, k < 32 → bt 1 k = decide (k = 0) := by decide +kernel
  by_cases h : l ≤ i
  · rw [h1 _ (by omega)]; simp [h]; omega
  · simp [h]; omega
theorem bz_nt (x : Int32) {i : Nat} (hi : i < 32) : bt (x ^^^ (-1)) i = !bt x i := by
  rw [b_xor, b_m1 i hi, Bool.xor_true]
theorem bz_sub1 {x : Int32} (h : x ≠ 0) : (x - 1).toBitVec.toNat = x.toBitVec.toNat - 1 := by
  rw [Int32.toBitVec_sub, BitVec.toNat_sub]
  have h1 : (1 : Int32).toBitVec.toNat = 1 := by decide
  have h2 : x.toBitVec.toNat ≠ 0 := by
    intro z; apply h; apply Int32.toBitVec_inj.mp; apply BitVec.eq_of_toNat_eq; rw [z]; rfl
  have := x.toBitVec.isLt
  rw [h1]; omega
theorem bz_low {x : Int32} {l : Nat} (hl : l < 32) (h : bt x l = true) (hb : ∀ j, j < l → bt x j = false) : x &&& (x - 1) = x &&& (((1 : Int32) <<< (nI l &&& 31)) ^^^ (-1)) := by
  have hx : x ≠ 0 := by intro z; rw [z, b_0] at h; cases h
  apply b_ext; intro i hi
  rw [b_and, b_and, bz_nt _ hi, bz_1 hl i hi, bz_tb (x - 1), bz_sub1 hx]
  have hm : x.toBitVec.toNat % 2 ^ l = 0 := by
    apply Nat.eq_of_testBit_eq; intro j
    rw [Nat.testBit_mod_two_pow, Nat.zero_testBit]
    by_cases hj : j < l
    · have := hb j hj; rw [bz_tb] at this; simp [this]
    · simp [hj]
  have ho : x.toBitVec.toNat / 2 ^ l % 2 = 1 := by
    rw [bz_tb, Nat.testBit_eq_decide_div_mod_eq] at h
    simpa using h
  obtain ⟨q, hq⟩ : ∃ q, x.toBitVec.toNat = 2 ^ (l + 1) * q + 2 ^ l := by
    refine ⟨x.toBitVec.toNat / 2 ^ l / 2, ?_⟩
    have a := Nat.div_add_mod x.toBitVec.toNat (2 ^ l)
    have b := Nat.div_add_mod (x.toBitVec.toNat / 2 ^ l) 2
    rw [hm, Nat.add_zero] at a
    rw [ho] at b
    rw [Nat.pow_succ, Nat.mul_assoc]
    conv => lhs; rw [← a, ← b, Nat.mul_add, Nat.mul_one]
  have hp := Nat.two_pow_pos l
  have e : x.toBitVec.toNat - 1 = 2 ^ (l + 1) * q + (2 ^ l - 1) := by rw [hq]; omega
  have hlt : 2 ^ l < 2 ^ (l + 1) := Nat.pow_lt_pow_right (by decide) (by omega)
  rw [e, Nat.testBit_two_pow_mul_add _ (by omega), bz_tb x, hq, Nat.testBit_two_pow_mul_add _ hlt]
  by_cases hj : i < l + 1
  · rw [if_pos hj, if_pos hj, Nat.testBit_two_pow_sub_one, Nat.testBit_two_pow]
    by_cases hil : i = l
    · subst hil; simp
    · have : ¬ l = i := fun z => hil z.symm
      simp [this]
  · rw [if_neg hj, if_neg hj]
    have : ¬ i = l := by omega
    simp [this]
theorem bz_cnt_clear {x y : Int32} {l : Nat} (h : bt x l = true) (hy : bt y l = false) (ho : ∀ i, i < 32 → i ≠ l → bt y i = bt x i) : ∀ m, m ≤ 32 → bz_cnt x m = bz_cnt y m + (if l < m then 1 else 0)
  | 0, _ => rfl
  | m + 1, hm => by
    have ih := bz_cnt_clear h hy ho m (by omega)
    simp only [bz_cnt]
    by_cases e : m = l
    · subst e
      rw [h, hy, ih]; simp
    · rw [ho m (by omega) e, ih]
      by_cases hl : l < m
      · rw [if_pos hl, if_pos (show l < m + 1 by omega)]; omega
      · rw [if_neg hl, if_neg (show ¬ l < m + 1 by omega)]; omega
theorem bz_cnt0 : ∀ m, bz_cnt 0 m = 0
  | 0 => rfl
  | m + 1 => by simp only [bz_cnt]; rw [bz_cnt0 m, b_0]; rfl
theorem bz_pc0 : bz_pc 0 = 0 := bz_cnt0 32
theorem bz_pc_low {x : Int32} (h : x ≠ 0) : bz_pc x = bz_pc (x &&& (x - 1)) + 1 := by
  rcases bz_lo_spec x with ⟨-, e⟩ | ⟨a, b, c⟩
  · exact absurd e h
  · rw [bz_low a b c]
    unfold bz_pc
    have hz : ∀ i, i < 32 → bt (x &&& (((1 : Int32) <<< (nI (bz_lo x) &&& 31)) ^^^ (-1))) i = (bt x i && !decide (i = bz_lo x)) := by
      intro i hi; rw [b_and, bz_nt _ hi, bz_1 a i hi]
    have := bz_cnt_clear (y := x &&& (((1 : Int32) <<< (nI (bz_lo x) &&& 31)) ^^^ (-1))) b (by rw [hz _ a]; simp) (fun i hi hn => by rw [hz i hi]; simp [hn]) 32 (Nat.le_refl _)
    rw [if_pos a] at this
    exact this
theorem bz_cnt_le (x : Int32) : ∀ m, bz_cnt x m ≤ m
  | 0 => Nat.le_refl _
  | m + 1 => by
    have := bz_cnt_le x m
    simp only [bz_cnt]; split <;> omega
/-- the test of the lowest bit -/
theorem bz_a1 (x : Int32) : x &&& 1 = 0 ↔ bt x 0 = false := by
  have h1 : ∀ k, k < 32 → bt 1 k = decide (k = 0) := by decide +kernel
  constructor
  · intro h
    have := congrArg (fun z => bt z 0) h
    simp only [b_and, b_0, h1 0 (by decide)] at this
    simpa using this
  · intro h
    apply b_ext; intro i hi
    rw [b_and, b_0, h1 i hi]
    by_cases e : i = 0
    · rw [e, h]; rfl
    · simp [e]
theorem bz_a1' (x : Int32) : x &&& 1 = if bt x 0 = true then 1 else 0 := by
  have h1 : ∀ k, k < 32 → bt 1 k = decide (k = 0) := by decide +kernel
  by_cases h : bt x 0 = true
  · rw [if_pos h]
    apply b_ext; intro i hi
    rw [b_and, h1 i hi]
    by_cases e : i = 0
    · rw [e, h]; rfl
    · simp [e]
  · rw [if_neg h]
    exact (bz_a1 x).mpr (by cases e : bt x 0 <;> simp_all)
/-- a member: bit m of the set, m within 0 .. 31 -/
theorem bz_has (x : Int32) {m : Nat} (hm : m < 32) : (mx_us x (nI m)) &&& 1 = if bt x m = true then 1 else 0 := by
  rw [bz_a1', b_ushr m hm, Nat.add_zero]
/-- turned to the left by s: bit i is bit (i + 32 - s) % 32 -/
theorem bz_trn (x : Int32) {k : Nat} (hk : k < 32) {i : Nat} (hi : i < 32) : bt (mx_trn x (nI k)) i = bt x ((i + k) % 32) := by
  unfold mx_trn
  by_cases h0 : k = 0
  · subst h0; rw [if_pos (by decide), Nat.add_zero, Nat.mod_eq_of_lt hi]
  · rw [if_neg (by rw [show (0 : Int32) = nI 0 from rfl, nI_eq (by omega) (by decide)]; exact h0), show (32 : Int32) = nI 32 from rfl, pk_sub (by omega), b_or, b_ushr k hk, b_shl (32 - k) (by omega) x hi]
    by_cases h : i + k < 32
    · rw [Nat.mod_eq_of_lt h, Nat.add_comm k i]
      have : ¬ 32 - k ≤ i := by omega
      simp [this]
    · rw [b_big (by omega), show (i + k) % 32 = i - (32 - k) from by omega]
      have : 32 - k ≤ i := by omega
      simp [this]
/-- what the reference's moved and range reckon -/
def bz_mv (x b : Int32) : Nat → Int32
  | 0 => 0
  | m + 1 => if bt x m = true then bz_mv x b m ||| ((1 : Int32) <<< (((nI m + b) &&& 31) &&& 31)) else bz_mv x b m
def bz_rg (a b : Int32) : Nat → Int32
  | 0 => 0
  | m + 1 => if a ≤ nI m ∧ nI m ≤ b then bz_rg a b m ||| ((1 : Int32) <<< (nI m &&& 31)) else bz_rg a b m
theorem bz_a31 (x : Int32) : x &&& 31 = nI (x.toBitVec.toNat % 32) := pk_and x 5 (by decide)
theorem bz_add31 (m : Nat) (b : Int32) : (nI m + b) &&& 31 = nI ((m + b.toBitVec.toNat) % 32) := by
  rw [bz_a31]
  apply congrArg nI
  rw [Int32.toBitVec_add, BitVec.toNat_add]
  show ((BitVec.ofNat 32 m).toNat + _) % 2 ^ 32 % 32 = _
  rw [BitVec.toNat_ofNat]
  omega
theorem bz_mv_bt (x b : Int32) {i : Nat} (hi : i < 32) : ∀ m, m ≤ 32 → (bt (bz_mv x b m) i = true ↔ ∃ j, j < m ∧ bt x j = true ∧ (j + b.toBitVec.toNat) % 32 = i)
  | 0, _ => by
    simp only [bz_mv, b_0]
    constructor
    · intro h; cases h
    · rintro ⟨j, h, -⟩; omega
  | m + 1, hm => by
    have ih := bz_mv_bt x b hi m (by omega)
    simp only [bz_mv]
    by_cases h : bt x m = true
    · rw [if_pos h, b_or, bz_add31, bz_1 (Nat.mod_lt _ (by decide)) i hi, Bool.or_eq_true, ih, decide_eq_true_eq]
      constructor
      · rintro (⟨j, h1, h2, h3⟩ | e)
        · exact ⟨j, by omega, h2, h3⟩
        · exact ⟨m, by omega, h, e.symm⟩
      · rintro ⟨j, h1, h2, h3⟩
        by_cases e : j = m
        · subst e; exact Or.inr h3.symm
        · exact Or.inl ⟨j, by omega, h2, h3⟩
    · rw [if_neg h, ih]
      constructor
      · rintro ⟨j, h1, h2, h3⟩; exact ⟨j, by omega, h2, h3⟩
      · rintro ⟨j, h1, h2, h3⟩
        by_cases e : j = m
        · subst e; exact absurd h2 h
        · exact ⟨j, by omega, h2, h3⟩
theorem bz_beq {a b : Bool} (h : a = true ↔ b = true) : a = b := by cases a <;> cases b <;> simp_all
theorem bz_mv_trn (x b : Int32) : bz_mv x b 32 = mx_trn x (nI ((32 - b.toBitVec.toNat % 32) % 32)) := by
  apply b_ext; intro i hi
  rw [bz_trn x (Nat.mod_lt _ (by decide)) hi]
  apply bz_beq
  rw [bz_mv_bt x b hi 32 (Nat.le_refl _)]
  constructor
  · rintro ⟨j, h1, h2, h3⟩
    rw [show (i + (32 - b.toBitVec.toNat % 32) % 32) % 32 = j from by omega]; exact h2
  · intro h
    exact ⟨_, Nat.mod_lt _ (by decide), h, by omega⟩
theorem bz_neg31 (b : Int32) : (0 - b) &&& 31 = nI ((32 - b.toBitVec.toNat % 32) % 32) := by
  rw [bz_a31]
  apply congrArg nI
  rw [Int32.toBitVec_sub, BitVec.toNat_sub]
  have := b.toBitVec.isLt
  show (2 ^ 32 - b.toBitVec.toNat + 0) % 2 ^ 32 % 32 = _
  omega
theorem bz_rg_bt (a b : Int32) {i : Nat} (hi : i < 32) : ∀ m, m ≤ 32 → (bt (bz_rg a b m) i = true ↔ i < m ∧ a ≤ nI i ∧ nI i ≤ b)
  | 0, _ => by
    simp only [bz_rg, b_0]
    constructor
    · intro h; cases h
    · rintro ⟨h, -⟩; omega
  | m + 1, hm => by
    have ih := bz_rg_bt a b hi m (by omega)
    simp only [bz_rg]
    by_cases h : a ≤ nI m ∧ nI m ≤ b
    · rw [if_pos h, b_or, bz_1 (by omega) i hi, Bool.or_eq_true, ih, decide_eq_true_eq]
      constructor
      · rintro (⟨h1, h2⟩ | e)
        · exact ⟨by omega, h2⟩
        · subst e; exact ⟨by omega, h⟩
      · rintro ⟨h1, h2⟩
        by_cases e : i = m
        · exact Or.inr e
        · exact Or.inl ⟨by omega, h2⟩
    · rw [if_neg h, ih]
      constructor
      · rintro ⟨h1, h2⟩; exact ⟨by omega, h2⟩
      · rintro ⟨h1, h2⟩
        by_cases e : i = m
        · subst e; exact absurd h2 h
        · exact ⟨by omega, h2⟩
/-- the range as the machine reckons it, both ends within 0 .. 31 -/
theorem bz_rg_mask {a b : Nat} (hb : b < 32) (h : a ≤ b) : ((-1 : Int32) <<< (nI a &&& 31)) &&& mx_us (-1) (nI (31 - b)) = bz_rg (nI a) (nI b) 32 := by
  apply b_ext; intro i hi
  apply bz_beq
  rw [bz_rg_bt _ _ hi 32 (Nat.le_refl _), nI_leI (by omega) (by omega), nI_leI (by omega) (by omega), b_and, b_shl a (by omega) _ hi, b_ushr (31 - b) (by omega)]
  by_cases h1 : a ≤ i
  · rw [b_m1 _ (by omega)]
    by_cases h2 : i ≤ b
    · rw [b_m1 _ (by omega)]; simp [h1, h2, hi]
    · rw [b_big (by omega)]; simp [h2]
  · simp [h1]
theorem bz_rg_cl {a b a' b' : Int32} (ha : ∀ i, i < 32 → (a ≤ nI i ↔ a' ≤ nI i)) (hb : ∀ i, i < 32 → (nI i ≤ b ↔ nI i ≤ b')) : bz_rg a b 32 = bz_rg a' b' 32 := by
  apply b_ext; intro i hi
  apply bz_beq
  rw [bz_rg_bt _ _ hi 32 (Nat.le_refl _), bz_rg_bt _ _ hi 32 (Nat.le_refl _), ha i hi, hb i hi]
theorem bz_rg_0 {a b : Int32} (h : b < a) : bz_rg a b 32 = 0 := by
  apply b_ext; intro i hi
  apply bz_beq
  rw [bz_rg_bt _ _ hi 32 (Nat.le_refl _), b_0]
  constructor
  · rintro ⟨-, h1, h2⟩
    rw [Int32.le_iff_toInt_le] at h1 h2
    rw [Int32.lt_iff_toInt_lt] at h
    omega
  · intro z; cases z
/-- what an expression of kind k makes of its operands -/
def bz_fo (k : Nat) (x y : Int32) : Int32 := match k with
  | 2 => x + y
  | 3 => x - y
  | 4 => x * y
  | 5 => if x < y then 1 else 0
  | 6 => if x = y then 1 else 0
  | 7 => nI (bz_pc x)
  | 8 => nI (bz_lo x)
  | 9 => if (0 ≤ x ∧ x ≤ 31) ∧ bt y x.toNatClampNeg = true then 1 else 0
  | 10 => if x &&& (y ^^^ (-1)) = 0 then 1 else 0
  | 18 => x ||| y
  | 19 => x &&& y
  | 20 => x &&& (y ^^^ (-1))
  | 21 => x ^^^ (-1)
  | 22 => (1 : Int32) <<< ((x &&& 31) &&& 31)
  | 23 => bz_mv x y 32
  | _ => bz_rg x y 32
end
section
/-! words, their places in memory, blocks of steps -/
def cx_wd (c o z rd rn x : Int32) : Int32 := ((((((c <<< ((28 : Int32) &&& 31)) ||| (o <<< ((21 : Int32) &&& 31))) ||| (z <<< ((20 : Int32) &&& 31))) ||| (rn <<< ((16 : Int32) &&& 31))) ||| (rd <<< ((12 : Int32) &&& 31))) ||| x)
def cx_sb (r how b : Int32) : Int32 := (((b <<< ((8 : Int32) &&& 31)) ||| (how <<< ((5 : Int32) &&& 31))) ||| 16) ||| r
def cx_bb (c l : Int32) : Int32 := ((c <<< ((28 : Int32) &&& 31)) ||| 167772160) ||| (l <<< ((24 : Int32) &&& 31))
def cx_bw (c l p t : Int32) : Int32 := cx_bb c l ||| (((t - p) - 2) &&& 16777215)
def cx_wr : List Int32 → (Nat → Int32) → Nat → Nat → Int32
  | [], mm, _ => mm
  | w :: ws, mm, c => cx_wr ws (upd mm c w) (c + 1)
def cx_at (M : Nat → Int32) : Nat → List Int32 → Prop
  | _, [] => True
  | p, w :: ws => M p = w ∧ cx_at M (p + 1) ws
theorem cx_wr_lo : ∀ (ws : List Int32) (mm : Nat → Int32) (c j : Nat), j < c → cx_wr ws mm c j = mm j
  | [], _, _, _, _ => rfl
  | w :: ws, mm, c, j, h => (cx_wr_lo ws (upd mm c w) (c + 1) j (by omega)).trans (pk_un (by omega))
theorem cx_wr_hi : ∀ (ws : List Int32) (mm : Nat → Int32) (c j : Nat), c + ws.length ≤ j → cx_wr ws mm c j = mm j
  | [], _, _, _, _ => rfl
  | w :: ws, mm, c, j, h => by
    rw [List.length_cons] at h
    exact (cx_wr_hi ws (upd mm c w) (c + 1) j (by omega)).trans (pk_un (by omega))
theorem cx_at_wr : ∀ (ws : List Int32) (mm : Nat → Int32) (c : Nat), cx_at (cx_wr ws mm c) c ws
  | [], _, _ => trivial
  | w :: ws, mm, c => ⟨(cx_wr_lo ws (upd mm c w) (c + 1) c (by omega)).trans pk_us, cx_at_wr ws (upd mm c w) (c + 1)⟩
theorem cx_at_eq {M M' : Nat → Int32} : ∀ (ws : List Int32) (p : Nat), (∀ j, p ≤ j → j < p + ws.length → M' j = M j) → cx_at M p ws → cx_at M' p ws
  | [], _, _, _ => trivial
  | w :: ws, p, h, k => by
    rw [List.length_cons] at h
    exact ⟨(h p (by omega) (by omega)).trans k.1, cx_at_eq ws (p + 1) (fun j h1 h2 => h j (by omega) (by omega)) k.2⟩
theorem cx_at_app {M : Nat → Int32} : ∀ (a b : List Int32) (p : Nat), cx_at M p (a ++ b) → cx_at M p a ∧ cx_at M (p + a.length) b
  | [], b, p, h => ⟨trivial, h⟩
  | w :: a, b, p, h => by
    obtain ⟨h1, h2⟩ := cx_at_app a b (p + 1) h.2
    refine ⟨⟨h.1, h1⟩, ?_⟩
    rw [List.length_cons, show p + (a.length + 1) = p + 1 + a.length from by omega]
    exact h2
theorem cx_wr_app : ∀ (a b : List Int32) (mm : Nat → Int32) (c : Nat), cx_wr (a ++ b) mm c = cx_wr b (cx_wr a mm c) (c + a.length)
  | [], _, _, _ => rfl
  | w :: a, b, mm, c => by
    rw [List.length_cons, show c + (a.length + 1) = c + 1 + a.length from by omega]
    exact cx_wr_app a b (upd mm c w) (c + 1)
/-- the routines -/
def cx_rt : List Int32 := [cx_wd 14 10 1 0 12 33558372, cx_wd 10 13 0 0 0 33554433, -1358954496, cx_wd 14 4 0 12 12 33554433, cx_wd 14 13 0 15 0 14,
  cx_wd 14 13 0 1 0 33554432, cx_wd 14 10 1 0 0 (33554432 ||| 0), cx_wd 0 13 0 0 0 1, cx_wd 0 13 0 15 0 14, cx_wd 14 2 0 2 0 33554433, cx_wd 14 0 0 0 0 2, cx_wd 14 4 0 1 1 33554433, cx_bw 14 0 (nI 12) (nI 6),
  cx_wd 14 10 1 0 0 (33554432 ||| 0), cx_wd 0 13 0 0 0 33554464, cx_wd 0 13 0 15 0 14, cx_wd 14 13 0 1 0 33554432, cx_wd 14 8 1 0 0 33554433, cx_wd 1 13 0 0 0 1, cx_wd 1 13 0 15 0 14, cx_wd 14 13 0 0 0 160, cx_wd 14 4 0 1 1 33554433, cx_bw 14 0 (nI 22) (nI 17)]
/-- branches within 400 words -/
theorem cx_bdec : ∀ d, d < 820 → (mx_B (cx_bb 14 0 ||| ((nI d - 410) &&& 16777215)) 14 0 ∧ mx_sx (cx_bb 14 0 ||| ((nI d - 410) &&& 16777215)) = nI d - 410) ∧ (mx_B (cx_bb 14 1 ||| ((nI d - 410) &&& 16777215)) 14 1 ∧ mx_sx (cx_bb 14 1 ||| ((nI d - 410) &&& 16777215)) = nI d - 410) ∧ (mx_B (cx_bb 0 0 ||| ((nI d - 410) &&& 16777215)) 0 0 ∧ mx_sx (cx_bb 0 0 ||| ((nI d - 410) &&& 16777215)) = nI d - 410) := by decide +kernel
theorem cx_off {p t : Nat} (hp : p ≤ 400) : nI t - nI p - 2 = nI (t + 408 - p) - 410 := by
  rw [← pk_sub (show p ≤ t + 408 by omega), ← nI_add, show nI 408 = 408 from rfl]
  grind
theorem cx_tgt (p t : Nat) : (nI (p + 1) + 1) + (nI t - nI p - 2) = nI t := by
  rw [← nI_1 p]
  grind
theorem cx_bw0 {p t : Nat} (hp : p ≤ 400) (ht : t ≤ 400) : mx_B (cx_bw 14 0 (nI p) (nI t)) 14 0 ∧ (nI (p + 1) + 1) + mx_sx (cx_bw 14 0 (nI p) (nI t)) = nI t := by
  have h := (cx_bdec (t + 408 - p) (by omega)).1
  rw [← cx_off hp] at h
  refine ⟨h.1, ?_⟩
  show (nI (p + 1) + 1) + mx_sx (cx_bb 14 0 ||| ((nI t - nI p - 2) &&& 16777215)) = nI t
  rw [h.2]; exact cx_tgt p t
theorem cx_bw1 {p t : Nat} (hp : p ≤ 400) (ht : t ≤ 400) : mx_B (cx_bw 14 1 (nI p) (nI t)) 14 1 ∧ (nI (p + 1) + 1) + mx_sx (cx_bw 14 1 (nI p) (nI t)) = nI t := by
  have h := (cx_bdec (t + 408 - p) (by omega)).2.1
  rw [← cx_off hp] at h
  refine ⟨h.1, ?_⟩
  show (nI (p + 1) + 1) + mx_sx (cx_bb 14 1 ||| ((nI t - nI p - 2) &&& 16777215)) = nI t
  rw [h.2]; exact cx_tgt p t
theorem cx_bwe {p t : Nat} (hp : p ≤ 400) (ht : t ≤ 400) : mx_B (cx_bw 0 0 (nI p) (nI t)) 0 0 ∧ (nI (p + 1) + 1) + mx_sx (cx_bw 0 0 (nI p) (nI t)) = nI t := by
  have h := (cx_bdec (t + 408 - p) (by omega)).2.2
  rw [← cx_off hp] at h
  refine ⟨h.1, ?_⟩
  show (nI (p + 1) + 1) + mx_sx (cx_bb 0 0 ||| ((nI t - nI p - 2) &&& 16777215)) = nI t
  rw [h.2]; exact cx_tgt p t
/-- from p to q, registers rr' with Q -/
def mx_bf (u : SX) (pc : Int32) (mm pl : Nat → Int32) (p q : Nat) (rr : Nat → Int32) (ng zr cy ov : Int32) (Q : (Nat → Int32) → Prop) : Prop :=
  ∃ ng' zr' cy' ov' rr', mx_r (mx_c u (nI p) ng zr cy ov pc mm rr pl) (mx_c u (nI q) ng' zr' cy' ov' pc mm rr' pl) ∧ Q rr'
section
variable {u : SX} {pc : Int32} {mm pl : Nat → Int32} {p q : Nat} {rr : Nat → Int32} {ng zr cy ov : Int32} {Q : (Nat → Int32) → Prop} {w : Int32}
theorem bf_end (h : Q rr) : mx_bf u pc mm pl p p rr ng zr cy ov Q := ⟨ng, zr, cy, ov, rr, mx_rf _, h⟩
theorem bf_go {t : Nat} {ng' zr' cy' ov' : Int32} {rr' : Nat → Int32} (h : mx_r (mx_c u (nI p) ng zr cy ov pc mm rr pl) (mx_c u (nI t) ng' zr' cy' ov' pc mm rr' pl)) (k : mx_bf u pc mm pl t q rr' ng' zr' cy' ov' Q) : mx_bf u pc mm pl p q rr ng zr cy ov Q := by
  obtain ⟨a, b, c, d, r, h1, h2⟩ := k
  exact ⟨a, b, c, d, r, mx_tr h h1, h2⟩
theorem bf_seq {t : Nat} {Q' : (Nat → Int32) → Prop} (h : mx_bf u pc mm pl p t rr ng zr cy ov Q') (k : ∀ rr' ng' zr' cy' ov', Q' rr' → mx_bf u pc mm pl t q rr' ng' zr' cy' ov' Q) : mx_bf u pc mm pl p q rr ng zr cy ov Q := by
  obtain ⟨a, b, c, d, r, h1, h2⟩ := h
  exact bf_go h1 (k r a b c d h2)
theorem bf_imp {Q' : (Nat → Int32) → Prop} (h : mx_bf u pc mm pl p q rr ng zr cy ov Q') (k : ∀ rr', Q' rr' → Q rr') : mx_bf u pc mm pl p q rr ng zr cy ov Q := by
  obtain ⟨a, b, c, d, r, h1, h2⟩ := h
  exact ⟨a, b, c, d, r, h1, k r h2⟩
theorem bf_I (c o rn rd : Nat) (y : Int32) (hw : mm p = w) (k : mx_bf u pc mm pl (p + 1) q (upd rr rd (mx_al o (rr rn) y)) ng zr cy ov Q) (hm : mx_mt c ng zr cy ov := by trivial) (hp : p < 1024 := by omega) (hD : mx_D w c o 0 rn rd := by decide +kernel) (hI : mx_dI w y := by decide +kernel) (hc : mx_cc c := by decide) (ho : mx_oo o := by decide) (hrn : rn < 16 := by decide) (hrd : rd < 15 := by decide) : mx_bf u pc mm pl p q rr ng zr cy ov Q :=
  bf_go (mx_alu p hp hw c o rn rd hc ho hD hrn hrd (mx_opI hI) hm) k
theorem bf_R (c o rn rd rm : Nat) (hw : mm p = w) (k : mx_bf u pc mm pl (p + 1) q (upd rr rd (mx_al o (rr rn) (rr rm))) ng zr cy ov Q) (hm : mx_mt c ng zr cy ov := by trivial) (hp : p < 1024 := by omega) (hD : mx_D w c o 0 rn rd := by decide +kernel) (hI : mx_dS w rm 0 0 ∧ (mx_us w 7 &&& 31) = 0 := by decide +kernel) (hc : mx_cc c := by decide) (ho : mx_oo o := by decide) (hrn : rn < 16 := by decide) (hrd : rd < 15 := by decide) (hrm : rm < 16 := by decide) : mx_bf u pc mm pl p q rr ng zr cy ov Q :=
  bf_go (mx_alu p hp hw c o rn rd hc ho hD hrn hrd (mx_opR rm hrm hI) hm) k
/-- any operand -/
theorem bf_O (c o rn rd : Nat) (y : Int32) (hw : mm p = w) (hy : mx_op w rr y) (k : mx_bf u pc mm pl (p + 1) q (upd rr rd (mx_al o (rr rn) y)) ng zr cy ov Q) (hm : mx_mt c ng zr cy ov := by trivial) (hp : p < 1024 := by omega) (hD : mx_D w c o 0 rn rd := by decide +kernel) (hc : mx_cc c := by decide) (ho : mx_oo o := by decide) (hrn : rn < 16 := by decide) (hrd : rd < 15 := by decide) : mx_bf u pc mm pl p q rr ng zr cy ov Q :=
  bf_go (mx_alu p hp hw c o rn rd hc ho hD hrn hrd hy hm) k
theorem bf_S (c : Nat) (hw : mm p = w) (k : mx_bf u pc mm pl (p + 1) q rr ng zr cy ov Q) (hm : ¬ mx_mt c ng zr cy ov) (hp : p < 1024 := by omega) (hD : mx_us w 28 = nI c := by decide +kernel) (hc : mx_cc c := by decide) : mx_bf u pc mm pl p q rr ng zr cy ov Q :=
  bf_go (mx_skip p hp hw c hc hD hm) k
theorem bf_CI (rn : Nat) (y : Int32) (hw : mm p = w) (k : mx_bf u pc mm pl (p + 1) q rr (mx_fN (rr rn - y)) (mx_fZ (rr rn - y)) (mx_fC (rr rn) y) (mx_fV (rr rn) y) Q) (hp : p < 1024 := by omega) (hD : mx_D w 14 10 1 rn 0 := by decide +kernel) (hI : mx_dI w y := by decide +kernel) (hrn : rn < 16 := by decide) : mx_bf u pc mm pl p q rr ng zr cy ov Q :=
  bf_go (mx_cmp p hp hw rn 0 hD hrn (mx_opI hI)) k
theorem bf_CR (rn rm : Nat) (hw : mm p = w) (k : mx_bf u pc mm pl (p + 1) q rr (mx_fN (rr rn - rr rm)) (mx_fZ (rr rn - rr rm)) (mx_fC (rr rn) (rr rm)) (mx_fV (rr rn) (rr rm)) Q) (hp : p < 1024 := by omega) (hD : mx_D w 14 10 1 rn 0 := by decide +kernel) (hI : mx_dS w rm 0 0 ∧ (mx_us w 7 &&& 31) = 0 := by decide +kernel) (hrn : rn < 16 := by decide) (hrm : rm < 16 := by decide) : mx_bf u pc mm pl p q rr ng zr cy ov Q :=
  bf_go (mx_cmp p hp hw rn 0 hD hrn (mx_opR rm hrm hI)) k
/-- back to where register 14 says -/
theorem bf_B (c t : Nat) (hw : mm p = w) (h14 : rr 14 = nI t) (k : mx_bf u pc mm pl t q rr ng zr cy ov Q) (hm : mx_mt c ng zr cy ov := by trivial) (hp : p < 1024 := by omega) (hD : mx_D w c 13 0 0 15 := by decide +kernel) (hI : mx_dS w 14 0 0 ∧ (mx_us w 7 &&& 31) = 0 := by decide +kernel) (hc : mx_cc c := by decide) : mx_bf u pc mm pl p q rr ng zr cy ov Q := by
  have h := mx_alup (u := u) (pc := pc) (pl := pl) (rr := rr) p hp hw c 13 0 hc (by decide) hD (by decide) (mx_opR 14 (by decide) hI) hm
  rw [show mx_al 13 (rr 0) (rr 14) = nI t from h14] at h
  exact bf_go h k
end
theorem mx_kp {rr rr' : Nat → Int32} {d : Nat} {x : Int32} (h : d < 3 ∨ 13 < d) (k : ∀ j, 3 ≤ j → j ≤ 13 → rr' j = rr j) : ∀ j, 3 ≤ j → j ≤ 13 → upd rr' d x j = rr j :=
  fun j h1 h2 => (pk_un (by omega)).trans (k j h1 h2)
theorem mx_kr {rr : Nat → Int32} : ∀ j, 3 ≤ j → j ≤ 13 → rr j = rr j := fun _ _ _ => rfl
end
section
/-! the routines: a tick, the size of a set, its least member -/
section
variable {u : SX} {pc : Int32} {mm pl : Nat → Int32}
theorem rt_tick (hR : cx_at mm 0 cx_rt) (p n : Nat) (hp : p < 400) (hw : mm p = cx_bw 14 1 (nI p) (nI 0)) (hn : n < 400) {rr : Nat → Int32} (h12 : rr 12 = nI n) {ng zr cy ov : Int32} : mx_bf u pc mm pl p (p + 1) rr ng zr cy ov (fun rr' => rr' = upd (upd rr 14 (nI (p + 1))) 12 (nI (n + 1))) := by
  obtain ⟨r0, r1, r2, r3, r4, -⟩ := hR
  have hb := cx_bw1 (p := p) (t := 0) (by omega) (by omega)
  refine bf_go (mx_bl p 0 (by omega) hw hb.1 hb.2) ?_
  refine bf_CI 12 400 r0 ?_
  have hm : ¬ mx_mt 10 (mx_fN (upd rr 14 (nI (p + 1)) 12 - 400)) (mx_fZ (upd rr 14 (nI (p + 1)) 12 - 400)) (mx_fC (upd rr 14 (nI (p + 1)) 12) 400) (mx_fV (upd rr 14 (nI (p + 1)) 12) 400) := by
    rw [mx_cGE, show upd rr 14 (nI (p + 1)) 12 = nI n from h12]
    exact nI_ge (b := 400) hn (by decide)
  refine bf_S 10 r1 (bf_S 10 r2 ?_ hm) hm
  refine bf_I 14 4 12 12 1 r3 ?_
  refine bf_B 14 (p + 1) r4 rfl ?_
  refine bf_end ?_
  show upd (upd rr 14 (nI (p + 1))) 12 (rr 12 + 1) = _
  rw [h12, nI_1]
theorem rt_tired (hR : cx_at mm 0 cx_rt) (p : Nat) (hp : p < 400) (hw : mm p = cx_bw 14 1 (nI p) (nI 0)) {rr : Nat → Int32} (h12 : rr 12 = nI 400) {ng zr cy ov : Int32} : ∃ ip' ng' zr' cy' ov', ∀ post : Int32 → SX → Prop, post 1 (mx_h u ip' ng' zr' cy' ov' pc mm (upd (upd rr 14 (nI (p + 1))) 0 1) pl) → mx_R post (mx_c u (nI p) ng zr cy ov pc mm rr pl) := by
  obtain ⟨r0, r1, r2, r3, r4, -⟩ := hR
  have hb := cx_bw1 (p := p) (t := 0) (by omega) (by omega)
  have hm : mx_mt 10 (mx_fN (upd rr 14 (nI (p + 1)) 12 - 400)) (mx_fZ (upd rr 14 (nI (p + 1)) 12 - 400)) (mx_fC (upd rr 14 (nI (p + 1)) 12) 400) (mx_fV (upd rr 14 (nI (p + 1)) 12) 400) := by
    rw [mx_cGE, show upd rr 14 (nI (p + 1)) 12 = nI 400 from h12]
    exact Int32.le_refl _
  have h1 := mx_bl (u := u) (pc := pc) (pl := pl) (rr := rr) (ng := ng) (zr := zr) (cy := cy) (ov := ov) p 0 (by omega) hw hb.1 hb.2
  have h2 := mx_cmp (u := u) (pc := pc) (pl := pl) (rr := upd rr 14 (nI (p + 1))) (ng := ng) (zr := zr) (cy := cy) (ov := ov) 0 (by decide) r0 12 0 (by decide +kernel) (by decide) (y := 400) (mx_opI (by decide +kernel))
  have h3 := mx_alu (u := u) (pc := pc) (pl := pl) (rr := upd rr 14 (nI (p + 1))) 1 (by decide) r1 10 13 0 0 (by decide) (by decide) (by decide +kernel) (by decide) (by decide) (y := 1) (mx_opI (by decide +kernel)) hm
  refine ⟨nI 3, mx_fN (upd rr 14 (nI (p + 1)) 12 - 400), mx_fZ (upd rr 14 (nI (p + 1)) 12 - 400), mx_fC (upd rr 14 (nI (p + 1)) 12) 400, mx_fV (upd rr 14 (nI (p + 1)) 12) 400, fun post hp => mx_tr h1 (mx_tr h2 h3) post ?_⟩
  exact mx_swi0 2 (by decide) r2 10 (by decide) (by decide +kernel) (by decide +kernel) (by decide +kernel) hm post hp
theorem rt_szl (hR : cx_at mm 0 cx_rt) (t : Nat) : ∀ (m c : Nat) (rr : Nat → Int32) (ng zr cy ov : Int32), bz_pc (rr 0) = m → rr 1 = nI c → rr 14 = nI t → mx_bf u pc mm pl 6 t rr ng zr cy ov (fun rr' => rr' 0 = nI (c + m) ∧ ∀ j, 3 ≤ j → j ≤ 13 → rr' j = rr j) := by
  obtain ⟨-, -, -, -, -, -, r6, r7, r8, r9, r10, r11, r12, -⟩ := hR
  have hb := cx_bw0 (p := 12) (t := 6) (by omega) (by omega)
  intro m
  induction m with
  | zero =>
    intro c rr ng zr cy ov h0 h1 h14
    have hx : rr 0 = 0 := by
      apply Classical.byContradiction; intro z
      have := bz_pc_low z; omega
    have hm : mx_mt 0 (mx_fN (rr 0 - 0)) (mx_fZ (rr 0 - 0)) (mx_fC (rr 0) 0) (mx_fV (rr 0) 0) := mx_cEQ.mpr hx
    refine bf_CI 0 0 r6 (bf_R 0 13 0 0 1 r7 (bf_B 0 t r8 h14 (bf_end ⟨h1, mx_kp (by decide) mx_kr⟩) hm) hm)
  | succ m ih =>
    intro c rr ng zr cy ov h0 h1 h14
    have hx : ¬ rr 0 = 0 := by
      intro z; rw [z, bz_pc0] at h0; omega
    have hm : ¬ mx_mt 0 (mx_fN (rr 0 - 0)) (mx_fZ (rr 0 - 0)) (mx_fC (rr 0) 0) (mx_fV (rr 0) 0) := fun z => hx (mx_cEQ.mp z)
    refine bf_CI 0 0 r6 (bf_S 0 r7 (bf_S 0 r8 ?_ hm) hm)
    refine bf_I 14 2 0 2 1 r9 (bf_R 14 0 0 0 2 r10 (bf_I 14 4 1 1 1 r11 (bf_go (mx_bra 12 6 (by decide) r12 14 (by decide) hb.1 hb.2 trivial) ?_)))
    have hp := bz_pc_low hx
    refine bf_imp (ih (c + 1) _ _ _ _ _ ?_ ?_ h14) (fun rr' h => ⟨?_, fun j a b => (h.2 j a b).trans (mx_kp (by decide) (mx_kp (by decide) (mx_kp (by decide) mx_kr)) j a b)⟩)
    · show bz_pc (rr 0 &&& (rr 0 - 1)) = m
      omega
    · show rr 1 + 1 = nI (c + 1)
      rw [h1, nI_1]
    · rw [h.1]; exact congrArg nI (by omega)
theorem rt_size (hR : cx_at mm 0 cx_rt) (p : Nat) (hp : p < 400) (hw : mm p = cx_bw 14 1 (nI p) (nI 5)) {rr : Nat → Int32} {ng zr cy ov : Int32} : mx_bf u pc mm pl p (p + 1) rr ng zr cy ov (fun rr' => rr' 0 = nI (bz_pc (rr 0)) ∧ ∀ j, 3 ≤ j → j ≤ 13 → rr' j = rr j) := by
  have hb := cx_bw1 (p := p) (t := 5) (by omega) (by omega)
  have r5 := hR.2.2.2.2.2.1
  refine bf_go (mx_bl p 5 (by omega) hw hb.1 hb.2) (bf_I 14 13 0 1 0 r5 ?_)
  refine bf_imp (rt_szl hR (p + 1) (bz_pc (rr 0)) 0 _ _ _ _ _ rfl rfl rfl) (fun rr' h => ⟨?_, fun j a b => (h.2 j a b).trans (mx_kp (by decide) (mx_kp (by decide) mx_kr) j a b)⟩)
  rw [h.1, Nat.zero_add]
theorem rt_us1 (x : Int32) {j : Nat} (hj : j < 31) : mx_us (mx_us x (nI j)) 1 = mx_us x (nI (j + 1)) := by
  apply b_ext; intro i hi
  rw [b_ushr (j + 1) (by omega), show mx_us (mx_us x (nI j)) 1 = mx_us (mx_us x (nI j)) (nI 1) from rfl, b_ushr 1 (by decide), b_ushr j (by omega)]
  exact congrArg (bt x) (by omega)
theorem rt_lsl (hR : cx_at mm 0 cx_rt) (t : Nat) (x : Int32) (hl : bz_lo x < 32) : ∀ (m j : Nat) (rr : Nat → Int32) (ng zr cy ov : Int32), j + m = bz_lo x → rr 0 = mx_us x (nI j) → rr 1 = nI j → rr 14 = nI t → mx_bf u pc mm pl 17 t rr ng zr cy ov (fun rr' => rr' 0 = nI (bz_lo x) ∧ ∀ j, 3 ≤ j → j ≤ 13 → rr' j = rr j) := by
  obtain ⟨-, -, -, -, -, -, -, -, -, -, -, -, -, -, -, -, -, r17, r18, r19, r20, r21, r22, -⟩ := hR
  have hb := cx_bw0 (p := 22) (t := 17) (by omega) (by omega)
  obtain ⟨s1, s2, s3⟩ : bz_lo x < 32 ∧ bt x (bz_lo x) = true ∧ ∀ j, j < bz_lo x → bt x j = false := by
    rcases bz_lo_spec x with h | h
    · omega
    · exact h
  intro m
  induction m with
  | zero =>
    intro j rr ng zr cy ov hj h0 h1 h14
    have hm : mx_mt 1 (mx_fN (rr 0 &&& 1)) (mx_fZ (rr 0 &&& 1)) cy ov := by
      rw [mx_cT, h0, bz_has x (by omega), show j = bz_lo x from by omega, s2]
      decide
    refine bf_go (mx_tst 17 (by decide) r17 0 0 (by decide +kernel) (by decide) (y := 1) (mx_opI (by decide +kernel))) ?_
    refine bf_R 1 13 0 0 1 r18 (bf_B 1 t r19 h14 (bf_end ⟨?_, mx_kp (by decide) mx_kr⟩) hm) hm
    show rr 1 = _
    rw [h1, show j = bz_lo x from by omega]
  | succ m ih =>
    intro j rr ng zr cy ov hj h0 h1 h14
    have hm : ¬ mx_mt 1 (mx_fN (rr 0 &&& 1)) (mx_fZ (rr 0 &&& 1)) cy ov := by
      rw [mx_cT, h0, bz_has x (by omega), s3 j (by omega)]
      decide
    refine bf_go (mx_tst 17 (by decide) r17 0 0 (by decide +kernel) (by decide) (y := 1) (mx_opI (by decide +kernel))) ?_
    refine bf_S 1 r18 (bf_S 1 r19 ?_ hm) hm
    refine bf_O 14 13 0 0 (mx_us (rr 0) 1) r20 (mx_opS 0 (by decide) (by decide +kernel)) (bf_I 14 4 1 1 1 r21 (bf_go (mx_bra 22 17 (by decide) r22 14 (by decide) hb.1 hb.2 trivial) ?_))
    refine bf_imp (ih (j + 1) _ _ _ _ _ (by omega) ?_ ?_ h14) (fun rr' h => ⟨h.1, fun j a b => (h.2 j a b).trans (mx_kp (by decide) (mx_kp (by decide) mx_kr) j a b)⟩)
    · show mx_us (rr 0) 1 = _
      rw [h0, rt_us1 x (by omega)]
    · show rr 1 + 1 = nI (j + 1)
      rw [h1, nI_1]
theorem rt_least (hR : cx_at mm 0 cx_rt) (p : Nat) (hp : p < 400) (hw : mm p = cx_bw 14 1 (nI p) (nI 13)) {rr : Nat → Int32} {ng zr cy ov : Int32} : mx_bf u pc mm pl p (p + 1) rr ng zr cy ov (fun rr' => rr' 0 = nI (bz_lo (rr 0)) ∧ ∀ j, 3 ≤ j → j ≤ 13 → rr' j = rr j) := by
  have hb := cx_bw1 (p := p) (t := 13) (by omega) (by omega)
  have hR' := hR
  obtain ⟨-, -, -, -, -, -, -, -, -, -, -, -, -, r13, r14, r15, r16, -⟩ := hR'
  refine bf_go (mx_bl p 13 (by omega) hw hb.1 hb.2) (bf_CI 0 0 r13 ?_)
  by_cases hx : rr 0 = 0
  · have hm : mx_mt 0 (mx_fN (upd rr 14 (nI (p + 1)) 0 - 0)) (mx_fZ (upd rr 14 (nI (p + 1)) 0 - 0)) (mx_fC (upd rr 14 (nI (p + 1)) 0) 0) (mx_fV (upd rr 14 (nI (p + 1)) 0) 0) := mx_cEQ.mpr hx
    refine bf_I 0 13 0 0 32 r14 (bf_B 0 (p + 1) r15 rfl (bf_end ⟨?_, mx_kp (by decide) (mx_kp (by decide) mx_kr)⟩) hm) hm
    show (32 : Int32) = _
    rw [bz_lo_32.mpr hx]; rfl
  · have hm : ¬ mx_mt 0 (mx_fN (upd rr 14 (nI (p + 1)) 0 - 0)) (mx_fZ (upd rr 14 (nI (p + 1)) 0 - 0)) (mx_fC (upd rr 14 (nI (p + 1)) 0) 0) (mx_fV (upd rr 14 (nI (p + 1)) 0) 0) := fun z => hx (mx_cEQ.mp z)
    refine bf_S 0 r14 (bf_S 0 r15 (bf_I 14 13 0 1 0 r16 ?_) hm) hm
    have hl : bz_lo (rr 0) < 32 := by
      rcases bz_lo_spec (rr 0) with h | h
      · exact absurd h.2 hx
      · exact h.1
    refine bf_imp (rt_lsl hR (p + 1) (rr 0) hl (bz_lo (rr 0)) 0 _ _ _ _ _ (by omega) ?_ rfl rfl) (fun rr' h => ⟨h.1, fun j a b => (h.2 j a b).trans (mx_kp (by decide) (mx_kp (by decide) mx_kr) j a b)⟩)
    show rr 0 = _
    apply b_ext; intro i hi
    rw [b_ushr 0 (by decide), Nat.zero_add]
end
end
section
/-! the words that end an expression, and what they do -/
def cx_fw (k p : Nat) : List Int32 := match k with
  | 2 => [cx_wd 14 4 0 0 0 1]
  | 3 => [cx_wd 14 2 0 0 0 1]
  | 4 => [-536739440, cx_wd 14 13 0 0 0 2]
  | 5 => [cx_wd 14 10 1 0 0 1, cx_wd 14 13 0 0 0 33554432, cx_wd 11 13 0 0 0 33554433]
  | 6 => [cx_wd 14 10 1 0 0 1, cx_wd 14 13 0 0 0 33554432, cx_wd 0 13 0 0 0 33554433]
  | 7 => [cx_bw 14 1 (nI p) (nI 5)]
  | 8 => [cx_bw 14 1 (nI p) (nI 13)]
  | 9 => [cx_wd 14 10 1 0 0 (33554432 ||| 31), cx_wd 8 13 0 0 0 33554432, cx_wd 9 13 0 1 0 (cx_sb 1 1 0), cx_wd 9 0 0 0 1 33554433]
  | 10 => [cx_wd 14 14 0 0 0 1, cx_wd 14 10 1 0 0 (33554432 ||| 0), cx_wd 14 13 0 0 0 33554432, cx_wd 0 13 0 0 0 33554433]
  | 18 => [cx_wd 14 12 0 0 0 1]
  | 19 => [cx_wd 14 0 0 0 0 1]
  | 20 => [cx_wd 14 14 0 0 0 1]
  | 21 => [cx_wd 14 15 0 0 0 0]
  | 22 => [cx_wd 14 0 0 0 0 33554463, cx_wd 14 13 0 1 0 33554433, cx_wd 14 13 0 0 0 (cx_sb 1 0 0)]
  | 23 => [cx_wd 14 3 0 1 1 33554432, cx_wd 14 0 0 1 1 33554463, cx_wd 14 13 0 0 0 (cx_sb 0 3 1)]
  | 24 => [cx_wd 14 10 1 0 0 (33554432 ||| 0), cx_wd 11 13 0 0 0 33554432, cx_wd 14 10 1 0 1 (33554432 ||| 31), cx_wd 12 13 0 1 0 33554463, cx_wd 14 10 1 0 0 1, cx_wd 14 15 0 2 0 33554432, cx_wd 13 13 0 0 0 (cx_sb 2 0 0), cx_wd 13 3 0 1 1 33554463, cx_wd 13 0 0 0 0 (cx_sb 2 1 1), cx_wd 12 13 0 0 0 33554432]
  | _ => []
def cx_kd (k : Nat) : Prop := k = 2 ∨ k = 3 ∨ k = 4 ∨ k = 5 ∨ k = 6 ∨ k = 7 ∨ k = 8 ∨ k = 9 ∨ k = 10 ∨ k = 18 ∨ k = 19 ∨ k = 20 ∨ k = 21 ∨ k = 22 ∨ k = 23 ∨ k = 24
theorem cx_kd_lt {k : Nat} (h : cx_kd k) : k < 32 := by unfold cx_kd at h; omega
theorem cx_fw_len {k p : Nat} (h : cx_kd k) : 1 ≤ (cx_fw k p).length ∧ (cx_fw k p).length ≤ 10 := by
  rcases h with rfl | rfl | rfl | rfl | rfl | rfl | rfl | rfl | rfl | rfl | rfl | rfl | rfl | rfl | rfl | rfl <;> simp [cx_fw]
section
variable {u : SX} {pc : Int32} {mm pl : Nat → Int32} {p : Nat} {rr : Nat → Int32} {ng zr cy ov : Int32}
def fi_Q (k : Nat) (rr : Nat → Int32) : (Nat → Int32) → Prop := fun rr' => rr' 0 = bz_fo k (rr 0) (rr 1) ∧ ∀ j, 3 ≤ j → j ≤ 13 → rr' j = rr j
theorem fi_4 (hp : p < 400) (h : cx_at mm p (cx_fw 4 p)) : mx_bf u pc mm pl p (p + 2) rr ng zr cy ov (fi_Q 4 rr) := by
  obtain ⟨h0, h1, -⟩ := h
  exact bf_go (mx_mul p (by omega) h0) (bf_R 14 13 0 0 2 h1 (bf_end ⟨rfl, mx_kp (by decide) (mx_kp (by decide) mx_kr)⟩))
theorem fi_5 (hp : p < 400) (h : cx_at mm p (cx_fw 5 p)) : mx_bf u pc mm pl p (p + 3) rr ng zr cy ov (fi_Q 5 rr) := by
  obtain ⟨h0, h1, h2, -⟩ := h
  refine bf_CR 0 1 h0 (bf_I 14 13 0 0 0 h1 ?_)
  by_cases hx : rr 0 < rr 1
  · refine bf_I 11 13 0 0 1 h2 (bf_end ⟨?_, mx_kp (by decide) (mx_kp (by decide) mx_kr)⟩) (mx_cLT.mpr hx)
    show (1 : Int32) = if rr 0 < rr 1 then 1 else 0
    rw [if_pos hx]
  · refine bf_S 11 h2 (bf_end ⟨?_, mx_kp (by decide) mx_kr⟩) (fun z => hx (mx_cLT.mp z))
    show (0 : Int32) = if rr 0 < rr 1 then 1 else 0
    rw [if_neg hx]
theorem fi_6 (hp : p < 400) (h : cx_at mm p (cx_fw 6 p)) : mx_bf u pc mm pl p (p + 3) rr ng zr cy ov (fi_Q 6 rr) := by
  obtain ⟨h0, h1, h2, -⟩ := h
  refine bf_CR 0 1 h0 (bf_I 14 13 0 0 0 h1 ?_)
  by_cases hx : rr 0 = rr 1
  · refine bf_I 0 13 0 0 1 h2 (bf_end ⟨?_, mx_kp (by decide) (mx_kp (by decide) mx_kr)⟩) (mx_cEQ.mpr hx)
    show (1 : Int32) = if rr 0 = rr 1 then 1 else 0
    rw [if_pos hx]
  · refine bf_S 0 h2 (bf_end ⟨?_, mx_kp (by decide) mx_kr⟩) (fun z => hx (mx_cEQ.mp z))
    show (0 : Int32) = if rr 0 = rr 1 then 1 else 0
    rw [if_neg hx]
theorem fi_255 {m : Nat} (hm : m < 32) : nI m &&& 255 = nI m := by
  rw [pk_andN (by omega) 8 (by decide), Nat.mod_eq_of_lt (by omega)]
theorem fi_9 (hp : p < 400) (h : cx_at mm p (cx_fw 9 p)) : mx_bf u pc mm pl p (p + 4) rr ng zr cy ov (fi_Q 9 rr) := by
  obtain ⟨h0, h1, h2, h3, -⟩ := h
  refine bf_CI 0 31 h0 ?_
  by_cases hx : 0 ≤ rr 0 ∧ rr 0 ≤ 31
  · obtain ⟨m, hm, e⟩ := nI_of2 (x := rr 0) (M := 31) (n := 31) (by decide) (Int32.not_lt.mpr hx.1) hx.2
    refine bf_S 8 h1 ?_ (fun z => mx_c31.mp z hx)
    refine bf_O 9 13 0 1 (mx_us (rr 1) (nI m)) h2 (mx_opQ 1 0 m (by decide) (by decide) (by omega) (by decide +kernel) (by rw [e]; exact fi_255 (by omega))) ?_ (mx_c31n.mpr hx)
    refine bf_I 9 0 1 0 1 h3 (bf_end ⟨?_, mx_kp (by decide) (mx_kp (by decide) mx_kr)⟩) (mx_c31n.mpr hx)
    show mx_us (rr 1) (nI m) &&& 1 = if (0 ≤ rr 0 ∧ rr 0 ≤ 31) ∧ bt (rr 1) (rr 0).toNatClampNeg = true then 1 else 0
    rw [bz_has _ (by omega), show (rr 0).toNatClampNeg = m from by rw [e, nI_clamp (by omega)]]
    by_cases hb : bt (rr 1) m = true
    · rw [if_pos hb, if_pos ⟨hx, hb⟩]
    · rw [if_neg hb, if_neg (fun z => hb z.2)]
  · refine bf_I 8 13 0 0 0 h1 ?_ (mx_c31.mpr hx)
    refine bf_S 9 h2 (bf_S 9 h3 (bf_end ⟨?_, mx_kp (by decide) mx_kr⟩) (fun z => hx (mx_c31n.mp z))) (fun z => hx (mx_c31n.mp z))
    show (0 : Int32) = if (0 ≤ rr 0 ∧ rr 0 ≤ 31) ∧ bt (rr 1) (rr 0).toNatClampNeg = true then 1 else 0
    rw [if_neg (fun z => hx z.1)]
theorem fi_10 (hp : p < 400) (h : cx_at mm p (cx_fw 10 p)) : mx_bf u pc mm pl p (p + 4) rr ng zr cy ov (fi_Q 10 rr) := by
  obtain ⟨h0, h1, h2, h3, -⟩ := h
  refine bf_R 14 14 0 0 1 h0 (bf_CI 0 0 h1 (bf_I 14 13 0 0 0 h2 ?_))
  by_cases hx : rr 0 &&& (rr 1 ^^^ (-1)) = 0
  · refine bf_I 0 13 0 0 1 h3 (bf_end ⟨?_, mx_kp (by decide) (mx_kp (by decide) (mx_kp (by decide) mx_kr))⟩) (mx_cEQ.mpr hx)
    show (1 : Int32) = if rr 0 &&& (rr 1 ^^^ (-1)) = 0 then 1 else 0
    rw [if_pos hx]
  · refine bf_S 0 h3 (bf_end ⟨?_, mx_kp (by decide) (mx_kp (by decide) mx_kr)⟩) (fun z => hx (mx_cEQ.mp z))
    show (0 : Int32) = if rr 0 &&& (rr 1 ^^^ (-1)) = 0 then 1 else 0
    rw [if_neg hx]
theorem fi_22 (hp : p < 400) (h : cx_at mm p (cx_fw 22 p)) : mx_bf u pc mm pl p (p + 3) rr ng zr cy ov (fi_Q 22 rr) := by
  obtain ⟨h0, h1, h2, -⟩ := h
  refine bf_I 14 0 0 0 31 h0 (bf_I 14 13 0 1 1 h1 ?_)
  have e := bz_a31 (rr 0)
  refine bf_O 14 13 0 0 _ h2 (mx_opL 1 0 ((rr 0).toBitVec.toNat % 32) (by decide) (by decide) (Nat.mod_lt _ (by decide)) (by decide +kernel) ?_) (bf_end ⟨?_, mx_kp (by decide) (mx_kp (by decide) (mx_kp (by decide) mx_kr))⟩)
  · show (rr 0 &&& 31) &&& 255 = _
    rw [e, fi_255 (Nat.mod_lt _ (by decide))]
  · show (1 : Int32) <<< (nI ((rr 0).toBitVec.toNat % 32) &&& 31) = (1 : Int32) <<< ((rr 0 &&& 31) &&& 31)
    rw [e]
theorem fi_23 (hp : p < 400) (h : cx_at mm p (cx_fw 23 p)) : mx_bf u pc mm pl p (p + 3) rr ng zr cy ov (fi_Q 23 rr) := by
  obtain ⟨h0, h1, h2, -⟩ := h
  refine bf_I 14 3 1 1 0 h0 (bf_I 14 0 1 1 31 h1 ?_)
  have e := bz_neg31 (rr 1)
  refine bf_O 14 13 0 0 _ h2 (mx_opO 0 1 ((32 - (rr 1).toBitVec.toNat % 32) % 32) (by decide) (by decide) (Nat.mod_lt _ (by decide)) (by decide +kernel) ?_) (bf_end ⟨?_, mx_kp (by decide) (mx_kp (by decide) (mx_kp (by decide) mx_kr))⟩)
  · show ((0 - rr 1) &&& 31) &&& 255 = _
    rw [e, fi_255 (Nat.mod_lt _ (by decide))]
  · show mx_trn (rr 0) (nI ((32 - (rr 1).toBitVec.toNat % 32) % 32)) = bz_mv (rr 0) (rr 1) 32
    rw [bz_mv_trn]
/-- the second half of a range: both ends are brought within -/
theorem fi_24b (hp : p < 400) {a b : Int32} (ha : 0 ≤ a) (hb : b ≤ 31) (h4 : mm p = cx_wd 14 10 1 0 0 1) (h5 : mm (p + 1) = cx_wd 14 15 0 2 0 33554432) (h6 : mm (p + 2) = cx_wd 13 13 0 0 0 (cx_sb 2 0 0)) (h7 : mm (p + 3) = cx_wd 13 3 0 1 1 33554463) (h8 : mm (p + 4) = cx_wd 13 0 0 0 0 (cx_sb 2 1 1)) (h9 : mm (p + 5) = cx_wd 12 13 0 0 0 33554432) (e0 : rr 0 = a) (e1 : rr 1 = b) : mx_bf u pc mm pl p (p + 6) rr ng zr cy ov (fun rr' => rr' 0 = bz_rg a b 32 ∧ ∀ j, 3 ≤ j → j ≤ 13 → rr' j = rr j) := by
  refine bf_CR 0 1 h4 (bf_I 14 15 0 2 0 h5 ?_)
  by_cases hx : rr 0 ≤ rr 1
  · have hx' := hx
    rw [e0, e1] at hx'
    obtain ⟨n, hn, en⟩ := nI_of2 (x := b) (M := 31) (n := 31) (by decide) (Int32.not_lt.mpr (Int32.le_trans ha hx')) hb
    obtain ⟨m, hm, em⟩ := nI_of2 (x := a) (M := 31) (n := 31) (by decide) (Int32.not_lt.mpr ha) (Int32.le_trans hx' hb)
    have hmn : m ≤ n := by rw [en, em, nI_leI (by omega) (by omega)] at hx'; exact hx'
    refine bf_O 13 13 0 0 _ h6 (mx_opL 2 0 m (by decide) (by decide) (by omega) (by decide +kernel) (show rr 0 &&& 255 = _ by rw [e0, em]; exact fi_255 (by omega))) ?_ (mx_cLE.mpr hx)
    refine bf_I 13 3 1 1 31 h7 ?_ (mx_cLE.mpr hx)
    refine bf_O 13 0 0 0 _ h8 (mx_opQ 2 1 (31 - n) (by decide) (by decide) (by omega) (by decide +kernel) ?_) ?_ (mx_cLE.mpr hx)
    · show (31 - rr 1) &&& 255 = _
      rw [e1, en, show (31 : Int32) = nI 31 from rfl, pk_sub (by omega)]; exact fi_255 (by omega)
    · refine bf_S 12 h9 (bf_end ⟨?_, mx_kp (by decide) (mx_kp (by decide) (mx_kp (by decide) (mx_kp (by decide) mx_kr)))⟩) (fun z => ?_)
      · show ((-1 : Int32) <<< (nI m &&& 31)) &&& mx_us (-1) (nI (31 - n)) = _
        rw [bz_rg_mask (by omega) hmn, en, em]
      · have := mx_cGT.mp z
        exact absurd hx (Int32.not_le.mpr this)
  · have hx' := Int32.not_le.mp hx
    refine bf_S 13 h6 (bf_S 13 h7 (bf_S 13 h8 (bf_I 12 13 0 0 0 h9 (bf_end ⟨?_, mx_kp (by decide) (mx_kp (by decide) mx_kr)⟩) (mx_cGT.mpr hx')) (fun z => hx (mx_cLE.mp z))) (fun z => hx (mx_cLE.mp z))) (fun z => hx (mx_cLE.mp z))
    show (0 : Int32) = _
    rw [e0, e1] at hx'
    rw [bz_rg_0 hx']
theorem fi_24 (hp : p < 390) (h : cx_at mm p (cx_fw 24 p)) : mx_bf u pc mm pl p (p + 10) rr ng zr cy ov (fi_Q 24 rr) := by
  obtain ⟨h0, h1, h2, h3, h4, h5, h6, h7, h8, h9, -⟩ := h
  -- after the first clamp
  have A : mx_bf u pc mm pl p (p + 2) rr ng zr cy ov (fun rr' => rr' 0 = (if rr 0 < 0 then 0 else rr 0) ∧ rr' 1 = rr 1 ∧ ∀ j, 3 ≤ j → j ≤ 13 → rr' j = rr j) := by
    refine bf_CI 0 0 h0 ?_
    by_cases hx : rr 0 < 0
    · exact bf_I 11 13 0 0 0 h1 (bf_end ⟨by rw [if_pos hx]; rfl, rfl, mx_kp (by decide) mx_kr⟩) (mx_cLT.mpr hx)
    · exact bf_S 11 h1 (bf_end ⟨by rw [if_neg hx], rfl, mx_kr⟩) (fun z => hx (mx_cLT.mp z))
  refine bf_seq A (fun r1 n1 z1 c1 o1 q1 => ?_)
  have B : mx_bf u pc mm pl (p + 2) (p + 4) r1 n1 z1 c1 o1 (fun rr' => rr' 0 = (if rr 0 < 0 then 0 else rr 0) ∧ rr' 1 = (if 31 < rr 1 then 31 else rr 1) ∧ ∀ j, 3 ≤ j → j ≤ 13 → rr' j = rr j) := by
    refine bf_CI 1 31 h2 ?_
    by_cases hx : 31 < rr 1
    · exact bf_I 12 13 0 1 31 h3 (bf_end ⟨q1.1, by rw [if_pos hx]; rfl, mx_kp (by decide) q1.2.2⟩) (mx_cGT.mpr (by rw [q1.2.1]; exact hx))
    · exact bf_S 12 h3 (bf_end ⟨q1.1, by rw [if_neg hx]; exact q1.2.1, q1.2.2⟩) (fun z => hx (by have := mx_cGT.mp z; rw [q1.2.1] at this; exact this))
  refine bf_seq B (fun r2 n2 z2 c2 o2 q2 => ?_)
  refine bf_imp (fi_24b (p := p + 4) (by omega) (a := if rr 0 < 0 then 0 else rr 0) (b := if 31 < rr 1 then 31 else rr 1) ?_ ?_ h4 h5 h6 h7 h8 h9 q2.1 q2.2.1) (fun rr' h => ⟨?_, fun j a b => (h.2 j a b).trans (q2.2.2 j a b)⟩)
  · by_cases hx : rr 0 < 0
    · rw [if_pos hx]; exact Int32.le_refl _
    · rw [if_neg hx]; exact Int32.not_lt.mp hx
  · by_cases hx : 31 < rr 1
    · rw [if_pos hx]; exact Int32.le_refl _
    · rw [if_neg hx]; exact Int32.not_lt.mp hx
  · rw [h.1]
    show _ = bz_rg (rr 0) (rr 1) 32
    refine bz_rg_cl (fun i hi => ?_) (fun i hi => ?_)
    · by_cases hx : rr 0 < 0
      · rw [if_pos hx]
        have : rr 0 ≤ nI i := by
          rw [Int32.le_iff_toInt_le, nI_toInt (by omega)]
          rw [Int32.lt_iff_toInt_lt, show (0 : Int32).toInt = 0 from by decide] at hx
          omega
        exact ⟨fun _ => this, fun _ => nI_pos' (by omega)⟩
      · rw [if_neg hx]
    · by_cases hx : 31 < rr 1
      · rw [if_pos hx]
        have : nI i ≤ rr 1 := by
          rw [Int32.le_iff_toInt_le, nI_toInt (by omega)]
          rw [Int32.lt_iff_toInt_lt, show (31 : Int32).toInt = 31 from by decide] at hx
          omega
        exact ⟨fun _ => this, fun _ => nI_le (b := 31) (by omega) (by decide)⟩
      · rw [if_neg hx]
theorem fi_all (hR : cx_at mm 0 cx_rt) (k : Nat) (hk : cx_kd k) (hp : p < 390) (h : cx_at mm p (cx_fw k p)) : mx_bf u pc mm pl p (p + (cx_fw k p).length) rr ng zr cy ov (fi_Q k rr) := by
  rcases hk with rfl | rfl | rfl | rfl | rfl | rfl | rfl | rfl | rfl | rfl | rfl | rfl | rfl | rfl | rfl | rfl
  · exact bf_R 14 4 0 0 1 h.1 (bf_end ⟨rfl, mx_kp (by decide) mx_kr⟩)
  · exact bf_R 14 2 0 0 1 h.1 (bf_end ⟨rfl, mx_kp (by decide) mx_kr⟩)
  · exact fi_4 (by omega) h
  · exact fi_5 (by omega) h
  · exact fi_6 (by omega) h
  · exact rt_size hR p (by omega) h.1
  · exact rt_least hR p (by omega) h.1
  · exact fi_9 (by omega) h
  · exact fi_10 (by omega) h
  · exact bf_R 14 12 0 0 1 h.1 (bf_end ⟨rfl, mx_kp (by decide) mx_kr⟩)
  · exact bf_R 14 0 0 0 1 h.1 (bf_end ⟨rfl, mx_kp (by decide) mx_kr⟩)
  · exact bf_R 14 14 0 0 1 h.1 (bf_end ⟨rfl, mx_kp (by decide) mx_kr⟩)
  · exact bf_R 14 15 0 0 0 h.1 (bf_end ⟨rfl, mx_kp (by decide) mx_kr⟩)
  · exact fi_22 (by omega) h
  · exact fi_23 (by omega) h
  · exact fi_24 (by omega) h
end
end
section
/-! constants and variables into register 0 or 1 -/
def cx_lb (x k : Int32) : Int32 := mx_us x (8 * k) &&& 255
def cx_l1 (r x k : Int32) : List Int32 := if cx_lb x k = 0 then [] else [cx_wd 14 12 0 r r ((33554432 ||| ((16 - (4 * k)) <<< ((8 : Int32) &&& 31))) ||| cx_lb x k)]
def cx_lc (r x : Int32) : List Int32 := cx_wd 14 13 0 r 0 (33554432 ||| (x &&& 255)) :: (cx_l1 r x 1 ++ (cx_l1 r x 2 ++ cx_l1 r x 3))
def cx_ls (r : Int32) (k : Nat) (x : Int32) : List Int32 := if k = 1 then [cx_wd 14 13 0 r 0 (4 + x)] else if k = 16 then [cx_wd 14 13 0 r 0 (8 + x)] else cx_lc r x
theorem ld_l1 (r x k : Int32) : (cx_l1 r x k).length ≤ 1 := by
  unfold cx_l1; split <;> simp
theorem ld_lc (r x : Int32) : 1 ≤ (cx_lc r x).length ∧ (cx_lc r x).length ≤ 4 := by
  have h1 := ld_l1 r x 1
  have h2 := ld_l1 r x 2
  have h3 := ld_l1 r x 3
  unfold cx_lc
  simp only [List.length_cons, List.length_append]
  omega
theorem ld_ls (r : Int32) (k : Nat) (x : Int32) : 1 ≤ (cx_ls r k x).length ∧ (cx_ls r k x).length ≤ 4 := by
  unfold cx_ls
  split
  · simp
  · split
    · simp
    · exact ld_lc r x
theorem ld_d0 : ∀ b, b < 256 → mx_D (cx_wd 14 13 0 0 0 (33554432 ||| nI b)) 14 13 0 0 0 ∧ mx_dI (cx_wd 14 13 0 0 0 (33554432 ||| nI b)) (nI b) := by decide +kernel
theorem ld_d1 : ∀ b, b < 256 → mx_D (cx_wd 14 13 0 1 0 (33554432 ||| nI b)) 14 13 0 0 1 ∧ mx_dI (cx_wd 14 13 0 1 0 (33554432 ||| nI b)) (nI b) := by decide +kernel
theorem ld_o0 : ∀ b, b < 256 → ∀ k, k < 3 → mx_D (cx_wd 14 12 0 0 0 ((33554432 ||| ((16 - (4 * nI (k + 1))) <<< ((8 : Int32) &&& 31))) ||| nI b)) 14 12 0 0 0 ∧ mx_dI (cx_wd 14 12 0 0 0 ((33554432 ||| ((16 - (4 * nI (k + 1))) <<< ((8 : Int32) &&& 31))) ||| nI b)) (nI b <<< (nI (8 * (k + 1)) &&& 31)) := by decide +kernel
theorem ld_o1 : ∀ b, b < 256 → ∀ k, k < 3 → mx_D (cx_wd 14 12 0 1 1 ((33554432 ||| ((16 - (4 * nI (k + 1))) <<< ((8 : Int32) &&& 31))) ||| nI b)) 14 12 0 1 1 ∧ mx_dI (cx_wd 14 12 0 1 1 ((33554432 ||| ((16 - (4 * nI (k + 1))) <<< ((8 : Int32) &&& 31))) ||| nI b)) (nI b <<< (nI (8 * (k + 1)) &&& 31)) := by decide +kernel
theorem ld_v0a4 : ∀ v, v < 4 → mx_D (cx_wd 14 13 0 0 0 (4 + nI v)) 14 13 0 0 0 := by decide +kernel
theorem ld_v0b4 : ∀ v, v < 4 → (mx_dS (cx_wd 14 13 0 0 0 (4 + nI v)) (4 + v) 0 0 ∧ (mx_us (cx_wd 14 13 0 0 0 (4 + nI v)) 7 &&& 31) = 0) := by decide +kernel
theorem ld_v0a8 : ∀ v, v < 4 → mx_D (cx_wd 14 13 0 0 0 (8 + nI v)) 14 13 0 0 0 := by decide +kernel
theorem ld_v0b8 : ∀ v, v < 4 → (mx_dS (cx_wd 14 13 0 0 0 (8 + nI v)) (8 + v) 0 0 ∧ (mx_us (cx_wd 14 13 0 0 0 (8 + nI v)) 7 &&& 31) = 0) := by decide +kernel
theorem ld_v0 (v : Nat) (h : v < 4) : (mx_D (cx_wd 14 13 0 0 0 (4 + nI v)) 14 13 0 0 0 ∧ (mx_dS (cx_wd 14 13 0 0 0 (4 + nI v)) (4 + v) 0 0 ∧ (mx_us (cx_wd 14 13 0 0 0 (4 + nI v)) 7 &&& 31) = 0)) ∧ (mx_D (cx_wd 14 13 0 0 0 (8 + nI v)) 14 13 0 0 0 ∧ (mx_dS (cx_wd 14 13 0 0 0 (8 + nI v)) (8 + v) 0 0 ∧ (mx_us (cx_wd 14 13 0 0 0 (8 + nI v)) 7 &&& 31) = 0)) := ⟨⟨ld_v0a4 v h, ld_v0b4 v h⟩, ld_v0a8 v h, ld_v0b8 v h⟩
theorem ld_v1a4 : ∀ v, v < 4 → mx_D (cx_wd 14 13 0 1 0 (4 + nI v)) 14 13 0 0 1 := by decide +kernel
theorem ld_v1b4 : ∀ v, v < 4 → (mx_dS (cx_wd 14 13 0 1 0 (4 + nI v)) (4 + v) 0 0 ∧ (mx_us (cx_wd 14 13 0 1 0 (4 + nI v)) 7 &&& 31) = 0) := by decide +kernel
theorem ld_v1a8 : ∀ v, v < 4 → mx_D (cx_wd 14 13 0 1 0 (8 + nI v)) 14 13 0 0 1 := by decide +kernel
theorem ld_v1b8 : ∀ v, v < 4 → (mx_dS (cx_wd 14 13 0 1 0 (8 + nI v)) (8 + v) 0 0 ∧ (mx_us (cx_wd 14 13 0 1 0 (8 + nI v)) 7 &&& 31) = 0) := by decide +kernel
theorem ld_v1 (v : Nat) (h : v < 4) : (mx_D (cx_wd 14 13 0 1 0 (4 + nI v)) 14 13 0 0 1 ∧ (mx_dS (cx_wd 14 13 0 1 0 (4 + nI v)) (4 + v) 0 0 ∧ (mx_us (cx_wd 14 13 0 1 0 (4 + nI v)) 7 &&& 31) = 0)) ∧ (mx_D (cx_wd 14 13 0 1 0 (8 + nI v)) 14 13 0 0 1 ∧ (mx_dS (cx_wd 14 13 0 1 0 (8 + nI v)) (8 + v) 0 0 ∧ (mx_us (cx_wd 14 13 0 1 0 (8 + nI v)) 7 &&& 31) = 0)) := ⟨⟨ld_v1a4 v h, ld_v1b4 v h⟩, ld_v1a8 v h, ld_v1b8 v h⟩
theorem ld_or0 (x : Int32) : x ||| 0 = x := by
  apply b_ext; intro i hi; rw [b_or, b_0, Bool.or_false]
/-- the four bytes make the number -/
theorem ld_bytes (x : Int32) : (((x &&& 255) ||| (cx_lb x 1 <<< (nI 8 &&& 31))) ||| (cx_lb x 2 <<< (nI 16 &&& 31))) ||| (cx_lb x 3 <<< (nI 24 &&& 31)) = x := by
  apply b_ext; intro i hi
  have e1 : cx_lb x 1 = mx_us x (nI 8) &&& 255 := rfl
  have e2 : cx_lb x 2 = mx_us x (nI 16) &&& 255 := rfl
  have e3 : cx_lb x 3 = mx_us x (nI 24) &&& 255 := rfl
  rw [b_or, b_or, b_or, b_and, b_255, b_shl 8 (by decide) _ hi, b_shl 16 (by decide) _ hi, b_shl 24 (by decide) _ hi, e1, e2, e3, b_and, b_and, b_and, b_255, b_255, b_255, b_ushr 8 (by decide), b_ushr 16 (by decide), b_ushr 24 (by decide)]
  by_cases h1 : i < 8
  · have a1 : ¬ 8 ≤ i := by omega
    have a2 : ¬ 16 ≤ i := by omega
    have a3 : ¬ 24 ≤ i := by omega
    simp [h1, a1, a2, a3]
  · by_cases h2 : i < 16
    · have a1 : 8 ≤ i := by omega
      have a2 : ¬ 16 ≤ i := by omega
      have a3 : ¬ 24 ≤ i := by omega
      have a4 : i - 8 < 8 := by omega
      have a5 : 8 + (i - 8) = i := by omega
      simp [h1, a1, a2, a3, a4, a5]
    · by_cases h3 : i < 24
      · have a1 : 8 ≤ i := by omega
        have a2 : 16 ≤ i := by omega
        have a3 : ¬ 24 ≤ i := by omega
        have a4 : ¬ i - 8 < 8 := by omega
        have a5 : i - 16 < 8 := by omega
        have a6 : 16 + (i - 16) = i := by omega
        simp [h1, a1, a2, a3, a4, a5, a6]
      · have a1 : 8 ≤ i := by omega
        have a2 : 16 ≤ i := by omega
        have a3 : 24 ≤ i := by omega
        have a4 : ¬ i - 8 < 8 := by omega
        have a5 : ¬ i - 16 < 8 := by omega
        have a6 : i - 24 < 8 := by omega
        have a7 : 24 + (i - 24) = i := by omega
        simp [h1, a1, a2, a3, a4, a5, a6, a7]
def ld_Q (r : Nat) (v : Int32) (rr : Nat → Int32) : (Nat → Int32) → Prop := fun rr' => rr' r = v ∧ ∀ j, j ≠ r → rr' j = rr j
section
variable {u : SX} {pc : Int32} {mm pl : Nat → Int32} {p : Nat} {rr : Nat → Int32} {ng zr cy ov : Int32}
theorem ld_1 (r : Nat) (hr : r < 2) (x : Int32) (k : Nat) (hk : k < 3) (hp : p < 400) (h : cx_at mm p (cx_l1 (nI r) x (nI (k + 1)))) : mx_bf u pc mm pl p (p + (cx_l1 (nI r) x (nI (k + 1))).length) rr ng zr cy ov (ld_Q r (rr r ||| (cx_lb x (nI (k + 1)) <<< (nI (8 * (k + 1)) &&& 31))) rr) := by
  obtain ⟨b, hb, eb⟩ := pk_andE (mx_us x (8 * nI (k + 1))) (m := 255) 8 (by decide)
  have eb' : cx_lb x (nI (k + 1)) = nI b := eb
  by_cases h0 : cx_lb x (nI (k + 1)) = 0
  · have el : cx_l1 (nI r) x (nI (k + 1)) = [] := if_pos h0
    rw [el]
    refine bf_end ⟨?_, fun _ _ => rfl⟩
    rw [h0]
    have : (0 : Int32) <<< (nI (8 * (k + 1)) &&& 31) = 0 := by
      apply b_ext; intro i hi; rw [b_shl (8 * (k + 1)) (by omega) _ hi, b_0, b_0, Bool.and_false]
    rw [this, ld_or0]
  · have el : cx_l1 (nI r) x (nI (k + 1)) = [cx_wd 14 12 0 (nI r) (nI r) ((33554432 ||| ((16 - (4 * nI (k + 1))) <<< ((8 : Int32) &&& 31))) ||| nI b)] := by
      rw [← eb']; exact if_neg h0
    rw [el] at h ⊢
    rw [eb']
    have hr' : r = 0 ∨ r = 1 := by omega
    rcases hr' with rfl | rfl
    · have d := ld_o0 b hb k hk
      exact bf_O 14 12 0 0 _ h.1 (mx_opI d.2) (bf_end ⟨rfl, fun j hj => pk_un hj⟩) trivial (by omega) d.1
    · have d := ld_o1 b hb k hk
      exact bf_O 14 12 1 1 _ h.1 (mx_opI d.2) (bf_end ⟨rfl, fun j hj => pk_un hj⟩) trivial (by omega) d.1
theorem ld_c (r : Nat) (hr : r < 2) (x : Int32) (hp : p < 390) (h : cx_at mm p (cx_lc (nI r) x)) : mx_bf u pc mm pl p (p + (cx_lc (nI r) x).length) rr ng zr cy ov (ld_Q r x rr) := by
  obtain ⟨h0, h1⟩ := h
  have h1' := cx_at_app _ _ _ h1
  have h2' := cx_at_app _ _ _ h1'.2
  have l1 := ld_l1 (nI r) x 1
  have l2 := ld_l1 (nI r) x 2
  have l3 := ld_l1 (nI r) x 3
  obtain ⟨b, hb, eb⟩ := pk_andE x (m := 255) 8 (by decide)
  have A : mx_bf u pc mm pl p (p + 1) rr ng zr cy ov (ld_Q r (x &&& 255) rr) := by
    rw [eb] at h0 ⊢
    have hr' : r = 0 ∨ r = 1 := by omega
    rcases hr' with rfl | rfl
    · have d := ld_d0 b hb
      exact bf_O 14 13 0 0 _ h0 (mx_opI d.2) (bf_end ⟨rfl, fun j hj => pk_un hj⟩) trivial (by omega) d.1
    · have d := ld_d1 b hb
      exact bf_O 14 13 0 1 _ h0 (mx_opI d.2) (bf_end ⟨rfl, fun j hj => pk_un hj⟩) trivial (by omega) d.1
  have el : p + (cx_lc (nI r) x).length = p + 1 + (cx_l1 (nI r) x 1).length + (cx_l1 (nI r) x 2).length + (cx_l1 (nI r) x 3).length := by
    unfold cx_lc; simp only [List.length_cons, List.length_append]; omega
  rw [el]
  refine bf_seq A (fun r1 n1 z1 c1 o1 q1 => ?_)
  refine bf_seq (ld_1 r hr x 0 (by decide) (by omega) h1'.1) (fun r2 n2 z2 c2 o2 q2 => ?_)
  refine bf_seq (ld_1 r hr x 1 (by decide) (by show p + 1 + (cx_l1 (nI r) x 1).length < 400; omega) h2'.1) (fun r3 n3 z3 c3 o3 q3 => ?_)
  refine bf_imp (ld_1 r hr x 2 (by decide) (by show p + 1 + (cx_l1 (nI r) x 1).length + (cx_l1 (nI r) x 2).length < 400; omega) h2'.2) (fun rr' q4 => ⟨?_, fun j hj => ?_⟩)
  · rw [q4.1, q3.1, q2.1, q1.1]; exact ld_bytes x
  · rw [q4.2 j hj, q3.2 j hj, q2.2 j hj, q1.2 j hj]
/-- a simple expression's value -/
def ld_v (k : Nat) (x : Int32) (nu va : Nat → Int32) : Int32 := if k = 1 then nu x.toNatClampNeg else if k = 16 then va x.toNatClampNeg else x
def cx_sim (k : Nat) : Prop := k = 0 ∨ k = 1 ∨ k = 16 ∨ k = 17
theorem cx_sim_lt {k : Nat} (h : cx_sim k) : k < 32 := by unfold cx_sim at h; omega
theorem ld_s (r : Nat) (hr : r < 2) (k : Nat) (x : Int32) (hx : k = 1 ∨ k = 16 → ∃ v, v < 4 ∧ x = nI v) (hp : p < 390) (h : cx_at mm p (cx_ls (nI r) k x)) : mx_bf u pc mm pl p (p + (cx_ls (nI r) k x).length) rr ng zr cy ov (ld_Q r (ld_v k x (fun i => rr (4 + i)) (fun i => rr (8 + i))) rr) := by
  unfold cx_ls at h ⊢
  unfold ld_v
  have hr' : r = 0 ∨ r = 1 := by omega
  by_cases h1 : k = 1
  · rw [if_pos h1] at h ⊢; rw [if_pos h1]
    obtain ⟨v, hv, rfl⟩ := hx (Or.inl h1)
    rw [nI_clamp (by omega)]
    rcases hr' with rfl | rfl
    · have d := (ld_v0 v hv).1
      exact bf_O 14 13 0 0 _ h.1 (mx_opR (4 + v) (by omega) d.2) (bf_end ⟨rfl, fun j hj => pk_un hj⟩) trivial (by omega) d.1
    · have d := (ld_v1 v hv).1
      exact bf_O 14 13 0 1 _ h.1 (mx_opR (4 + v) (by omega) d.2) (bf_end ⟨rfl, fun j hj => pk_un hj⟩) trivial (by omega) d.1
  · rw [if_neg h1] at h ⊢; rw [if_neg h1]
    by_cases h2 : k = 16
    · rw [if_pos h2] at h ⊢; rw [if_pos h2]
      obtain ⟨v, hv, rfl⟩ := hx (Or.inr h2)
      rw [nI_clamp (by omega)]
      rcases hr' with rfl | rfl
      · have d := (ld_v0 v hv).2
        exact bf_O 14 13 0 0 _ h.1 (mx_opR (8 + v) (by omega) d.2) (bf_end ⟨rfl, fun j hj => pk_un hj⟩) trivial (by omega) d.1
      · have d := (ld_v1 v hv).2
        exact bf_O 14 13 0 1 _ h.1 (mx_opR (8 + v) (by omega) d.2) (bf_end ⟨rfl, fun j hj => pk_un hj⟩) trivial (by omega) d.1
    · rw [if_neg h2] at h ⊢; rw [if_neg h2]
      exact ld_c r hr x hp h
end
end
section
/-! the code of an expression: what it means that it is right, and how it is put together -/
def ex_t1 (k : Nat) : Bool := k == 23 || k == 7 || k == 8 || k == 10 || k == 18 || k == 19 || k == 20 || k == 21
def ex_t2 (k : Nat) : Bool := k == 9 || k == 7 || k == 8 || k == 10 || k == 18 || k == 19 || k == 20 || k == 21
def ex_n (N S : Nat) (b : Bool) : Nat := if b = true then S else N
def cx_k1 (k : Nat) : Prop := k = 7 ∨ k = 8 ∨ k = 21 ∨ k = 22
theorem cx_k1v {k : Nat} (h : cx_k1 k) (x y z : Int32) : bz_fo k x y = bz_fo k x z := by rcases h with rfl | rfl | rfl | rfl <;> simp only [bz_fo]
/-- vl holds the values of all expressions -/
def ex_val (kd o1 o2 : Bool → Nat → Int32) (N S : Nat) (nu va : Nat → Int32) (vl : Bool → Nat → Int32) : Prop :=
  ∀ b i, i < ex_n N S b → ∀ k, k < 32 → kd b i = nI k → (cx_sim k → vl b i = ld_v k (o1 b i) nu va) ∧ (cx_kd k → vl b i = bz_fo k (vl (ex_t1 k) (o1 b i).toNatClampNeg) (vl (ex_t2 k) (o2 b i).toNatClampNeg))
def ex_sg (kd o1 o2 : Bool → Nat → Int32) (N S : Nat) (M : Nat → Int32) (p q : Nat) (b : Bool) (i w : Nat) : Prop :=
  23 ≤ p ∧ p ≤ q ∧ q ≤ p + 14 * w ∧ ∀ (u : SX) (pc : Int32) (mm pl rr : Nat → Int32) (ng zr cy ov : Int32) (s : Nat) (vl : Bool → Nat → Int32), (∀ j, p ≤ j → j < q → mm j = M j) → cx_at mm 0 cx_rt → rr 13 = nI (4 * s) → q < 390 → q + w ≤ s → s < 1024 → ex_val kd o1 o2 N S (fun i => rr (4 + i)) (fun i => rr (8 + i)) vl →
    ∃ ng' zr' cy' ov' mm' rr', mx_r (mx_c u (nI p) ng zr cy ov pc mm rr pl) (mx_c u (nI q) ng' zr' cy' ov' pc mm' rr' pl) ∧ rr' 0 = vl b i ∧ (∀ j, 3 ≤ j → j ≤ 13 → rr' j = rr j) ∧ (∀ j, j < s - w ∨ s ≤ j → mm' j = mm j)
section
variable {kd o1 o2 : Bool → Nat → Int32} {N S : Nat} {M M' : Nat → Int32} {p q : Nat}
theorem ex_fr {b : Bool} {i w : Nat} (h : ex_sg kd o1 o2 N S M p q b i w) (hM : ∀ j, p ≤ j → j < q → M' j = M j) : ex_sg kd o1 o2 N S M' p q b i w :=
  ⟨h.1, h.2.1, h.2.2.1, fun u pc mm pl rr ng zr cy ov s vl a => h.2.2.2 u pc mm pl rr ng zr cy ov s vl (fun j h1 h2 => (a j h1 h2).trans (hM j h1 h2))⟩
theorem ex_rt {mm mm' : Nat → Int32} {n : Nat} (hn : 23 ≤ n) (h : cx_at mm 0 cx_rt) (k : ∀ j, j < n → mm' j = mm j) : cx_at mm' 0 cx_rt :=
  cx_at_eq cx_rt 0 (fun j _ h2 => k j (by have : cx_rt.length = 23 := rfl; omega)) h
theorem ex_vr {rr rr' : Nat → Int32} {vl : Bool → Nat → Int32} (h : ex_val kd o1 o2 N S (fun i => rr (4 + i)) (fun i => rr (8 + i)) vl) (k : ∀ j, 4 ≤ j → j ≤ 11 → rr' j = rr j) (hv : ∀ b i, i < ex_n N S b → kd b i = nI 1 ∨ kd b i = nI 16 → ∃ v, v < 4 ∧ o1 b i = nI v) : ex_val kd o1 o2 N S (fun i => rr' (4 + i)) (fun i => rr' (8 + i)) vl := by
  intro b i hi k' hk' e
  refine ⟨fun hs => ?_, (h b i hi k' hk' e).2⟩
  rw [(h b i hi k' hk' e).1 hs]
  unfold ld_v
  by_cases h1 : k' = 1
  · rw [if_pos h1, if_pos h1]
    obtain ⟨v, hv1, hv2⟩ := hv b i hi (Or.inl (by rw [e, h1]))
    rw [hv2, nI_clamp (by omega)]
    exact (k (4 + v) (by omega) (by omega)).symm
  · rw [if_neg h1, if_neg h1]
    by_cases h2 : k' = 16
    · rw [if_pos h2, if_pos h2]
      obtain ⟨v, hv1, hv2⟩ := hv b i hi (Or.inr (by rw [e, h2]))
      rw [hv2, nI_clamp (by omega)]
      exact (k (8 + v) (by omega) (by omega)).symm
    · rw [if_neg h2, if_neg h2]
theorem ex_simple {b : Bool} {i k w : Nat} (hi : i < ex_n N S b) (hk : cx_sim k) (e : kd b i = nI k) (hx : k = 1 ∨ k = 16 → ∃ v, v < 4 ∧ o1 b i = nI v) (hw : 1 ≤ w) (hp : 23 ≤ p) (h : cx_at M p (cx_ls 0 k (o1 b i))) : ex_sg kd o1 o2 N S M p (p + (cx_ls 0 k (o1 b i)).length) b i w := by
  have hl := ld_ls 0 k (o1 b i)
  refine ⟨by omega, by omega, by omega, fun u pc mm pl rr ng zr cy ov s vl hm hR h13 hq hs1 hs2 hv => ?_⟩
  have hc : cx_at mm p (cx_ls 0 k (o1 b i)) := cx_at_eq _ _ hm h
  obtain ⟨a, b', c, d, r, h1, h2, h3⟩ := ld_s (u := u) (pc := pc) (pl := pl) (rr := rr) (ng := ng) (zr := zr) (cy := cy) (ov := ov) 0 (by decide) k (o1 b i) hx (by omega) hc
  refine ⟨a, b', c, d, mm, r, h1, ?_, fun j h1 _ => h3 j (by omega), fun _ _ => rfl⟩
  rw [h2]
  exact ((hv b i hi k (cx_sim_lt hk) e).1 hk).symm
theorem ex_one {b : Bool} {i k a w1 q1 : Nat} (hi : i < ex_n N S b) (hk : cx_kd k) (hk1 : cx_k1 k) (e : kd b i = nI k) (ea : o1 b i = nI a) (ha : a < 1000) (h1 : ex_sg kd o1 o2 N S M p q1 (ex_t1 k) a w1) (h : cx_at M q1 (cx_fw k q1)) : ex_sg kd o1 o2 N S M p (q1 + (cx_fw k q1).length) b i (1 + w1) := by
  have hl := cx_fw_len (p := q1) hk
  obtain ⟨g0, g1, g2, g3⟩ := h1
  refine ⟨by omega, by omega, by omega, fun u pc mm pl rr ng zr cy ov s vl hm hR h13 hq hs1 hs2 hv => ?_⟩
  obtain ⟨a1, a2, a3, a4, mm1, rr1, r1, e0, ek, em⟩ := g3 u pc mm pl rr ng zr cy ov s vl (fun j x y => hm j x (by omega)) hR h13 (by omega) (by omega) hs2 hv
  have hc : cx_at mm1 q1 (cx_fw k q1) := cx_at_eq _ _ (fun j x y => (em j (by omega)).trans (hm j (by omega) y)) h
  have hR1 : cx_at mm1 0 cx_rt := ex_rt (n := 23) (Nat.le_refl _) hR (fun j hj => em j (by omega))
  obtain ⟨b1, b2, b3, b4, rr2, r2, f0, fk⟩ := fi_all (u := u) (pc := pc) (pl := pl) (rr := rr1) (ng := a1) (zr := a2) (cy := a3) (ov := a4) hR1 k hk (by omega) hc
  refine ⟨b1, b2, b3, b4, mm1, rr2, mx_tr r1 r2, ?_, fun j x y => (fk j x y).trans (ek j x y), fun j hj => em j (by omega)⟩
  rw [f0, e0, (hv b i hi k (cx_kd_lt hk) e).2 hk, ea, nI_clamp (by omega)]
  exact cx_k1v hk1 _ _ _
/-- the second operand is simple and goes to register 1 -/
theorem ex_twoS {b : Bool} {i k a c k2 w1 w2 q1 : Nat} (hi : i < ex_n N S b) (hk : cx_kd k) (e : kd b i = nI k) (ea : o1 b i = nI a) (ha : a < 1000) (ec : o2 b i = nI c) (hcn : c < ex_n N S (ex_t2 k)) (hc1 : c < 1000) (hk2 : cx_sim k2) (e2 : kd (ex_t2 k) c = nI k2) (hx : k2 = 1 ∨ k2 = 16 → ∃ v, v < 4 ∧ o1 (ex_t2 k) c = nI v) (hw2 : 1 ≤ w2) (hvv : ∀ b i, i < ex_n N S b → kd b i = nI 1 ∨ kd b i = nI 16 → ∃ v, v < 4 ∧ o1 b i = nI v)
    (h1 : ex_sg kd o1 o2 N S M p q1 (ex_t1 k) a w1) (h2 : cx_at M q1 (cx_ls 1 k2 (o1 (ex_t2 k) c))) (h : cx_at M (q1 + (cx_ls 1 k2 (o1 (ex_t2 k) c)).length) (cx_fw k (q1 + (cx_ls 1 k2 (o1 (ex_t2 k) c)).length))) :
    ex_sg kd o1 o2 N S M p (q1 + (cx_ls 1 k2 (o1 (ex_t2 k) c)).length + (cx_fw k (q1 + (cx_ls 1 k2 (o1 (ex_t2 k) c)).length)).length) b i (1 + w1 + w2) := by
  have hl2 := ld_ls 1 k2 (o1 (ex_t2 k) c)
  generalize hq2 : q1 + (cx_ls 1 k2 (o1 (ex_t2 k) c)).length = q2 at h ⊢
  have hl := cx_fw_len (p := q2) hk
  obtain ⟨g0, g1, g2, g3⟩ := h1
  refine ⟨by omega, by omega, by omega, fun u pc mm pl rr ng zr cy ov s vl hm hR h13 hq hs1 hs2 hv => ?_⟩
  obtain ⟨a1, a2, a3, a4, mm1, rr1, r1, e0, ek, em⟩ := g3 u pc mm pl rr ng zr cy ov s vl (fun j x y => hm j x (by omega)) hR h13 (by omega) (by omega) hs2 hv
  have hcl : cx_at mm1 q1 (cx_ls 1 k2 (o1 (ex_t2 k) c)) := cx_at_eq _ _ (fun j x y => (em j (by omega)).trans (hm j (by omega) (by omega))) h2
  have hc : cx_at mm1 q2 (cx_fw k q2) := cx_at_eq _ _ (fun j x y => (em j (by omega)).trans (hm j (by omega) y)) h
  have hR1 : cx_at mm1 0 cx_rt := ex_rt (n := 23) (Nat.le_refl _) hR (fun j hj => em j (by omega))
  obtain ⟨b1, b2, b3, b4, rr2, r2, f0, fk⟩ := ld_s (u := u) (pc := pc) (pl := pl) (rr := rr1) (ng := a1) (zr := a2) (cy := a3) (ov := a4) 1 (by decide) k2 (o1 (ex_t2 k) c) hx (by omega) hcl
  replace r2 : mx_r (mx_c u (nI q1) a1 a2 a3 a4 pc mm1 rr1 pl) (mx_c u (nI q2) b1 b2 b3 b4 pc mm1 rr2 pl) := by rw [← hq2]; exact r2
  obtain ⟨c1, c2, c3, c4, rr3, r3, l0, lk⟩ := fi_all (u := u) (pc := pc) (pl := pl) (rr := rr2) (ng := b1) (zr := b2) (cy := b3) (ov := b4) hR1 k hk (by omega) hc
  refine ⟨c1, c2, c3, c4, mm1, rr3, mx_tr r1 (mx_tr r2 r3), ?_, fun j x y => (lk j x y).trans ((fk j (by omega)).trans (ek j x y)), fun j hj => em j (by omega)⟩
  have hv1 := ex_vr hv (fun j x y => ek j (by omega) (by omega)) hvv
  rw [l0, fk 0 (by decide), e0, f0, (hv b i hi k (cx_kd_lt hk) e).2 hk, ea, ec, nI_clamp (by omega), nI_clamp (by omega), (hv1 (ex_t2 k) c hcn k2 (cx_sim_lt hk2) e2).1 hk2]
/-- the first operand is kept on the stack -/
theorem ex_two {b : Bool} {i k a c w1 w2 q1 q2 : Nat} (hi : i < ex_n N S b) (hk : cx_kd k) (e : kd b i = nI k) (ea : o1 b i = nI a) (ha : a < 1000) (ec : o2 b i = nI c) (hc1 : c < 1000) (hvv : ∀ b i, i < ex_n N S b → kd b i = nI 1 ∨ kd b i = nI 16 → ∃ v, v < 4 ∧ o1 b i = nI v)
    (h1 : ex_sg kd o1 o2 N S M p q1 (ex_t1 k) a w1) (hpu : M q1 = mx_wpush) (h2 : ex_sg kd o1 o2 N S M (q1 + 1) q2 (ex_t2 k) c w2) (hmv : M q2 = cx_wd 14 13 0 1 0 0) (hpo : M (q2 + 1) = mx_wpop) (h : cx_at M (q2 + 2) (cx_fw k (q2 + 2))) :
    ex_sg kd o1 o2 N S M p (q2 + 2 + (cx_fw k (q2 + 2)).length) b i (1 + w1 + w2) := by
  have hl := cx_fw_len (p := q2 + 2) hk
  obtain ⟨g0, g1, g2, g3⟩ := h1
  obtain ⟨f0, f1, f2, f3⟩ := h2
  refine ⟨by omega, by omega, by omega, fun u pc mm pl rr ng zr cy ov s vl hm hR h13 hq hs1 hs2 hv => ?_⟩
  obtain ⟨t, rfl⟩ : ∃ t, s = t + 1 := ⟨s - 1, by omega⟩
  obtain ⟨a1, a2, a3, a4, mm1, rr1, r1, e0, ek, em⟩ := g3 u pc mm pl rr ng zr cy ov (t + 1) vl (fun j x y => hm j x (by omega)) hR h13 (by omega) (by omega) hs2 hv
  have hv1 := ex_vr hv (fun j x y => ek j (by omega) (by omega)) hvv
  have r2 := mx_push (u := u) (ng := a1) (zr := a2) (cy := a3) (ov := a4) (pc := pc) (pl := pl) (mm := mm1) (rr := rr1) q1 t (by omega) (by rw [em q1 (by omega), hm q1 (by omega) (by omega), hpu]) (by omega) (by rw [ek 13 (by decide) (by decide), h13])
  have em2 : ∀ j, j ≠ t → j < t + 1 - (1 + w1 + w2) ∨ t ≤ j → upd mm1 t (rr1 0) j = mm j := fun j hj hj2 => (pk_un hj).trans (em j (by omega))
  have emq : ∀ j, j < q2 + 2 + (cx_fw k (q2 + 2)).length → upd mm1 t (rr1 0) j = mm j := fun j hj => em2 j (by omega) (by omega)
  have ek2 : ∀ j, 3 ≤ j → j ≤ 12 → upd rr1 13 (nI (4 * t)) j = rr j := fun j x y => (pk_un (by omega)).trans (ek j x (by omega))
  have hv2 : ex_val kd o1 o2 N S (fun i => upd rr1 13 (nI (4 * t)) (4 + i)) (fun i => upd rr1 13 (nI (4 * t)) (8 + i)) vl := ex_vr hv (fun j x y => ek2 j (by omega) (by omega)) hvv
  have hR2 : cx_at (upd mm1 t (rr1 0)) 0 cx_rt := ex_rt (n := 23) (Nat.le_refl _) hR (fun j hj => emq j (by omega))
  obtain ⟨b1, b2, b3, b4, mm3, rr3, r3, e3, ek3, em3⟩ := f3 u pc (upd mm1 t (rr1 0)) pl (upd rr1 13 (nI (4 * t))) a1 a2 a3 a4 t vl (fun j x y => (emq j (by omega)).trans (hm j (by omega) (by omega))) hR2 rfl (by omega) (by omega) (by omega) hv2
  have em3q : ∀ j, j < q2 + 2 + (cx_fw k (q2 + 2)).length → mm3 j = mm j := fun j hj => (em3 j (by omega)).trans (emq j hj)
  have hR3 : cx_at mm3 0 cx_rt := ex_rt (n := 23) (Nat.le_refl _) hR (fun j hj => em3q j (by omega))
  have m3a : mm3 q2 = cx_wd 14 13 0 1 0 0 := by rw [em3q q2 (by omega), hm q2 (by omega) (by omega), hmv]
  have m3b : mm3 (q2 + 1) = mx_wpop := by rw [em3q _ (by omega), hm _ (by omega) (by omega), hpo]
  have m3t : mm3 t = vl (ex_t1 k) a := by rw [em3 t (by omega), pk_us, e0]
  have r4 := mx_alu (u := u) (ng := b1) (zr := b2) (cy := b3) (ov := b4) (pc := pc) (pl := pl) (mm := mm3) (rr := rr3) q2 (by omega) m3a 14 13 0 1 (by decide) (by decide) (by decide +kernel) (by decide) (by decide) (mx_opR 0 (by decide) (by decide +kernel)) trivial
  have r5 := mx_pop (u := u) (ng := b1) (zr := b2) (cy := b3) (ov := b4) (pc := pc) (pl := pl) (mm := mm3) (rr := upd rr3 1 (mx_al 13 (rr3 0) (rr3 0))) (q2 + 1) t (by omega) m3b (by omega) (by rw [pk_un (by decide), ek3 13 (by decide) (by decide), pk_us])
  have hcf : cx_at mm3 (q2 + 2) (cx_fw k (q2 + 2)) := cx_at_eq _ _ (fun j x y => (em3q j y).trans (hm j (by omega) y)) h
  obtain ⟨c1, c2, c3, c4, rr6, r6, l0, lk⟩ := fi_all (u := u) (pc := pc) (pl := pl) (rr := upd (upd (upd rr3 1 (mx_al 13 (rr3 0) (rr3 0))) 13 (nI (4 * (t + 1)))) 0 (mm3 t)) (ng := b1) (zr := b2) (cy := b3) (ov := b4) hR3 k hk (by omega) hcf
  refine ⟨c1, c2, c3, c4, mm3, rr6, mx_tr r1 (mx_tr r2 (mx_tr r3 (mx_tr r4 (mx_tr r5 r6)))), ?_, fun j x y => ?_, fun j hj => ?_⟩
  · rw [l0, pk_us, m3t]
    show bz_fo k (vl (ex_t1 k) a) (rr3 0) = _
    rw [e3, (hv b i hi k (cx_kd_lt hk) e).2 hk, ea, ec, nI_clamp (by omega), nI_clamp (by omega)]
  · rw [lk j x y, pk_un (by omega)]
    by_cases hj : j = 13
    · rw [hj, pk_us, h13]
    · rw [pk_un hj, pk_un (by omega), ek3 j x y, pk_un hj, ek j x y]
  · by_cases hjt : j = t
    · omega
    · rw [em3 j (by omega), pk_un hjt, em j (by omega)]
end
end
section
/-! what the writers of code write -/
section
variable {nc sc tc lv ce tk sz ls dp sd ip ng zr cy ov hl st pc : Int32} {nk nx ny nw ek ex ey ew qk qx qy qz qw fn fs fp gn gp gs gq mm rr pl : Nat → Int32} {post : SX → Prop} {c : Nat}
theorem kx_put {w : Int32} (hc : c < 1024) (h : post (nc, sc, tc, lv, nI (c + 1), tk, sz, ls, dp, sd, ip, ng, zr, cy, ov, hl, st, pc, nk, nx, ny, nw, ek, ex, ey, ew, qk, qx, qy, qz, qw, fn, fs, fp, gn, gp, gs, gq, upd mm c w, rr, pl)) : wpX_put post (nc, sc, tc, lv, nI c, tk, sz, ls, dp, sd, ip, ng, zr, cy, ov, hl, st, pc, nk, nx, ny, nw, ek, ex, ey, ew, qk, qx, qy, qz, qw, fn, fs, fp, gn, gp, gs, gq, mm, rr, pl) w :=
  ⟨vp_in_nI hc (by decide), nm_r (e' := upd mm c w) (by rw [nI_clamp (by omega)]) (nm_r (nI_1 c) h)⟩
theorem kx_w0 {a o rd rn x : Int32} (hc : c < 1024) (ho : o < 8 ∨ (¬ o < 8 ∧ 12 ≤ o)) (h : post (nc, sc, tc, lv, nI (c + 1), tk, sz, ls, dp, sd, ip, ng, zr, cy, ov, hl, st, pc, nk, nx, ny, nw, ek, ex, ey, ew, qk, qx, qy, qz, qw, fn, fs, fp, gn, gp, gs, gq, upd mm c (cx_wd a o 0 rd rn x), rr, pl)) : wpX_when post (nc, sc, tc, lv, nI c, tk, sz, ls, dp, sd, ip, ng, zr, cy, ov, hl, st, pc, nk, nx, ny, nw, ek, ex, ey, ew, qk, qx, qy, qz, qw, fn, fs, fp, gn, gp, gs, gq, mm, rr, pl) a o rd rn x := by
  have K : wX_when_16 post a o rd rn x nc sc tc lv (nI c) tk sz ls dp sd ip ng zr cy ov hl st pc nk nx ny nw ek ex ey ew qk qx qy qz qw fn fs fp gn gp gs gq mm rr pl := kx_put hc h
  rcases ho with ho | ho
  · exact br_t ho K
  · exact br_f ho.1 (br_t ho.2 K)
theorem kx_w1 {a o rd rn x : Int32} (hc : c < 1024) (ho : ¬ o < 8 ∧ ¬ 12 ≤ o) (h : post (nc, sc, tc, lv, nI (c + 1), tk, sz, ls, dp, sd, ip, ng, zr, cy, ov, hl, st, pc, nk, nx, ny, nw, ek, ex, ey, ew, qk, qx, qy, qz, qw, fn, fs, fp, gn, gp, gs, gq, upd mm c (cx_wd a o 1 rd rn x), rr, pl)) : wpX_when post (nc, sc, tc, lv, nI c, tk, sz, ls, dp, sd, ip, ng, zr, cy, ov, hl, st, pc, nk, nx, ny, nw, ek, ex, ey, ew, qk, qx, qy, qz, qw, fn, fs, fp, gn, gp, gs, gq, mm, rr, pl) a o rd rn x := by
  have K : wX_when_17 post a o rd rn x 1 nc sc tc lv (nI c) tk sz ls dp sd ip ng zr cy ov hl st pc nk nx ny nw ek ex ey ew qk qx qy qz qw fn fs fp gn gp gs gq mm rr pl := kx_put hc h
  exact br_f ho.1 (br_f ho.2 K)
theorem kx_d0 {o rd rn x : Int32} (hc : c < 1024) (ho : o < 8 ∨ (¬ o < 8 ∧ 12 ≤ o)) (h : post (nc, sc, tc, lv, nI (c + 1), tk, sz, ls, dp, sd, ip, ng, zr, cy, ov, hl, st, pc, nk, nx, ny, nw, ek, ex, ey, ew, qk, qx, qy, qz, qw, fn, fs, fp, gn, gp, gs, gq, upd mm c (cx_wd 14 o 0 rd rn x), rr, pl)) : wpX_does post (nc, sc, tc, lv, nI c, tk, sz, ls, dp, sd, ip, ng, zr, cy, ov, hl, st, pc, nk, nx, ny, nw, ek, ex, ey, ew, qk, qx, qy, qz, qw, fn, fs, fp, gn, gp, gs, gq, mm, rr, pl) o rd rn x :=
  kx_w0 hc ho h
theorem kx_d1 {o rd rn x : Int32} (hc : c < 1024) (ho : ¬ o < 8 ∧ ¬ 12 ≤ o) (h : post (nc, sc, tc, lv, nI (c + 1), tk, sz, ls, dp, sd, ip, ng, zr, cy, ov, hl, st, pc, nk, nx, ny, nw, ek, ex, ey, ew, qk, qx, qy, qz, qw, fn, fs, fp, gn, gp, gs, gq, upd mm c (cx_wd 14 o 1 rd rn x), rr, pl)) : wpX_does post (nc, sc, tc, lv, nI c, tk, sz, ls, dp, sd, ip, ng, zr, cy, ov, hl, st, pc, nk, nx, ny, nw, ek, ex, ey, ew, qk, qx, qy, qz, qw, fn, fs, fp, gn, gp, gs, gq, mm, rr, pl) o rd rn x :=
  kx_w1 hc ho h
theorem kx_back {a : Int32} (hc : c < 1024) (h : post (nc, sc, tc, lv, nI (c + 1), tk, sz, ls, dp, sd, ip, ng, zr, cy, ov, hl, st, pc, nk, nx, ny, nw, ek, ex, ey, ew, qk, qx, qy, qz, qw, fn, fs, fp, gn, gp, gs, gq, upd mm c (cx_wd a 13 0 15 0 14), rr, pl)) : wpX_goBack post (nc, sc, tc, lv, nI c, tk, sz, ls, dp, sd, ip, ng, zr, cy, ov, hl, st, pc, nk, nx, ny, nw, ek, ex, ey, ew, qk, qx, qy, qz, qw, fn, fs, fp, gn, gp, gs, gq, mm, rr, pl) a :=
  kx_w0 hc (Or.inr ⟨by decide, by decide⟩) h
theorem kx_cw {r x : Int32} (hc : c < 1024) (h : post (nc, sc, tc, lv, nI (c + 1), tk, sz, ls, dp, sd, ip, ng, zr, cy, ov, hl, st, pc, nk, nx, ny, nw, ek, ex, ey, ew, qk, qx, qy, qz, qw, fn, fs, fp, gn, gp, gs, gq, upd mm c (cx_wd 14 10 1 0 r (33554432 ||| x)), rr, pl)) : wpX_compareWith post (nc, sc, tc, lv, nI c, tk, sz, ls, dp, sd, ip, ng, zr, cy, ov, hl, st, pc, nk, nx, ny, nw, ek, ex, ey, ew, qk, qx, qy, qz, qw, fn, fs, fp, gn, gp, gs, gq, mm, rr, pl) r x :=
  kx_d1 hc ⟨by decide, by decide⟩ h
theorem kx_choose {a : Int32} (hc : c + 1 < 1024) (h : post (nc, sc, tc, lv, nI (c + 2), tk, sz, ls, dp, sd, ip, ng, zr, cy, ov, hl, st, pc, nk, nx, ny, nw, ek, ex, ey, ew, qk, qx, qy, qz, qw, fn, fs, fp, gn, gp, gs, gq, upd (upd mm c (cx_wd 14 13 0 0 0 33554432)) (c + 1) (cx_wd a 13 0 0 0 33554433), rr, pl)) : wpX_choose post (nc, sc, tc, lv, nI c, tk, sz, ls, dp, sd, ip, ng, zr, cy, ov, hl, st, pc, nk, nx, ny, nw, ek, ex, ey, ew, qk, qx, qy, qz, qw, fn, fs, fp, gn, gp, gs, gq, mm, rr, pl) a := by
  unfold wpX_choose
  exact kx_d0 (by omega) (Or.inr ⟨by decide, by decide⟩) (kx_w0 hc (Or.inr ⟨by decide, by decide⟩) h)
theorem kx_branch {a l t : Int32} (hc : c < 1024) (h : post (nc, sc, tc, lv, nI (c + 1), tk, sz, ls, dp, sd, ip, ng, zr, cy, ov, hl, st, pc, nk, nx, ny, nw, ek, ex, ey, ew, qk, qx, qy, qz, qw, fn, fs, fp, gn, gp, gs, gq, upd mm c (cx_bw a l (nI c) t), rr, pl)) : wpX_branch post (nc, sc, tc, lv, nI c, tk, sz, ls, dp, sd, ip, ng, zr, cy, ov, hl, st, pc, nk, nx, ny, nw, ek, ex, ey, ew, qk, qx, qy, qz, qw, fn, fs, fp, gn, gp, gs, gq, mm, rr, pl) a l t :=
  kx_put hc h
theorem kx_call {t : Int32} (hc : c < 1024) (h : post (nc, sc, tc, lv, nI (c + 1), tk, sz, ls, dp, sd, ip, ng, zr, cy, ov, hl, st, pc, nk, nx, ny, nw, ek, ex, ey, ew, qk, qx, qy, qz, qw, fn, fs, fp, gn, gp, gs, gq, upd mm c (cx_bw 14 1 (nI c) t), rr, pl)) : wpX_callTo post (nc, sc, tc, lv, nI c, tk, sz, ls, dp, sd, ip, ng, zr, cy, ov, hl, st, pc, nk, nx, ny, nw, ek, ex, ey, ew, qk, qx, qy, qz, qw, fn, fs, fp, gn, gp, gs, gq, mm, rr, pl) t :=
  kx_branch hc h
theorem kx_fwd {P : Int32 → SX → Prop} {a : Int32} (hc : c < 1024) (h : P (nI c) (nc, sc, tc, lv, nI (c + 1), tk, sz, ls, dp, sd, ip, ng, zr, cy, ov, hl, st, pc, nk, nx, ny, nw, ek, ex, ey, ew, qk, qx, qy, qz, qw, fn, fs, fp, gn, gp, gs, gq, upd mm c ((a <<< ((28 : Int32) &&& 31)) ||| 167772160), rr, pl)) : wpX_branchForward P (nc, sc, tc, lv, nI c, tk, sz, ls, dp, sd, ip, ng, zr, cy, ov, hl, st, pc, nk, nx, ny, nw, ek, ex, ey, ew, qk, qx, qy, qz, qw, fn, fs, fp, gn, gp, gs, gq, mm, rr, pl) a := by
  have e := nI_pred c
  unfold wpX_branchForward
  refine kx_put hc ?_
  show P (nI (c + 1) - 1) _
  rw [e]; exact h
theorem kx_land {p : Nat} (hp : p < 1024) (h : post (nc, sc, tc, lv, ce, tk, sz, ls, dp, sd, ip, ng, zr, cy, ov, hl, st, pc, nk, nx, ny, nw, ek, ex, ey, ew, qk, qx, qy, qz, qw, fn, fs, fp, gn, gp, gs, gq, upd mm p (mm p ||| (((ce - nI p) - 2) &&& 16777215)), rr, pl)) : wpX_land post (nc, sc, tc, lv, ce, tk, sz, ls, dp, sd, ip, ng, zr, cy, ov, hl, st, pc, nk, nx, ny, nw, ek, ex, ey, ew, qk, qx, qy, qz, qw, fn, fs, fp, gn, gp, gs, gq, mm, rr, pl) (nI p) :=
  ⟨vp_in_nI hp (by decide), vp_in_nI hp (by decide), nm_r (e' := upd mm p (mm p ||| (((ce - nI p) - 2) &&& 16777215))) (by rw [nI_clamp (by omega)]) h⟩
theorem kx_push (hc : c < 1024) (h : post (nc, sc, tc, lv, nI (c + 1), tk, sz, ls, dp, sd, ip, ng, zr, cy, ov, hl, st, pc, nk, nx, ny, nw, ek, ex, ey, ew, qk, qx, qy, qz, qw, fn, fs, fp, gn, gp, gs, gq, upd mm c mx_wpush, rr, pl)) : wpX_push post (nc, sc, tc, lv, nI c, tk, sz, ls, dp, sd, ip, ng, zr, cy, ov, hl, st, pc, nk, nx, ny, nw, ek, ex, ey, ew, qk, qx, qy, qz, qw, fn, fs, fp, gn, gp, gs, gq, mm, rr, pl) 0 :=
  kx_put hc h
theorem kx_pop (hc : c < 1024) (h : post (nc, sc, tc, lv, nI (c + 1), tk, sz, ls, dp, sd, ip, ng, zr, cy, ov, hl, st, pc, nk, nx, ny, nw, ek, ex, ey, ew, qk, qx, qy, qz, qw, fn, fs, fp, gn, gp, gs, gq, upd mm c mx_wpop, rr, pl)) : wpX_pop post (nc, sc, tc, lv, nI c, tk, sz, ls, dp, sd, ip, ng, zr, cy, ov, hl, st, pc, nk, nx, ny, nw, ek, ex, ey, ew, qk, qx, qy, qz, qw, fn, fs, fp, gn, gp, gs, gq, mm, rr, pl) 0 :=
  kx_put hc h
theorem kx_peek {l r : Int32} (hc : c < 1024) (h : post (nc, sc, tc, lv, nI (c + 1), tk, sz, ls, dp, sd, ip, ng, zr, cy, ov, hl, st, pc, nk, nx, ny, nw, ek, ex, ey, ew, qk, qx, qy, qz, qw, fn, fs, fp, gn, gp, gs, gq, upd mm c (mx_wpeek l r), rr, pl)) : wpX_peek post (nc, sc, tc, lv, nI c, tk, sz, ls, dp, sd, ip, ng, zr, cy, ov, hl, st, pc, nk, nx, ny, nw, ek, ex, ey, ew, qk, qx, qy, qz, qw, fn, fs, fp, gn, gp, gs, gq, mm, rr, pl) l r :=
  kx_put hc h
theorem kx_take (hc : c + 1 < 1024) (h : post (nc, sc, tc, lv, nI (c + 2), tk, sz, ls, dp, sd, ip, ng, zr, cy, ov, hl, st, pc, nk, nx, ny, nw, ek, ex, ey, ew, qk, qx, qy, qz, qw, fn, fs, fp, gn, gp, gs, gq, upd (upd mm c (cx_wd 14 13 0 1 0 0)) (c + 1) mx_wpop, rr, pl)) : wpX_takeBack post (nc, sc, tc, lv, nI c, tk, sz, ls, dp, sd, ip, ng, zr, cy, ov, hl, st, pc, nk, nx, ny, nw, ek, ex, ey, ew, qk, qx, qy, qz, qw, fn, fs, fp, gn, gp, gs, gq, mm, rr, pl) := by
  unfold wpX_takeBack
  exact kx_d0 (by omega) (Or.inr ⟨by decide, by decide⟩) (kx_pop hc h)
theorem kx_l1 {r x : Int32} {n k : Nat} (hk : k < 3) (hc : c < 1024) (h : wX_loadConstant_21 post r x n (nI (k + 2)) nc sc tc lv (nI (c + (cx_l1 r x (nI (k + 1))).length)) tk sz ls dp sd ip ng zr cy ov hl st pc nk nx ny nw ek ex ey ew qk qx qy qz qw fn fs fp gn gp gs gq (cx_wr (cx_l1 r x (nI (k + 1))) mm c) rr pl) : wX_loadConstant_21 post r x (n + 1) (nI (k + 1)) nc sc tc lv (nI c) tk sz ls dp sd ip ng zr cy ov hl st pc nk nx ny nw ek ex ey ew qk qx qy qz qw fn fs fp gn gp gs gq mm rr pl := by
  refine br_f (nI_ge (b := 4) (by omega) (by decide)) (nm_r (e' := cx_lb x (nI (k + 1))) rfl (br_c (fun e => ?_) (fun e => ?_)))
  · have el : cx_l1 r x (nI (k + 1)) = [] := if_pos e
    rw [el] at h
    exact nm_r (nI_1 (k + 1)) h
  · have el : cx_l1 r x (nI (k + 1)) = [cx_wd 14 12 0 r r ((33554432 ||| ((16 - (4 * nI (k + 1))) <<< ((8 : Int32) &&& 31))) ||| cx_lb x (nI (k + 1)))] := if_neg e
    rw [el] at h
    exact kx_d0 hc (Or.inr ⟨by decide, by decide⟩) (nm_r (nI_1 (k + 1)) h)
theorem kx_lc {r x : Int32} (hc : c + 4 < 1024) (h : post (nc, sc, tc, lv, nI (c + (cx_lc r x).length), tk, sz, ls, dp, sd, ip, ng, zr, cy, ov, hl, st, pc, nk, nx, ny, nw, ek, ex, ey, ew, qk, qx, qy, qz, qw, fn, fs, fp, gn, gp, gs, gq, cx_wr (cx_lc r x) mm c, rr, pl)) : wpX_loadConstant post (nc, sc, tc, lv, nI c, tk, sz, ls, dp, sd, ip, ng, zr, cy, ov, hl, st, pc, nk, nx, ny, nw, ek, ex, ey, ew, qk, qx, qy, qz, qw, fn, fs, fp, gn, gp, gs, gq, mm, rr, pl) r x := by
  have l1 := ld_l1 r x 1
  have l2 := ld_l1 r x 2
  have l3 := ld_l1 r x 3
  refine nm_e (kx_d0 (by omega) (Or.inr ⟨by decide, by decide⟩) ⟨4, ?_⟩)
  refine kx_l1 (k := 0) (by decide) (by omega) (kx_l1 (k := 1) (by decide) (by show c + 1 + (cx_l1 r x 1).length < 1024; omega) (kx_l1 (k := 2) (by decide) (by show c + 1 + (cx_l1 r x 1).length + (cx_l1 r x 2).length < 1024; omega) (br_t (by decide) ?_)))
  have em : cx_wr (cx_lc r x) mm c = cx_wr (cx_l1 r x 3) (cx_wr (cx_l1 r x 2) (cx_wr (cx_l1 r x 1) (upd mm c (cx_wd 14 13 0 r 0 (33554432 ||| (x &&& 255)))) (c + 1)) (c + 1 + (cx_l1 r x 1).length)) (c + 1 + (cx_l1 r x 1).length + (cx_l1 r x 2).length) := by
    show cx_wr (cx_l1 r x 1 ++ (cx_l1 r x 2 ++ cx_l1 r x 3)) (upd mm c _) (c + 1) = _
    rw [cx_wr_app, cx_wr_app]
  have ec : c + (cx_lc r x).length = c + 1 + (cx_l1 r x 1).length + (cx_l1 r x 2).length + (cx_l1 r x 3).length := by
    unfold cx_lc; simp only [List.length_cons, List.length_append]; omega
  rw [em, ec] at h
  exact h
theorem kx_ls {r x : Int32} {k : Nat} (hk : cx_sim k) (hc : c + 4 < 1024) (h : post (nc, sc, tc, lv, nI (c + (cx_ls r k x).length), tk, sz, ls, dp, sd, ip, ng, zr, cy, ov, hl, st, pc, nk, nx, ny, nw, ek, ex, ey, ew, qk, qx, qy, qz, qw, fn, fs, fp, gn, gp, gs, gq, cx_wr (cx_ls r k x) mm c, rr, pl)) : wpX_loadSimple post (nc, sc, tc, lv, nI c, tk, sz, ls, dp, sd, ip, ng, zr, cy, ov, hl, st, pc, nk, nx, ny, nw, ek, ex, ey, ew, qk, qx, qy, qz, qw, fn, fs, fp, gn, gp, gs, gq, mm, rr, pl) r (nI k) x := by
  rcases hk with rfl | rfl | rfl | rfl
  · exact br_f (by decide) (br_f (by decide) (kx_lc hc h))
  · exact br_t rfl (kx_d0 (by omega) (Or.inr ⟨by decide, by decide⟩) h)
  · exact br_f (by decide) (br_t rfl (kx_d0 (by omega) (Or.inr ⟨by decide, by decide⟩) h))
  · exact br_f (by decide) (br_f (by decide) (kx_lc hc h))
theorem kx_finN {k : Nat} (hk : k = 2 ∨ k = 3 ∨ k = 4 ∨ k = 5 ∨ k = 6 ∨ k = 7 ∨ k = 8 ∨ k = 9 ∨ k = 10) (hc : c + 10 < 1024) (hsz : sz = nI 5) (hls : ls = nI 13) (h : post (nc, sc, tc, lv, nI (c + (cx_fw k c).length), tk, sz, ls, dp, sd, ip, ng, zr, cy, ov, hl, st, pc, nk, nx, ny, nw, ek, ex, ey, ew, qk, qx, qy, qz, qw, fn, fs, fp, gn, gp, gs, gq, cx_wr (cx_fw k c) mm c, rr, pl)) : wpX_finishNumber post (nc, sc, tc, lv, nI c, tk, sz, ls, dp, sd, ip, ng, zr, cy, ov, hl, st, pc, nk, nx, ny, nw, ek, ex, ey, ew, qk, qx, qy, qz, qw, fn, fs, fp, gn, gp, gs, gq, mm, rr, pl) (nI k) := by
  rcases hk with rfl | rfl | rfl | rfl | rfl | rfl | rfl | rfl | rfl
  · exact br_t rfl (kx_d0 (by omega) (Or.inl (by decide)) h)
  · exact br_f (by decide) (br_t rfl (kx_d0 (by omega) (Or.inl (by decide)) h))
  · exact br_f (by decide) (br_f (by decide) (br_t rfl (kx_put (by omega) (kx_d0 (by omega) (Or.inr ⟨by decide, by decide⟩) h))))
  · exact br_f (by decide) (br_f (by decide) (br_f (by decide) (br_t rfl (kx_d1 (by omega) ⟨by decide, by decide⟩ (br_t rfl (kx_choose (by omega) h))))))
  · exact br_f (by decide) (br_f (by decide) (br_f (by decide) (br_f (by decide) (br_t rfl (kx_d1 (by omega) ⟨by decide, by decide⟩ (br_f (by decide) (kx_choose (by omega) h)))))))
  · subst hsz
    exact br_f (by decide) (br_f (by decide) (br_f (by decide) (br_f (by decide) (br_f (by decide) (br_t rfl (kx_call (by omega) h))))))
  · subst hls
    exact br_f (by decide) (br_f (by decide) (br_f (by decide) (br_f (by decide) (br_f (by decide) (br_f (by decide) (br_t rfl (kx_call (by omega) h)))))))
  · exact br_f (by decide) (br_f (by decide) (br_f (by decide) (br_f (by decide) (br_f (by decide) (br_f (by decide) (br_f (by decide) (br_t rfl (kx_cw (by omega) (kx_w0 (by omega) (Or.inr ⟨by decide, by decide⟩) (kx_w0 (by omega) (Or.inr ⟨by decide, by decide⟩) (kx_w0 (by omega) (Or.inl (by decide)) h)))))))))))
  · exact br_f (by decide) (br_f (by decide) (br_f (by decide) (br_f (by decide) (br_f (by decide) (br_f (by decide) (br_f (by decide) (br_f (by decide) (kx_d0 (by omega) (Or.inr ⟨by decide, by decide⟩) (kx_cw (by omega) (kx_choose (by omega) h))))))))))
theorem kx_finR (hc : c + 10 < 1024) (h : post (nc, sc, tc, lv, nI (c + (cx_fw 24 c).length), tk, sz, ls, dp, sd, ip, ng, zr, cy, ov, hl, st, pc, nk, nx, ny, nw, ek, ex, ey, ew, qk, qx, qy, qz, qw, fn, fs, fp, gn, gp, gs, gq, cx_wr (cx_fw 24 c) mm c, rr, pl)) : wpX_finishRange post (nc, sc, tc, lv, nI c, tk, sz, ls, dp, sd, ip, ng, zr, cy, ov, hl, st, pc, nk, nx, ny, nw, ek, ex, ey, ew, qk, qx, qy, qz, qw, fn, fs, fp, gn, gp, gs, gq, mm, rr, pl) := by
  unfold wpX_finishRange
  exact kx_cw (by omega) (kx_w0 (by omega) (Or.inr ⟨by decide, by decide⟩) (kx_cw (by omega) (kx_w0 (by omega) (Or.inr ⟨by decide, by decide⟩) (kx_d1 (by omega) ⟨by decide, by decide⟩ (kx_d0 (by omega) (Or.inr ⟨by decide, by decide⟩) (kx_w0 (by omega) (Or.inr ⟨by decide, by decide⟩) (kx_w0 (by omega) (Or.inl (by decide)) (kx_w0 (by omega) (Or.inl (by decide)) (kx_w0 (by omega) (Or.inr ⟨by decide, by decide⟩) h)))))))))
theorem kx_finS {k : Nat} (hk : k = 18 ∨ k = 19 ∨ k = 20 ∨ k = 21 ∨ k = 22 ∨ k = 23 ∨ k = 24) (hc : c + 10 < 1024) (h : post (nc, sc, tc, lv, nI (c + (cx_fw k c).length), tk, sz, ls, dp, sd, ip, ng, zr, cy, ov, hl, st, pc, nk, nx, ny, nw, ek, ex, ey, ew, qk, qx, qy, qz, qw, fn, fs, fp, gn, gp, gs, gq, cx_wr (cx_fw k c) mm c, rr, pl)) : wpX_finishSet post (nc, sc, tc, lv, nI c, tk, sz, ls, dp, sd, ip, ng, zr, cy, ov, hl, st, pc, nk, nx, ny, nw, ek, ex, ey, ew, qk, qx, qy, qz, qw, fn, fs, fp, gn, gp, gs, gq, mm, rr, pl) (nI k) := by
  rcases hk with rfl | rfl | rfl | rfl | rfl | rfl | rfl
  · exact br_t rfl (kx_d0 (by omega) (Or.inr ⟨by decide, by decide⟩) h)
  · exact br_f (by decide) (br_t rfl (kx_d0 (by omega) (Or.inl (by decide)) h))
  · exact br_f (by decide) (br_f (by decide) (br_t rfl (kx_d0 (by omega) (Or.inr ⟨by decide, by decide⟩) h)))
  · exact br_f (by decide) (br_f (by decide) (br_f (by decide) (br_t rfl (kx_d0 (by omega) (Or.inr ⟨by decide, by decide⟩) h))))
  · exact br_f (by decide) (br_f (by decide) (br_f (by decide) (br_f (by decide) (br_t rfl (kx_d0 (by omega) (Or.inl (by decide)) (kx_d0 (by omega) (Or.inr ⟨by decide, by decide⟩) (kx_d0 (by omega) (Or.inr ⟨by decide, by decide⟩) h)))))))
  · exact br_f (by decide) (br_f (by decide) (br_f (by decide) (br_f (by decide) (br_f (by decide) (br_t rfl (kx_d0 (by omega) (Or.inl (by decide)) (kx_d0 (by omega) (Or.inl (by decide)) (kx_d0 (by omega) (Or.inr ⟨by decide, by decide⟩) h))))))))
  · exact br_f (by decide) (br_f (by decide) (br_f (by decide) (br_f (by decide) (br_f (by decide) (br_f (by decide) (kx_finR hc h))))))
theorem kx_fin {k : Nat} (hk : cx_kd k) (hc : c + 10 < 1024) (hsz : sz = nI 5) (hls : ls = nI 13) (h : post (nc, sc, tc, lv, nI (c + (cx_fw k c).length), tk, sz, ls, dp, sd, ip, ng, zr, cy, ov, hl, st, pc, nk, nx, ny, nw, ek, ex, ey, ew, qk, qx, qy, qz, qw, fn, fs, fp, gn, gp, gs, gq, cx_wr (cx_fw k c) mm c, rr, pl)) : wpX_finish post (nc, sc, tc, lv, nI c, tk, sz, ls, dp, sd, ip, ng, zr, cy, ov, hl, st, pc, nk, nx, ny, nw, ek, ex, ey, ew, qk, qx, qy, qz, qw, fn, fs, fp, gn, gp, gs, gq, mm, rr, pl) (nI k) := by
  by_cases h16 : k < 16
  · exact br_f (nI_ge (b := 16) h16 (by decide)) (kx_finN (by unfold cx_kd at hk; omega) hc hsz hls h)
  · exact br_t (nI_le (a := 16) (by omega) (by have := cx_kd_lt hk; omega)) (kx_finS (by unfold cx_kd at hk; omega) hc h)
end
end
section
/-! compileExpression -/
def kx_R (post : SX → Prop) (s : SX) : Prop := match s with
  | (nc, sc, tc, lv, ce, tk, sz, ls, dp, sd, ip, ng, zr, cy, ov, hl, st, pc, nk, nx, ny, nw, ek, ex, ey, ew, qk, qx, qy, qz, qw, fn, fs, fp, gn, gp, gs, gq, mm, rr, pl) => ∃ n, wX_compileExpression_11 post n nc sc tc lv ce tk sz ls dp sd ip ng zr cy ov hl st pc nk nx ny nw ek ex ey ew qk qx qy qz qw fn fs fp gn gp gs gq mm rr pl
def kx_r (s s' : SX) : Prop := ∀ post, kx_R post s' → kx_R post s
theorem kx_tr {a b c : SX} (h : kx_r a b) (k : kx_r b c) : kx_r a c := fun post hp => h post (k post hp)
def kx_sel (f g : Nat → Int32) (b : Bool) (i : Nat) : Int32 := if b = true then f i else g i
def kx_bi (b : Bool) : Int32 := if b = true then 1 else 0
def cx_k2 (k : Nat) : Prop := k = 2 ∨ k = 3 ∨ k = 4 ∨ k = 5 ∨ k = 6 ∨ k = 9 ∨ k = 10 ∨ k = 18 ∨ k = 19 ∨ k = 20 ∨ k = 23 ∨ k = 24
theorem cx_k1d {k : Nat} (h : cx_k1 k) : cx_kd k := by unfold cx_k1 at h; unfold cx_kd; omega
theorem cx_k2d {k : Nat} (h : cx_k2 k) : cx_kd k := by unfold cx_k2 at h; unfold cx_kd; omega
theorem cx_kdn {k : Nat} (h : cx_kd k) : ¬ cx_sim k := by unfold cx_kd at h; unfold cx_sim; omega
theorem cx_k12 {k : Nat} (h : cx_k2 k) : k < 32 ∧ k ≠ 7 ∧ k ≠ 8 ∧ k ≠ 21 ∧ k ≠ 22 := by unfold cx_k2 at h; omega
theorem kx_byte : ∀ i, i < 128 → vp_nar .byte (nI i).toInt8.toInt32 = nI i := by
  intro i hi
  rw [vp_nar_byte]
  exact (by decide +kernel : ∀ i, i < 128 → (nI i).toInt8.toInt32.toInt8.toInt32 = nI i) i hi
theorem kx_b0 : vp_nar .byte 0 = 0 := by rw [vp_nar_byte]; decide
theorem kx_bool (b : Bool) : vp_nar .boolean (kx_bi b) = kx_bi b := by cases b <;> rfl
/-- the tables of expressions are well formed -/
def tx_wf (kd o1 o2 : Bool → Nat → Int32) (wt : Bool → Nat → Nat) (N S : Nat) : Prop := N ≤ 40 ∧ S ≤ 30 ∧ ∀ b i, i < ex_n N S b → ∃ k, kd b i = nI k ∧ k < 32 ∧ 1 ≤ wt b i ∧ wt b i ≤ 20 ∧
  ((cx_sim k ∧ (k = 1 ∨ k = 16 → ∃ v, v < 4 ∧ o1 b i = nI v)) ∨ (cx_k1 k ∧ ∃ a, a < ex_n N S (ex_t1 k) ∧ o1 b i = nI a ∧ wt b i = 1 + wt (ex_t1 k) a) ∨ (cx_k2 k ∧ ∃ a c, a < ex_n N S (ex_t1 k) ∧ c < ex_n N S (ex_t2 k) ∧ o1 b i = nI a ∧ o2 b i = nI c ∧ wt b i = 1 + wt (ex_t1 k) a + wt (ex_t2 k) c))
theorem tx_vv {kd o1 o2 : Bool → Nat → Int32} {wt : Bool → Nat → Nat} {N S : Nat} (h : tx_wf kd o1 o2 wt N S) : ∀ b i, i < ex_n N S b → kd b i = nI 1 ∨ kd b i = nI 16 → ∃ v, v < 4 ∧ o1 b i = nI v := by
  intro b i hi hk
  obtain ⟨k, e, hk32, -, -, h3⟩ := h.2.2 b i hi
  have hk' : k = 1 ∨ k = 16 := by
    rcases hk with z | z
    · rw [e, nI_eq (by omega) (by decide)] at z; exact Or.inl z
    · rw [e, nI_eq (by omega) (by decide)] at z; exact Or.inr z
  have hs : cx_sim k := by unfold cx_sim; omega
  rcases h3 with h | h | h
  · exact h.2 hk'
  · exact absurd hs (cx_kdn (cx_k1d h.1))
  · exact absurd hs (cx_kdn (cx_k2d h.1))
theorem ex_nle {N S : Nat} {b : Bool} {i : Nat} (hN : N ≤ 40) (hS : S ≤ 30) (h : i < ex_n N S b) : i < 40 ∧ (b = true → i < 30) := by
  unfold ex_n at h
  cases b
  · simp at h; exact ⟨by omega, fun z => by cases z⟩
  · simp at h; exact ⟨by omega, fun _ => by omega⟩
section
variable {nc sc tc lv ce tk sz ls dp sd ip ng zr cy ov hl st pc : Int32} {nk nx ny nw ek ex ey ew qk qx qy qz qw fn fs fp gn gp gs gq mm rr pl : Nat → Int32}
theorem kx_kd {P : Int32 → Prop} {b : Bool} {i : Nat} (hi : i < 40) (hb : b = true → i < 30) (h : P (kx_sel ek nk b i)) : wpX_kindOf P (nc, sc, tc, lv, ce, tk, sz, ls, dp, sd, ip, ng, zr, cy, ov, hl, st, pc, nk, nx, ny, nw, ek, ex, ey, ew, qk, qx, qy, qz, qw, fn, fs, fp, gn, gp, gs, gq, mm, rr, pl) (nI i) (kx_bi b) := by
  cases b
  · exact br_t rfl ⟨vp_in_nI hi (by decide), by rw [nI_clamp (by omega)]; exact h⟩
  · exact br_f (by decide) ⟨vp_in_nI (hb rfl) (by decide), by rw [nI_clamp (by omega)]; exact h⟩
theorem kx_op1 {P : Int32 → Prop} {b : Bool} {i : Nat} (hi : i < 40) (hb : b = true → i < 30) (h : P (kx_sel ex nx b i)) : wpX_operandOf P (nc, sc, tc, lv, ce, tk, sz, ls, dp, sd, ip, ng, zr, cy, ov, hl, st, pc, nk, nx, ny, nw, ek, ex, ey, ew, qk, qx, qy, qz, qw, fn, fs, fp, gn, gp, gs, gq, mm, rr, pl) (nI i) (kx_bi b) 0 := by
  cases b
  · exact br_t rfl (br_t rfl ⟨vp_in_nI hi (by decide), by rw [nI_clamp (by omega)]; exact h⟩)
  · exact br_f (by decide) (br_t rfl ⟨vp_in_nI (hb rfl) (by decide), by rw [nI_clamp (by omega)]; exact h⟩)
theorem kx_op2 {P : Int32 → Prop} {b : Bool} {i : Nat} (hi : i < 40) (hb : b = true → i < 30) (h : P (kx_sel ey ny b i)) : wpX_operandOf P (nc, sc, tc, lv, ce, tk, sz, ls, dp, sd, ip, ng, zr, cy, ov, hl, st, pc, nk, nx, ny, nw, ek, ex, ey, ew, qk, qx, qy, qz, qw, fn, fs, fp, gn, gp, gs, gq, mm, rr, pl) (nI i) (kx_bi b) 1 := by
  cases b
  · exact br_t rfl (br_f (by decide) ⟨vp_in_nI hi (by decide), by rw [nI_clamp (by omega)]; exact h⟩)
  · exact br_f (by decide) (br_f (by decide) ⟨vp_in_nI (hb rfl) (by decide), by rw [nI_clamp (by omega)]; exact h⟩)
theorem kx_simT {P : Int32 → Prop} {k : Nat} (hk : cx_sim k) (h : P 1) : wpX_isSimple P (nc, sc, tc, lv, ce, tk, sz, ls, dp, sd, ip, ng, zr, cy, ov, hl, st, pc, nk, nx, ny, nw, ek, ex, ey, ew, qk, qx, qy, qz, qw, fn, fs, fp, gn, gp, gs, gq, mm, rr, pl) (nI k) := by
  rcases hk with rfl | rfl | rfl | rfl
  · exact br_t rfl h
  · exact br_f (by decide) (br_t rfl h)
  · exact br_f (by decide) (br_f (by decide) (br_t rfl h))
  · exact br_f (by decide) (br_f (by decide) (br_f (by decide) (br_t rfl h)))
theorem kx_ne {a b : Nat} (h : a ≠ b) (ha : a < 1000) (hb : b < 1000) : ¬ nI a = nI b := by
  rw [nI_eq (by omega) (by omega)]; exact h
theorem kx_simF {P : Int32 → Prop} {k : Nat} (hk : ¬ cx_sim k) (hk2 : k < 32) (h : P 0) : wpX_isSimple P (nc, sc, tc, lv, ce, tk, sz, ls, dp, sd, ip, ng, zr, cy, ov, hl, st, pc, nk, nx, ny, nw, ek, ex, ey, ew, qk, qx, qy, qz, qw, fn, fs, fp, gn, gp, gs, gq, mm, rr, pl) (nI k) :=
  br_f (kx_ne (b := 0) (fun z => hk (Or.inl z)) (by omega) (by omega)) (br_f (kx_ne (b := 1) (fun z => hk (Or.inr (Or.inl z))) (by omega) (by omega)) (br_f (kx_ne (b := 16) (fun z => hk (Or.inr (Or.inr (Or.inl z)))) (by omega) (by omega)) (br_f (kx_ne (b := 17) (fun z => hk (Or.inr (Or.inr (Or.inr z)))) (by omega) (by omega)) h)))
theorem kx_ts1 {P : Int32 → Prop} {k : Nat} (hk : cx_kd k) (h : P (kx_bi (ex_t1 k))) : wpX_takesSet P (nc, sc, tc, lv, ce, tk, sz, ls, dp, sd, ip, ng, zr, cy, ov, hl, st, pc, nk, nx, ny, nw, ek, ex, ey, ew, qk, qx, qy, qz, qw, fn, fs, fp, gn, gp, gs, gq, mm, rr, pl) (nI k) 0 := by
  rcases hk with rfl | rfl | rfl | rfl | rfl | rfl | rfl | rfl | rfl | rfl | rfl | rfl | rfl | rfl | rfl | rfl
  · exact br_f (by decide) (br_f (by decide) (br_f (by decide) (br_f (by decide) (br_f (by decide) (br_t (by decide) h)))))
  · exact br_f (by decide) (br_f (by decide) (br_f (by decide) (br_f (by decide) (br_f (by decide) (br_t (by decide) h)))))
  · exact br_f (by decide) (br_f (by decide) (br_f (by decide) (br_f (by decide) (br_f (by decide) (br_t (by decide) h)))))
  · exact br_f (by decide) (br_f (by decide) (br_f (by decide) (br_f (by decide) (br_f (by decide) (br_t (by decide) h)))))
  · exact br_f (by decide) (br_f (by decide) (br_f (by decide) (br_f (by decide) (br_f (by decide) (br_t (by decide) h)))))
  · exact br_f (by decide) (br_f (by decide) (br_t (by decide) h))
  · exact br_f (by decide) (br_f (by decide) (br_f (by decide) (br_t (by decide) h)))
  · exact br_t (by decide) ⟨rfl, h⟩
  · exact br_f (by decide) (br_f (by decide) (br_f (by decide) (br_f (by decide) (br_t (by decide) h))))
  · exact br_f (by decide) (br_f (by decide) (br_f (by decide) (br_f (by decide) (br_f (by decide) (br_f (by decide) (br_f (by decide) h))))))
  · exact br_f (by decide) (br_f (by decide) (br_f (by decide) (br_f (by decide) (br_f (by decide) (br_f (by decide) (br_f (by decide) h))))))
  · exact br_f (by decide) (br_f (by decide) (br_f (by decide) (br_f (by decide) (br_f (by decide) (br_f (by decide) (br_f (by decide) h))))))
  · exact br_f (by decide) (br_f (by decide) (br_f (by decide) (br_f (by decide) (br_f (by decide) (br_f (by decide) (br_f (by decide) h))))))
  · exact br_f (by decide) (br_f (by decide) (br_f (by decide) (br_f (by decide) (br_f (by decide) (br_f (by decide) (br_t (by decide) h))))))
  · exact br_f (by decide) (br_t (by decide) (br_t rfl h))
  · exact br_f (by decide) (br_f (by decide) (br_f (by decide) (br_f (by decide) (br_f (by decide) (br_f (by decide) (br_t (by decide) h))))))
theorem kx_ts2 {P : Int32 → Prop} {k : Nat} (hk : cx_kd k) (h : P (kx_bi (ex_t2 k))) : wpX_takesSet P (nc, sc, tc, lv, ce, tk, sz, ls, dp, sd, ip, ng, zr, cy, ov, hl, st, pc, nk, nx, ny, nw, ek, ex, ey, ew, qk, qx, qy, qz, qw, fn, fs, fp, gn, gp, gs, gq, mm, rr, pl) (nI k) 1 := by
  rcases hk with rfl | rfl | rfl | rfl | rfl | rfl | rfl | rfl | rfl | rfl | rfl | rfl | rfl | rfl | rfl | rfl
  · exact br_f (by decide) (br_f (by decide) (br_f (by decide) (br_f (by decide) (br_f (by decide) (br_t (by decide) h)))))
  · exact br_f (by decide) (br_f (by decide) (br_f (by decide) (br_f (by decide) (br_f (by decide) (br_t (by decide) h)))))
  · exact br_f (by decide) (br_f (by decide) (br_f (by decide) (br_f (by decide) (br_f (by decide) (br_t (by decide) h)))))
  · exact br_f (by decide) (br_f (by decide) (br_f (by decide) (br_f (by decide) (br_f (by decide) (br_t (by decide) h)))))
  · exact br_f (by decide) (br_f (by decide) (br_f (by decide) (br_f (by decide) (br_f (by decide) (br_t (by decide) h)))))
  · exact br_f (by decide) (br_f (by decide) (br_t (by decide) h))
  · exact br_f (by decide) (br_f (by decide) (br_f (by decide) (br_t (by decide) h)))
  · exact br_t (by decide) ⟨rfl, h⟩
  · exact br_f (by decide) (br_f (by decide) (br_f (by decide) (br_f (by decide) (br_t (by decide) h))))
  · exact br_f (by decide) (br_f (by decide) (br_f (by decide) (br_f (by decide) (br_f (by decide) (br_f (by decide) (br_f (by decide) h))))))
  · exact br_f (by decide) (br_f (by decide) (br_f (by decide) (br_f (by decide) (br_f (by decide) (br_f (by decide) (br_f (by decide) h))))))
  · exact br_f (by decide) (br_f (by decide) (br_f (by decide) (br_f (by decide) (br_f (by decide) (br_f (by decide) (br_f (by decide) h))))))
  · exact br_f (by decide) (br_f (by decide) (br_f (by decide) (br_f (by decide) (br_f (by decide) (br_f (by decide) (br_f (by decide) h))))))
  · exact br_f (by decide) (br_f (by decide) (br_f (by decide) (br_f (by decide) (br_f (by decide) (br_f (by decide) (br_t (by decide) h))))))
  · exact br_f (by decide) (br_t (by decide) (br_f (by decide) h))
  · exact br_f (by decide) (br_f (by decide) (br_f (by decide) (br_f (by decide) (br_f (by decide) (br_f (by decide) (br_t (by decide) h))))))
theorem kx_one1 {P : Int32 → Prop} {k : Nat} (hk : cx_k1 k) (h : P 1) : wpX_hasOne P (nc, sc, tc, lv, ce, tk, sz, ls, dp, sd, ip, ng, zr, cy, ov, hl, st, pc, nk, nx, ny, nw, ek, ex, ey, ew, qk, qx, qy, qz, qw, fn, fs, fp, gn, gp, gs, gq, mm, rr, pl) (nI k) := by
  rcases hk with rfl | rfl | rfl | rfl
  · exact br_t rfl h
  · exact br_f (by decide) (br_t rfl h)
  · exact br_f (by decide) (br_f (by decide) (br_t rfl h))
  · exact br_f (by decide) (br_f (by decide) (br_f (by decide) (br_t rfl h)))
theorem kx_one0 {P : Int32 → Prop} {k : Nat} (hk : cx_k2 k) (h : P 0) : wpX_hasOne P (nc, sc, tc, lv, ce, tk, sz, ls, dp, sd, ip, ng, zr, cy, ov, hl, st, pc, nk, nx, ny, nw, ek, ex, ey, ew, qk, qx, qy, qz, qw, fn, fs, fp, gn, gp, gs, gq, mm, rr, pl) (nI k) := by
  have hq := cx_k12 hk
  exact br_f (kx_ne (b := 7) (by omega) (by omega) (by omega)) (br_f (kx_ne (b := 8) (by omega) (by omega) (by omega)) (br_f (kx_ne (b := 21) (by omega) (by omega) (by omega)) (br_f (kx_ne (b := 22) (by omega) (by omega) (by omega)) h)))
theorem kx_ent {post : SX → Prop} {d i : Nat} {b : Bool} (hd : d < 24) (hi : i < 100) (h : post (nc, sc, tc, lv, ce, tk, sz, ls, nI (d + 1), sd, ip, ng, zr, cy, ov, hl, st, pc, nk, nx, ny, nw, ek, ex, ey, ew, qk, qx, qy, qz, qw, upd fn d (nI i), upd fs d (kx_bi b), upd fp d 0, gn, gp, gs, gq, mm, rr, pl)) : wpX_enter post (nc, sc, tc, lv, ce, tk, sz, ls, nI d, sd, ip, ng, zr, cy, ov, hl, st, pc, nk, nx, ny, nw, ek, ex, ey, ew, qk, qx, qy, qz, qw, fn, fs, fp, gn, gp, gs, gq, mm, rr, pl) (nI i) (kx_bi b) :=
  ⟨vp_in_nI hd (by decide), nm_r (e' := upd fn d (nI i)) (by rw [nI_clamp (by omega), kx_byte i (by omega)]) ⟨vp_in_nI hd (by decide), nm_r (e' := upd fs d (kx_bi b)) (by rw [nI_clamp (by omega), kx_bool]) ⟨vp_in_nI hd (by decide), nm_r (e' := upd fp d 0) (by rw [nI_clamp (by omega), kx_b0]) (nm_r (nI_1 d) h)⟩⟩⟩
theorem kx_ph {ph : Nat} (h : ph < 100) : vp_nar .byte ((nI ph + 1).toInt8.toInt32) = nI (ph + 1) := by
  rw [nI_1]; exact kx_byte (ph + 1) (by omega)
/-! one turn of the loop -/
variable {d i ph k c : Nat} {b : Bool}
theorem ki_simple (hd : d < 24) (hi : i < 40) (hb : b = true → i < 30) (hfn : fn d = nI i) (hfs : fs d = kx_bi b) (hfp : fp d = nI ph) (hph : ph < 3) (hk : kx_sel ek nk b i = nI k) (hs : cx_sim k) (hc : c + 4 < 1024) : kx_r (nc, sc, tc, lv, nI c, tk, sz, ls, nI (d + 1), sd, ip, ng, zr, cy, ov, hl, st, pc, nk, nx, ny, nw, ek, ex, ey, ew, qk, qx, qy, qz, qw, fn, fs, fp, gn, gp, gs, gq, mm, rr, pl) (nc, sc, tc, lv, nI (c + (cx_ls 0 k (kx_sel ex nx b i)).length), tk, sz, ls, nI d, sd, ip, ng, zr, cy, ov, hl, st, pc, nk, nx, ny, nw, ek, ex, ey, ew, qk, qx, qy, qz, qw, fn, fs, upd fp d (nI (ph + 1)), gn, gp, gs, gq, cx_wr (cx_ls 0 k (kx_sel ex nx b i)) mm c, rr, pl) := by
  intro post hp
  obtain ⟨n, hn⟩ := hp
  refine ⟨n + 1, br_f (nI_nle (by omega) (by omega)) (nm_r (nI_pred d) ⟨vp_in_nI hd (by decide), nm_r (e' := nI i) (by rw [nI_clamp (by omega)]; exact hfn) ⟨vp_in_nI hd (by decide), ?_⟩⟩)⟩
  rw [nI_clamp (show d < 2 ^ 31 by omega), hfs]
  refine kx_kd hi hb ?_
  rw [hk]
  refine ⟨vp_in_nI hd (by decide), nm_r (e' := nI ph) hfp ⟨vp_in_nI hd (by decide), vp_in_nI hd (by decide), nm_r (e' := upd fp d (nI (ph + 1))) (by rw [hfp, kx_ph (by omega)]) ?_⟩⟩
  refine kx_simT hs (br_f (by decide) (nm_r (nI_pred d) ⟨vp_in_nI hd (by decide), ?_⟩))
  exact kx_op1 hi hb (kx_ls hs hc hn)
theorem ki_first {a : Nat} (hd : d + 1 < 24) (hi : i < 40) (hb : b = true → i < 30) (hfn : fn d = nI i) (hfs : fs d = kx_bi b) (hfp : fp d = nI ph) (hph : ph = 0) (hk : kx_sel ek nk b i = nI k) (hkd : cx_kd k) (ha : kx_sel ex nx b i = nI a) (ha2 : a < 100) : kx_r (nc, sc, tc, lv, nI c, tk, sz, ls, nI (d + 1), sd, ip, ng, zr, cy, ov, hl, st, pc, nk, nx, ny, nw, ek, ex, ey, ew, qk, qx, qy, qz, qw, fn, fs, fp, gn, gp, gs, gq, mm, rr, pl) (nc, sc, tc, lv, nI c, tk, sz, ls, nI (d + 1 + 1), sd, ip, ng, zr, cy, ov, hl, st, pc, nk, nx, ny, nw, ek, ex, ey, ew, qk, qx, qy, qz, qw, upd fn (d + 1) (nI a), upd fs (d + 1) (kx_bi (ex_t1 k)), upd (upd fp d (nI (ph + 1))) (d + 1) 0, gn, gp, gs, gq, mm, rr, pl) := by
  have hd' := hd
  replace hd : d < 24 := by omega
  intro post hp
  obtain ⟨n, hn⟩ := hp
  refine ⟨n + 1, br_f (nI_nle (by omega) (by omega)) (nm_r (nI_pred d) ⟨vp_in_nI hd (by decide), nm_r (e' := nI i) (by rw [nI_clamp (by omega)]; exact hfn) ⟨vp_in_nI hd (by decide), ?_⟩⟩)⟩
  rw [nI_clamp (show d < 2 ^ 31 by omega), hfs]
  refine kx_kd hi hb ?_
  rw [hk]
  refine ⟨vp_in_nI hd (by decide), nm_r (e' := nI ph) hfp ⟨vp_in_nI hd (by decide), vp_in_nI hd (by decide), nm_r (e' := upd fp d (nI (ph + 1))) (by rw [hfp, kx_ph (by omega)]) ?_⟩⟩
  refine kx_simF (cx_kdn hkd) (cx_kd_lt hkd) (br_t rfl (br_t (by rw [hph]; rfl) ⟨vp_in_nI hd (by decide), ?_⟩))
  refine kx_op1 hi hb ?_
  rw [ha]
  exact kx_ts1 hkd (kx_ent hd' ha2 hn)
theorem ki_fin1 (hd : d < 24) (hi : i < 40) (hb : b = true → i < 30) (hfn : fn d = nI i) (hfs : fs d = kx_bi b) (hfp : fp d = nI ph) (hph : ph = 1) (hk : kx_sel ek nk b i = nI k) (hk1 : cx_k1 k) (hc : c + 10 < 1024) (hsz : sz = nI 5) (hls : ls = nI 13) : kx_r (nc, sc, tc, lv, nI c, tk, sz, ls, nI (d + 1), sd, ip, ng, zr, cy, ov, hl, st, pc, nk, nx, ny, nw, ek, ex, ey, ew, qk, qx, qy, qz, qw, fn, fs, fp, gn, gp, gs, gq, mm, rr, pl) (nc, sc, tc, lv, nI (c + (cx_fw k c).length), tk, sz, ls, nI d, sd, ip, ng, zr, cy, ov, hl, st, pc, nk, nx, ny, nw, ek, ex, ey, ew, qk, qx, qy, qz, qw, fn, fs, upd fp d (nI (ph + 1)), gn, gp, gs, gq, cx_wr (cx_fw k c) mm c, rr, pl) := by
  intro post hp
  obtain ⟨n, hn⟩ := hp
  refine ⟨n + 1, br_f (nI_nle (by omega) (by omega)) (nm_r (nI_pred d) ⟨vp_in_nI hd (by decide), nm_r (e' := nI i) (by rw [nI_clamp (by omega)]; exact hfn) ⟨vp_in_nI hd (by decide), ?_⟩⟩)⟩
  rw [nI_clamp (show d < 2 ^ 31 by omega), hfs]
  refine kx_kd hi hb ?_
  rw [hk]
  refine ⟨vp_in_nI hd (by decide), nm_r (e' := nI ph) hfp ⟨vp_in_nI hd (by decide), vp_in_nI hd (by decide), nm_r (e' := upd fp d (nI (ph + 1))) (by rw [hfp, kx_ph (by omega)]) ?_⟩⟩
  refine kx_simF (cx_kdn (cx_k1d hk1)) (cx_kd_lt (cx_k1d hk1)) (br_t rfl (br_f (by rw [hph]; decide) (br_t (by rw [hph]; rfl) ?_)))
  exact kx_one1 hk1 (br_f (by decide) (nm_r (nI_pred d) (br_f (by rw [hph]; decide) (kx_fin (cx_k1d hk1) hc hsz hls hn))))
theorem ki_fin2 (hd : d < 24) (hi : i < 40) (hb : b = true → i < 30) (hfn : fn d = nI i) (hfs : fs d = kx_bi b) (hfp : fp d = nI ph) (hph : ph = 2) (hk : kx_sel ek nk b i = nI k) (hk2 : cx_k2 k) (hc : c + 12 < 1024) (hsz : sz = nI 5) (hls : ls = nI 13) : kx_r (nc, sc, tc, lv, nI c, tk, sz, ls, nI (d + 1), sd, ip, ng, zr, cy, ov, hl, st, pc, nk, nx, ny, nw, ek, ex, ey, ew, qk, qx, qy, qz, qw, fn, fs, fp, gn, gp, gs, gq, mm, rr, pl) (nc, sc, tc, lv, nI (c + 2 + (cx_fw k (c + 2)).length), tk, sz, ls, nI d, sd, ip, ng, zr, cy, ov, hl, st, pc, nk, nx, ny, nw, ek, ex, ey, ew, qk, qx, qy, qz, qw, fn, fs, upd fp d (nI (ph + 1)), gn, gp, gs, gq, cx_wr (cx_fw k (c + 2)) (upd (upd mm c (cx_wd 14 13 0 1 0 0)) (c + 1) mx_wpop) (c + 2), rr, pl) := by
  intro post hp
  obtain ⟨n, hn⟩ := hp
  refine ⟨n + 1, br_f (nI_nle (by omega) (by omega)) (nm_r (nI_pred d) ⟨vp_in_nI hd (by decide), nm_r (e' := nI i) (by rw [nI_clamp (by omega)]; exact hfn) ⟨vp_in_nI hd (by decide), ?_⟩⟩)⟩
  rw [nI_clamp (show d < 2 ^ 31 by omega), hfs]
  refine kx_kd hi hb ?_
  rw [hk]
  refine ⟨vp_in_nI hd (by decide), nm_r (e' := nI ph) hfp ⟨vp_in_nI hd (by decide), vp_in_nI hd (by decide), nm_r (e' := upd fp d (nI (ph + 1))) (by rw [hfp, kx_ph (by omega)]) ?_⟩⟩
  refine kx_simF (cx_kdn (cx_k2d hk2)) (cx_kd_lt (cx_k2d hk2)) (br_t rfl (br_f (by rw [hph]; decide) (br_f (by rw [hph]; decide) ?_)))
  exact nm_r (nI_pred d) (br_t (by rw [hph]; rfl) (kx_take (by omega) (kx_fin (cx_k2d hk2) (by omega) hsz hls hn)))
theorem ki_secS {a k2 : Nat} (hd : d < 24) (hi : i < 40) (hb : b = true → i < 30) (hfn : fn d = nI i) (hfs : fs d = kx_bi b) (hfp : fp d = nI ph) (hph : ph = 1) (hk : kx_sel ek nk b i = nI k) (hk2 : cx_k2 k) (ha : kx_sel ey ny b i = nI a) (ha2 : a < 40) (hab : ex_t2 k = true → a < 30) (hka : kx_sel ek nk (ex_t2 k) a = nI k2) (hs2 : cx_sim k2) (hlv : lv = 1) (hc : c + 20 < 1024) (hsz : sz = nI 5) (hls : ls = nI 13) :
    kx_r (nc, sc, tc, lv, nI c, tk, sz, ls, nI (d + 1), sd, ip, ng, zr, cy, ov, hl, st, pc, nk, nx, ny, nw, ek, ex, ey, ew, qk, qx, qy, qz, qw, fn, fs, fp, gn, gp, gs, gq, mm, rr, pl) (nc, sc, tc, lv, nI (c + (cx_ls 1 k2 (kx_sel ex nx (ex_t2 k) a)).length + (cx_fw k (c + (cx_ls 1 k2 (kx_sel ex nx (ex_t2 k) a)).length)).length), tk, sz, ls, nI d, sd, ip, ng, zr, cy, ov, hl, st, pc, nk, nx, ny, nw, ek, ex, ey, ew, qk, qx, qy, qz, qw, fn, fs, upd fp d (nI (ph + 1)), gn, gp, gs, gq, cx_wr (cx_fw k (c + (cx_ls 1 k2 (kx_sel ex nx (ex_t2 k) a)).length)) (cx_wr (cx_ls 1 k2 (kx_sel ex nx (ex_t2 k) a)) mm c) (c + (cx_ls 1 k2 (kx_sel ex nx (ex_t2 k) a)).length), rr, pl) := by
  have hl := ld_ls 1 k2 (kx_sel ex nx (ex_t2 k) a)
  intro post hp
  obtain ⟨n, hn⟩ := hp
  refine ⟨n + 1, br_f (nI_nle (by omega) (by omega)) (nm_r (nI_pred d) ⟨vp_in_nI hd (by decide), nm_r (e' := nI i) (by rw [nI_clamp (by omega)]; exact hfn) ⟨vp_in_nI hd (by decide), ?_⟩⟩)⟩
  rw [nI_clamp (show d < 2 ^ 31 by omega), hfs]
  refine kx_kd hi hb ?_
  rw [hk]
  refine ⟨vp_in_nI hd (by decide), nm_r (e' := nI ph) hfp ⟨vp_in_nI hd (by decide), vp_in_nI hd (by decide), nm_r (e' := upd fp d (nI (ph + 1))) (by rw [hfp, kx_ph (by omega)]) ?_⟩⟩
  refine kx_simF (cx_kdn (cx_k2d hk2)) (cx_kd_lt (cx_k2d hk2)) (br_t rfl (br_f (by rw [hph]; decide) (br_t (by rw [hph]; rfl) (kx_one0 hk2 (br_t rfl ?_)))))
  refine ⟨vp_in_nI hd (by decide), ?_⟩
  rw [nI_clamp (show d < 2 ^ 31 by omega), hfs]
  refine kx_op2 hi hb ?_
  rw [ha]
  refine kx_ts2 (cx_k2d hk2) (kx_kd ha2 hab ?_)
  rw [hka]
  refine br_t hlv (kx_simT hs2 (br_f (by decide) (nm_r (nI_pred d) ?_)))
  exact kx_op1 ha2 hab (kx_ls hs2 (by omega) (kx_fin (cx_k2d hk2) (by omega) hsz hls hn))
theorem ki_sec {a k2 : Nat} (hd : d + 1 < 24) (hi : i < 40) (hb : b = true → i < 30) (hfn : fn d = nI i) (hfs : fs d = kx_bi b) (hfp : fp d = nI ph) (hph : ph = 1) (hk : kx_sel ek nk b i = nI k) (hk2 : cx_k2 k) (ha : kx_sel ey ny b i = nI a) (ha2 : a < 40) (hab : ex_t2 k = true → a < 30) (hka : kx_sel ek nk (ex_t2 k) a = nI k2) (hk32 : k2 < 32) (hs2 : ¬ lv = 1 ∨ ¬ cx_sim k2) (hc : c + 20 < 1024) :
    kx_r (nc, sc, tc, lv, nI c, tk, sz, ls, nI (d + 1), sd, ip, ng, zr, cy, ov, hl, st, pc, nk, nx, ny, nw, ek, ex, ey, ew, qk, qx, qy, qz, qw, fn, fs, fp, gn, gp, gs, gq, mm, rr, pl) (nc, sc, tc, lv, nI (c + 1), tk, sz, ls, nI (d + 1 + 1), sd, ip, ng, zr, cy, ov, hl, st, pc, nk, nx, ny, nw, ek, ex, ey, ew, qk, qx, qy, qz, qw, upd fn (d + 1) (nI a), upd fs (d + 1) (kx_bi (ex_t2 k)), upd (upd fp d (nI (ph + 1))) (d + 1) 0, gn, gp, gs, gq, upd mm c mx_wpush, rr, pl) := by
  have hd' := hd
  replace hd : d < 24 := by omega
  intro post hp
  obtain ⟨n, hn⟩ := hp
  refine ⟨n + 1, br_f (nI_nle (by omega) (by omega)) (nm_r (nI_pred d) ⟨vp_in_nI hd (by decide), nm_r (e' := nI i) (by rw [nI_clamp (by omega)]; exact hfn) ⟨vp_in_nI hd (by decide), ?_⟩⟩)⟩
  rw [nI_clamp (show d < 2 ^ 31 by omega), hfs]
  refine kx_kd hi hb ?_
  rw [hk]
  refine ⟨vp_in_nI hd (by decide), nm_r (e' := nI ph) hfp ⟨vp_in_nI hd (by decide), vp_in_nI hd (by decide), nm_r (e' := upd fp d (nI (ph + 1))) (by rw [hfp, kx_ph (by omega)]) ?_⟩⟩
  refine kx_simF (cx_kdn (cx_k2d hk2)) (cx_kd_lt (cx_k2d hk2)) (br_t rfl (br_f (by rw [hph]; decide) (br_t (by rw [hph]; rfl) (kx_one0 hk2 (br_t rfl ?_)))))
  refine ⟨vp_in_nI hd (by decide), ?_⟩
  rw [nI_clamp (show d < 2 ^ 31 by omega), hfs]
  refine kx_op2 hi hb ?_
  rw [ha]
  refine kx_ts2 (cx_k2d hk2) (kx_kd ha2 hab ?_)
  rw [hka]
  refine br_c (fun hl => kx_simF (hs2.resolve_left (fun z => z hl)) hk32 (br_t rfl ?_)) (fun hl => ?_)
  · exact kx_push (by omega) (kx_ent hd' (by omega) hn)
  · exact kx_push (by omega) (kx_ent hd' (by omega) hn)
end
end
section
/-! compileExpression, whole: the code that it writes is right -/
section
variable {nc sc tc lv ce tk sz ls dp sd ip ng zr cy ov hl st pc : Int32} {nk nx ny nw ek ex ey ew qk qx qy qz qw fn fs fp gn gp gs gq mm rr pl : Nat → Int32} {wt : Bool → Nat → Nat} {N S : Nat}
theorem ke_main (hwf : tx_wf (kx_sel ek nk) (kx_sel ex nx) (kx_sel ey ny) wt N S) (hsz : sz = nI 5) (hls : ls = nI 13) : ∀ w b i d p fn fs fp mm, i < ex_n N S b → wt b i ≤ w → fn d = nI i → fs d = kx_bi b → fp d = nI 0 → d + wt b i ≤ 24 → 23 ≤ p → p + 14 * wt b i ≤ 500 →
    ∃ q fn' fs' fp' mm', kx_r (nc, sc, tc, lv, nI p, tk, sz, ls, nI (d + 1), sd, ip, ng, zr, cy, ov, hl, st, pc, nk, nx, ny, nw, ek, ex, ey, ew, qk, qx, qy, qz, qw, fn, fs, fp, gn, gp, gs, gq, mm, rr, pl) (nc, sc, tc, lv, nI q, tk, sz, ls, nI d, sd, ip, ng, zr, cy, ov, hl, st, pc, nk, nx, ny, nw, ek, ex, ey, ew, qk, qx, qy, qz, qw, fn', fs', fp', gn, gp, gs, gq, mm', rr, pl) ∧ (∀ j, j < d → fn' j = fn j ∧ fs' j = fs j ∧ fp' j = fp j) ∧ (∀ j, j < p ∨ q ≤ j → mm' j = mm j) ∧ ex_sg (kx_sel ek nk) (kx_sel ex nx) (kx_sel ey ny) N S mm' p q b i (wt b i) := by
  have hN := hwf.1
  have hS := hwf.2.1
  intro w
  induction w with
  | zero =>
    intro b i d p fn fs fp mm hi hw
    obtain ⟨k, -, -, h1, -⟩ := hwf.2.2 b i hi
    omega
  | succ w ih =>
    intro b i d p fn fs fp mm hi hw hfn hfs hfp hd hp1 hp2
    obtain ⟨k, hk, hk32, hw1, hw20, hcase⟩ := hwf.2.2 b i hi
    obtain ⟨hi40, hib⟩ := ex_nle hN hS hi
    rcases hcase with ⟨hs, hv⟩ | ⟨hk1, a, ha, ea, ew1⟩ | ⟨hk2, a, c, ha, hc, ea, ec, ew2⟩
    · have hl := ld_ls 0 k (kx_sel ex nx b i)
      refine ⟨_, _, _, _, _, ki_simple (by omega) hi40 hib hfn hfs hfp (by decide) hk hs (by omega), fun j hj => ⟨rfl, rfl, pk_un (by omega)⟩, fun j hj => ?_, ?_⟩
      · rcases hj with hj | hj
        · exact cx_wr_lo _ _ _ _ hj
        · exact cx_wr_hi _ _ _ _ hj
      · exact ex_simple hi hs hk hv hw1 hp1 (cx_at_wr _ _ _)
    · obtain ⟨ha40, hab⟩ := ex_nle hN hS ha
      have hkd := cx_k1d hk1
      have hlen := fun p => cx_fw_len (p := p) hkd
      have s1 := ki_first (nc := nc) (sc := sc) (tc := tc) (lv := lv) (tk := tk) (sz := sz) (ls := ls) (sd := sd) (ip := ip) (ng := ng) (zr := zr) (cy := cy) (ov := ov) (hl := hl) (st := st) (pc := pc) (nw := nw) (ey := ey) (ny := ny) (ew := ew) (qk := qk) (qx := qx) (qy := qy) (qz := qz) (qw := qw) (gn := gn) (gp := gp) (gs := gs) (gq := gq) (mm := mm) (rr := rr) (pl := pl) (c := p) (show d + 1 < 24 by have := (hwf.2.2 _ a ha); obtain ⟨_, _, _, z, _⟩ := this; omega) hi40 hib hfn hfs hfp rfl hk hkd ea (by omega)
      obtain ⟨q1, fn1, fs1, fp1, mm1, r1, fr1, me1, sg1⟩ := ih (ex_t1 k) a (d + 1) p (upd fn (d + 1) (nI a)) (upd fs (d + 1) (kx_bi (ex_t1 k))) (upd (upd fp d (nI (0 + 1))) (d + 1) 0) mm ha (by omega) pk_us pk_us pk_us (by omega) hp1 (by omega)
      have b1 := sg1.2.1
      have b2 := sg1.2.2.1
      obtain ⟨e1, e2, e3⟩ := fr1 d (by omega)
      have s2 := ki_fin1 (fn := fn1) (fs := fs1) (fp := fp1) (nc := nc) (sc := sc) (tc := tc) (lv := lv) (tk := tk) (sz := sz) (ls := ls) (sd := sd) (ip := ip) (ng := ng) (zr := zr) (cy := cy) (ov := ov) (hl := hl) (st := st) (pc := pc) (nx := nx) (ex := ex) (nw := nw) (ey := ey) (ny := ny) (ew := ew) (qk := qk) (qx := qx) (qy := qy) (qz := qz) (qw := qw) (gn := gn) (gp := gp) (gs := gs) (gq := gq) (mm := mm1) (rr := rr) (pl := pl) (c := q1) (d := d) (i := i) (b := b) (ph := 1) (by omega) hi40 hib (by rw [e1, pk_un (by omega)]; exact hfn) (by rw [e2, pk_un (by omega)]; exact hfs) (by rw [e3, pk_un (by omega), pk_us]) rfl hk hk1 (by omega) hsz hls
      have hl1 := hlen q1
      refine ⟨_, _, _, _, _, kx_tr s1 (kx_tr r1 s2), fun j hj => ?_, fun j hj => ?_, ?_⟩
      · obtain ⟨z1, z2, z3⟩ := fr1 j (by omega)
        exact ⟨by rw [z1, pk_un (by omega)], by rw [z2, pk_un (by omega)], by rw [pk_un (by omega), z3, pk_un (by omega), pk_un (by omega)]⟩
      · rcases hj with hj | hj
        · rw [cx_wr_lo _ _ _ _ (by omega)]; exact me1 j (Or.inl hj)
        · rw [cx_wr_hi _ _ _ _ hj]; exact me1 j (Or.inr (by omega))
      · rw [ew1]
        exact ex_one hi hkd hk1 hk ea (by omega) (ex_fr sg1 (fun j h1 h2 => cx_wr_lo _ _ _ _ h2)) (cx_at_wr _ _ _)
    · obtain ⟨ha40, hab⟩ := ex_nle hN hS ha
      obtain ⟨hc40, hcb⟩ := ex_nle hN hS hc
      have hkd := cx_k2d hk2
      have hlen := fun p => cx_fw_len (p := p) hkd
      obtain ⟨k1', hk1e, hk1lt, wa1, wa2, -⟩ := hwf.2.2 _ a ha
      obtain ⟨k2', hk2e, hk2lt, wc1, wc2, hcase2⟩ := hwf.2.2 _ c hc
      have s1 := ki_first (nc := nc) (sc := sc) (tc := tc) (lv := lv) (tk := tk) (sz := sz) (ls := ls) (sd := sd) (ip := ip) (ng := ng) (zr := zr) (cy := cy) (ov := ov) (hl := hl) (st := st) (pc := pc) (nw := nw) (ey := ey) (ny := ny) (ew := ew) (qk := qk) (qx := qx) (qy := qy) (qz := qz) (qw := qw) (gn := gn) (gp := gp) (gs := gs) (gq := gq) (mm := mm) (rr := rr) (pl := pl) (c := p) (show d + 1 < 24 by omega) hi40 hib hfn hfs hfp rfl hk hkd ea (by omega)
      obtain ⟨q1, fn1, fs1, fp1, mm1, r1, fr1, me1, sg1⟩ := ih (ex_t1 k) a (d + 1) p (upd fn (d + 1) (nI a)) (upd fs (d + 1) (kx_bi (ex_t1 k))) (upd (upd fp d (nI (0 + 1))) (d + 1) 0) mm ha (by omega) pk_us pk_us pk_us (by omega) hp1 (by omega)
      have b1 := sg1.2.1
      have b2 := sg1.2.2.1
      obtain ⟨e1, e2, e3⟩ := fr1 d (by omega)
      have f1 : fn1 d = nI i := by rw [e1, pk_un (by omega)]; exact hfn
      have f2 : fs1 d = kx_bi b := by rw [e2, pk_un (by omega)]; exact hfs
      have f3 : fp1 d = nI 1 := by rw [e3, pk_un (by omega), pk_us]
      by_cases hlv : lv = 1 ∧ cx_sim k2'
      · obtain ⟨hlv, hs2⟩ := hlv
        have hl2 := ld_ls 1 k2' (kx_sel ex nx (ex_t2 k) c)
        have hl3 := hlen (q1 + (cx_ls 1 k2' (kx_sel ex nx (ex_t2 k) c)).length)
        have s2 := ki_secS (nx := nx) (ex := ex) (nc := nc) (sc := sc) (tc := tc) (lv := lv) (tk := tk) (sz := sz) (ls := ls) (sd := sd) (ip := ip) (ng := ng) (zr := zr) (cy := cy) (ov := ov) (hl := hl) (st := st) (pc := pc) (nw := nw) (ew := ew) (qk := qk) (qx := qx) (qy := qy) (qz := qz) (qw := qw) (gn := gn) (gp := gp) (gs := gs) (gq := gq) (mm := mm1) (rr := rr) (pl := pl) (c := q1) (d := d) (i := i) (b := b) (ph := 1) (by omega) hi40 hib f1 f2 f3 rfl hk hk2 ec hc40 hcb hk2e hs2 hlv (by omega) hsz hls
        have hv2 : k2' = 1 ∨ k2' = 16 → ∃ v, v < 4 ∧ kx_sel ex nx (ex_t2 k) c = nI v := fun z => tx_vv hwf _ c hc (z.elim (fun z => Or.inl (by rw [hk2e, z])) (fun z => Or.inr (by rw [hk2e, z])))
        refine ⟨_, _, _, _, _, kx_tr s1 (kx_tr r1 s2), fun j hj => ?_, fun j hj => ?_, ?_⟩
        · obtain ⟨z1, z2, z3⟩ := fr1 j (by omega)
          exact ⟨by rw [z1, pk_un (by omega)], by rw [z2, pk_un (by omega)], by rw [pk_un (by omega), z3, pk_un (by omega), pk_un (by omega)]⟩
        · rcases hj with hj | hj
          · rw [cx_wr_lo _ _ _ _ (by omega), cx_wr_lo _ _ _ _ (by omega)]; exact me1 j (Or.inl hj)
          · rw [cx_wr_hi _ _ _ _ hj, cx_wr_hi _ _ _ _ (by omega)]; exact me1 j (Or.inr (by omega))
        · rw [ew2]
          refine ex_twoS hi hkd hk ea (by omega) ec hc (by omega) hs2 hk2e hv2 wc1 (tx_vv hwf) (ex_fr sg1 (fun j h1 h2 => ?_)) ?_ (cx_at_wr _ _ _)
          · rw [cx_wr_lo _ _ _ _ (by omega), cx_wr_lo _ _ _ _ (by omega)]
          · exact cx_at_eq _ _ (fun j h1 h2 => cx_wr_lo _ _ _ _ h2) (cx_at_wr _ mm1 q1)
      · have hs2 : ¬ lv = 1 ∨ ¬ cx_sim k2' := by
          rcases Classical.em (lv = 1) with z | z
          · exact Or.inr (fun y => hlv ⟨z, y⟩)
          · exact Or.inl z
        have s2 := ki_sec (nc := nc) (sc := sc) (tc := tc) (lv := lv) (tk := tk) (sz := sz) (ls := ls) (sd := sd) (ip := ip) (ng := ng) (zr := zr) (cy := cy) (ov := ov) (hl := hl) (st := st) (pc := pc) (nx := nx) (ex := ex) (nw := nw) (ew := ew) (qk := qk) (qx := qx) (qy := qy) (qz := qz) (qw := qw) (gn := gn) (gp := gp) (gs := gs) (gq := gq) (mm := mm1) (rr := rr) (pl := pl) (c := q1) (d := d) (i := i) (b := b) (ph := 1) (show d + 1 < 24 by omega) hi40 hib f1 f2 f3 rfl hk hk2 ec hc40 hcb hk2e hk2lt hs2 (by omega)
        obtain ⟨q2, fn2, fs2, fp2, mm2, r2, fr2, me2, sg2⟩ := ih (ex_t2 k) c (d + 1) (q1 + 1) (upd fn1 (d + 1) (nI c)) (upd fs1 (d + 1) (kx_bi (ex_t2 k))) (upd (upd fp1 d (nI (1 + 1))) (d + 1) 0) (upd mm1 q1 mx_wpush) hc (by omega) pk_us pk_us pk_us (by omega) (by omega) (by omega)
        have b3 := sg2.2.1
        have b4 := sg2.2.2.1
        obtain ⟨g1, g2, g3⟩ := fr2 d (by omega)
        have hl3 := hlen (q2 + 2)
        have s3 := ki_fin2 (fn := fn2) (fs := fs2) (fp := fp2) (nc := nc) (sc := sc) (tc := tc) (lv := lv) (tk := tk) (sz := sz) (ls := ls) (sd := sd) (ip := ip) (ng := ng) (zr := zr) (cy := cy) (ov := ov) (hl := hl) (st := st) (pc := pc) (nx := nx) (ex := ex) (nw := nw) (ey := ey) (ny := ny) (ew := ew) (qk := qk) (qx := qx) (qy := qy) (qz := qz) (qw := qw) (gn := gn) (gp := gp) (gs := gs) (gq := gq) (mm := mm2) (rr := rr) (pl := pl) (c := q2) (d := d) (i := i) (b := b) (ph := 2) (by omega) hi40 hib (by rw [g1, pk_un (by omega)]; exact f1) (by rw [g2, pk_un (by omega)]; exact f2) (by rw [g3, pk_un (by omega), pk_us]) rfl hk hk2 (by omega) hsz hls
        refine ⟨_, _, _, _, _, kx_tr s1 (kx_tr r1 (kx_tr s2 (kx_tr r2 s3))), fun j hj => ?_, fun j hj => ?_, ?_⟩
        · obtain ⟨z1, z2, z3⟩ := fr1 j (by omega)
          obtain ⟨y1, y2, y3⟩ := fr2 j (by omega)
          exact ⟨by rw [y1, pk_un (by omega), z1, pk_un (by omega)], by rw [y2, pk_un (by omega), z2, pk_un (by omega)], by rw [pk_un (by omega), y3, pk_un (by omega), pk_un (by omega), z3, pk_un (by omega), pk_un (by omega)]⟩
        · rcases hj with hj | hj
          · rw [cx_wr_lo _ _ _ _ (by omega), pk_un (by omega), pk_un (by omega), me2 j (Or.inl (by omega)), pk_un (by omega)]; exact me1 j (Or.inl hj)
          · rw [cx_wr_hi _ _ _ _ hj, pk_un (by omega), pk_un (by omega), me2 j (Or.inr (by omega)), pk_un (by omega)]; exact me1 j (Or.inr (by omega))
        · rw [ew2]
          refine ex_two hi hkd hk ea (by omega) ec (by omega) (tx_vv hwf) (ex_fr sg1 (fun j h1 h2 => ?_)) ?_ (ex_fr sg2 (fun j h1 h2 => ?_)) ?_ ?_ (cx_at_wr _ _ _)
          · rw [cx_wr_lo _ _ _ _ (by omega), pk_un (by omega), pk_un (by omega), me2 j (Or.inl (by omega)), pk_un (by omega)]
          · rw [cx_wr_lo _ _ _ _ (by omega), pk_un (by omega), pk_un (by omega), me2 q1 (Or.inl (by omega)), pk_us]
          · rw [cx_wr_lo _ _ _ _ (by omega), pk_un (by omega), pk_un (by omega)]
          · rw [cx_wr_lo _ _ _ _ (by omega), pk_un (by omega), pk_us]
          · rw [cx_wr_lo _ _ _ _ (by omega), pk_us]
end
end
section
/-! compileExpression as it is called -/
section
variable {nc sc tc lv ce tk sz ls dp sd ip ng zr cy ov hl st pc : Int32} {nk nx ny nw ek ex ey ew qk qx qy qz qw fn fs fp gn gp gs gq mm rr pl : Nat → Int32} {wt : Bool → Nat → Nat} {N S : Nat}
theorem ke_call (hwf : tx_wf (kx_sel ek nk) (kx_sel ex nx) (kx_sel ey ny) wt N S) (hsz : sz = nI 5) (hls : ls = nI 13) {b : Bool} {i p : Nat} (hi : i < ex_n N S b) (hp1 : 23 ≤ p) (hp2 : p + 14 * wt b i ≤ 500) :
    ∃ q fn' fs' fp' mm', (∀ post : SX → Prop, post (nc, sc, tc, lv, nI q, tk, sz, ls, nI 0, sd, ip, ng, zr, cy, ov, hl, st, pc, nk, nx, ny, nw, ek, ex, ey, ew, qk, qx, qy, qz, qw, fn', fs', fp', gn, gp, gs, gq, mm', rr, pl) → wpX_compileExpression post (nc, sc, tc, lv, nI p, tk, sz, ls, dp, sd, ip, ng, zr, cy, ov, hl, st, pc, nk, nx, ny, nw, ek, ex, ey, ew, qk, qx, qy, qz, qw, fn, fs, fp, gn, gp, gs, gq, mm, rr, pl) (nI i) (kx_bi b)) ∧ (∀ j, j < p ∨ q ≤ j → mm' j = mm j) ∧ ex_sg (kx_sel ek nk) (kx_sel ex nx) (kx_sel ey ny) N S mm' p q b i (wt b i) := by
  obtain ⟨k, -, -, -, hw20, -⟩ := hwf.2.2 b i hi
  obtain ⟨q, fn', fs', fp', mm', r, -, me, sg⟩ := ke_main (nc := nc) (sc := sc) (tc := tc) (lv := lv) (tk := tk) (sz := sz) (ls := ls) (sd := sd) (ip := ip) (ng := ng) (zr := zr) (cy := cy) (ov := ov) (hl := hl) (st := st) (pc := pc) (nw := nw) (ew := ew) (qk := qk) (qx := qx) (qy := qy) (qz := qz) (qw := qw) (gn := gn) (gp := gp) (gs := gs) (gq := gq) (rr := rr) (pl := pl) hwf hsz hls 20 b i 0 p (upd fn 0 (nI i)) (upd fs 0 (kx_bi b)) (upd fp 0 0) mm hi hw20 pk_us pk_us pk_us (by omega) hp1 hp2
  refine ⟨q, fn', fs', fp', mm', fun post hpost => ?_, me, sg⟩
  unfold wpX_compileExpression
  have hi40 := (ex_nle hwf.1 hwf.2.1 hi).1
  refine kx_ent (d := 0) (by decide) (by omega) ?_
  exact r post ⟨1, br_t (by decide) hpost⟩
end
end
section
/-! the reference: members, smallest, moved, range -/
section
variable {nn ns nt td sp pr : Int32} {yk yx yy yw yv zk zx zy zw zv od wk wx wy wz ww nu va bg ag lf ou : Nat → Int32} {P : Int32 → Prop}
theorem yx_has {s x : Int32} (h : P (if (0 ≤ x ∧ x ≤ 31) ∧ bt s x.toNatClampNeg = true then 1 else 0)) : wpY_has P (nn, ns, nt, td, sp, pr, yk, yx, yy, yw, yv, zk, zx, zy, zw, zv, od, wk, wx, wy, wz, ww, nu, va, bg, ag, lf, ou) s x := by
  unfold wpY_has
  refine br_c (fun z => ?_) (fun z => br_c (fun y => ?_) (fun y => ?_))
  · rw [if_neg (fun q => absurd q.1.1 (Int32.not_le.mpr z))] at h
    exact br_t rfl h
  · rw [if_neg (fun q => absurd q.1.2 (Int32.not_le.mpr y))] at h
    exact br_t rfl h
  · have h0 := Int32.not_lt.mp z
    have h1 := Int32.not_lt.mp y
    obtain ⟨m, hm, rfl⟩ := nI_of2 (x := x) (M := 31) (n := 31) (by decide) z h1
    rw [nI_clamp (by omega)] at h
    have e : nI m &&& 31 = nI m := by rw [pk_andN (by omega) 5 (by decide), Nat.mod_eq_of_lt (by omega)]
    refine br_f (by decide) ?_
    rw [e]
    by_cases hb : bt s m = true
    · rw [if_pos ⟨⟨h0, h1⟩, hb⟩] at h
      exact br_t (by rw [bz_has s (by omega), if_pos hb]) h
    · rw [if_neg (fun q => hb q.2)] at h
      exact br_f (by rw [bz_has s (by omega), if_neg hb]; decide) h
theorem yx_hasN {s : Int32} {m : Nat} (hm : m < 32) (h1 : bt s m = true → P 1) (h0 : ¬ bt s m = true → P 0) : wpY_has P (nn, ns, nt, td, sp, pr, yk, yx, yy, yw, yv, zk, zx, zy, zw, zv, od, wk, wx, wy, wz, ww, nu, va, bg, ag, lf, ou) s (nI m) := by
  refine yx_has ?_
  rw [nI_clamp (by omega)]
  by_cases hb : bt s m = true
  · rw [if_pos ⟨⟨nI_pos' (by omega), nI_le (b := 31) (by omega) (by decide)⟩, hb⟩]; exact h1 hb
  · rw [if_neg (fun q => hb q.2)]; exact h0 hb
theorem yx_mem {s : Int32} : ∀ n m, m + n = 32 → P (nI (bz_pc s)) → wY_members_4 P s nn ns nt td sp pr yk yx yy yw yv zk zx zy zw zv od wk wx wy wz ww nu va bg ag lf ou (n + 1) (nI (bz_cnt s m)) (nI m) := by
  intro n
  induction n with
  | zero =>
    intro m hm h
    have : m = 32 := by omega
    subst this
    exact br_t (by decide) h
  | succ n ih =>
    intro m hm h
    have := bz_cnt_le s m
    refine br_f (nI_ge (b := 32) (by omega) (by decide)) (yx_hasN (by omega) (fun hb => br_f (by decide) (nm_r (nI_1 _) (nm_r (nI_1 m) ?_))) (fun hb => br_t rfl (nm_r (nI_1 m) ?_)))
    · have e : bz_cnt s (m + 1) = bz_cnt s m + 1 := by simp only [bz_cnt]; rw [if_pos hb]
      rw [← e]; exact ih (m + 1) (by omega) h
    · have e : bz_cnt s (m + 1) = bz_cnt s m := by simp only [bz_cnt]; rw [if_neg hb]; rfl
      rw [← e]; exact ih (m + 1) (by omega) h
theorem yx_members {s : Int32} (h : P (nI (bz_pc s))) : wpY_members P (nn, ns, nt, td, sp, pr, yk, yx, yy, yw, yv, zk, zx, zy, zw, zv, od, wk, wx, wy, wz, ww, nu, va, bg, ag, lf, ou) s := ⟨33, yx_mem 32 0 rfl h⟩
theorem yx_sml {s : Int32} : ∀ n m, m + n = 32 → P (nI (bz_ls s n m)) → wY_smallest_2 P s nn ns nt td sp pr yk yx yy yw yv zk zx zy zw zv od wk wx wy wz ww nu va bg ag lf ou (n + 1) (nI m) := by
  intro n
  induction n with
  | zero =>
    intro m hm h
    have : m = 32 := by omega
    subst this
    exact br_t (by decide) h
  | succ n ih =>
    intro m hm h
    unfold bz_ls at h
    refine br_f (nI_ge (b := 32) (by omega) (by decide)) (yx_hasN (by omega) (fun hb => br_f (by decide) ?_) (fun hb => br_t rfl (nm_r (nI_1 m) ?_)))
    · rw [if_pos hb] at h; exact h
    · rw [if_neg hb] at h; exact ih (m + 1) (by omega) h
theorem yx_smallest {s : Int32} (h : P (nI (bz_lo s))) : wpY_smallest P (nn, ns, nt, td, sp, pr, yk, yx, yy, yw, yv, zk, zx, zy, zw, zv, od, wk, wx, wy, wz, ww, nu, va, bg, ag, lf, ou) s := ⟨33, yx_sml 32 0 rfl h⟩
theorem yx_mv {s b : Int32} : ∀ n m, m + n = 32 → P (bz_mv s b 32) → wY_moved_5 P s b nn ns nt td sp pr yk yx yy yw yv zk zx zy zw zv od wk wx wy wz ww nu va bg ag lf ou (n + 1) (bz_mv s b m) (nI m) := by
  intro n
  induction n with
  | zero =>
    intro m hm h
    have : m = 32 := by omega
    subst this
    exact br_t (by decide) h
  | succ n ih =>
    intro m hm h
    refine br_f (nI_ge (b := 32) (by omega) (by decide)) (yx_hasN (by omega) (fun hb => br_f (by decide) (nm_r (e' := bz_mv s b (m + 1)) ?_ (nm_r (nI_1 m) (ih (m + 1) (by omega) h)))) (fun hb => br_t rfl (nm_r (nI_1 m) ?_)))
    · simp only [bz_mv]; rw [if_pos hb]
    · have e : bz_mv s b (m + 1) = bz_mv s b m := by simp only [bz_mv]; rw [if_neg hb]
      rw [← e]; exact ih (m + 1) (by omega) h
theorem yx_moved {s b : Int32} (h : P (bz_mv s b 32)) : wpY_moved P (nn, ns, nt, td, sp, pr, yk, yx, yy, yw, yv, zk, zx, zy, zw, zv, od, wk, wx, wy, wz, ww, nu, va, bg, ag, lf, ou) s b := ⟨33, yx_mv 32 0 rfl h⟩
theorem yx_rg {a b : Int32} : ∀ n m, m + n = 32 → P (bz_rg a b 32) → wY_range_5 P a b nn ns nt td sp pr yk yx yy yw yv zk zx zy zw zv od wk wx wy wz ww nu va bg ag lf ou (n + 1) (bz_rg a b m) (nI m) := by
  intro n
  induction n with
  | zero =>
    intro m hm h
    have : m = 32 := by omega
    subst this
    exact br_t (by decide) h
  | succ n ih =>
    intro m hm h
    refine br_f (nI_ge (b := 32) (by omega) (by decide)) (br_c (fun z => nm_r (nI_1 m) ?_) (fun z => br_c (fun y => nm_r (nI_1 m) ?_) (fun y => nm_r (e' := bz_rg a b (m + 1)) ?_ (nm_r (nI_1 m) (ih (m + 1) (by omega) h)))))
    · have e : bz_rg a b (m + 1) = bz_rg a b m := by simp only [bz_rg]; rw [if_neg (fun q => absurd q.1 (Int32.not_le.mpr z))]
      rw [← e]; exact ih (m + 1) (by omega) h
    · have e : bz_rg a b (m + 1) = bz_rg a b m := by simp only [bz_rg]; rw [if_neg (fun q => absurd q.2 (Int32.not_le.mpr y))]
      rw [← e]; exact ih (m + 1) (by omega) h
    · simp only [bz_rg]; rw [if_pos ⟨Int32.not_lt.mp z, Int32.not_lt.mp y⟩]
theorem yx_range {a b : Int32} (h : P (bz_rg a b 32)) : wpY_range P (nn, ns, nt, td, sp, pr, yk, yx, yy, yw, yv, zk, zx, zy, zw, zv, od, wk, wx, wy, wz, ww, nu, va, bg, ag, lf, ou) a b := ⟨33, yx_rg 32 0 rfl h⟩
end
/-! workNumber and workSet -/
/-- what an expression of kind k (sets from 16 on) comes to -/
def yx_val (k : Nat) (x y : Int32) (nu va : Nat → Int32) (vl : Bool → Nat → Int32) : Int32 := if k = 0 ∨ k = 1 ∨ k = 16 ∨ k = 17 then ld_v k x nu va else bz_fo k (vl (ex_t1 k) x.toNatClampNeg) (vl (ex_t2 k) y.toNatClampNeg)
section
variable {nn ns nt td sp pr : Int32} {yk yx yy yw yv zk zx zy zw zv od wk wx wy wz ww nu va bg ag lf ou : Nat → Int32} {post : SY → Prop}
theorem yw_227 {e k : Nat} {x y r : Int32} (he : e < 40) (hk : k ≠ 10) (hk2 : k < 11) (h : post (nn, ns, nt, td, sp, pr, yk, yx, yy, yw, upd yv e r, zk, zx, zy, zw, zv, od, wk, wx, wy, wz, ww, nu, va, bg, ag, lf, ou)) : wY_workNumber_227 post (nI e) (nI k) x y r nn ns nt td sp pr yk yx yy yw yv zk zx zy zw zv od wk wx wy wz ww nu va bg ag lf ou :=
  br_f (kx_ne (b := 10) hk (by omega) (by omega)) ⟨vp_in_nI he (by decide), nm_r (e' := upd yv e r) (by rw [nI_clamp (by omega)]) h⟩
theorem yw_194 {e k : Nat} {x y r : Int32} (he : e < 40) (hk : k < 9) (h : post (nn, ns, nt, td, sp, pr, yk, yx, yy, yw, upd yv e r, zk, zx, zy, zw, zv, od, wk, wx, wy, wz, ww, nu, va, bg, ag, lf, ou)) : wY_workNumber_194 post (nI e) (nI k) x y r nn ns nt td sp pr yk yx yy yw yv zk zx zy zw zv od wk wx wy wz ww nu va bg ag lf ou :=
  br_f (kx_ne (b := 9) (by omega) (by omega) (by omega)) (yw_227 he (by omega) (by omega) h)
theorem yw_158 {e k : Nat} {x y r : Int32} (he : e < 40) (hk : k < 7) (h : post (nn, ns, nt, td, sp, pr, yk, yx, yy, yw, upd yv e r, zk, zx, zy, zw, zv, od, wk, wx, wy, wz, ww, nu, va, bg, ag, lf, ou)) : wY_workNumber_158 post (nI e) (nI k) x y r nn ns nt td sp pr yk yx yy yw yv zk zx zy zw zv od wk wx wy wz ww nu va bg ag lf ou :=
  br_f (kx_ne (b := 7) (by omega) (by omega) (by omega)) (br_f (kx_ne (b := 8) (by omega) (by omega) (by omega)) (yw_194 he (by omega) h))
theorem yw_129 {e k : Nat} {x y r : Int32} (he : e < 40) (hk : k < 6) (h : post (nn, ns, nt, td, sp, pr, yk, yx, yy, yw, upd yv e r, zk, zx, zy, zw, zv, od, wk, wx, wy, wz, ww, nu, va, bg, ag, lf, ou)) : wY_workNumber_129 post (nI e) (nI k) x y r nn ns nt td sp pr yk yx yy yw yv zk zx zy zw zv od wk wx wy wz ww nu va bg ag lf ou :=
  br_f (kx_ne (b := 6) (by omega) (by omega) (by omega)) (yw_158 he (by omega) h)
theorem yw_101 {e k : Nat} {x y r : Int32} (he : e < 40) (hk : k < 5) (h : post (nn, ns, nt, td, sp, pr, yk, yx, yy, yw, upd yv e r, zk, zx, zy, zw, zv, od, wk, wx, wy, wz, ww, nu, va, bg, ag, lf, ou)) : wY_workNumber_101 post (nI e) (nI k) x y r nn ns nt td sp pr yk yx yy yw yv zk zx zy zw zv od wk wx wy wz ww nu va bg ag lf ou :=
  br_f (kx_ne (b := 5) (by omega) (by omega) (by omega)) (yw_129 he (by omega) h)
theorem yw_38 {e k : Nat} {x y r : Int32} (he : e < 40) (hk : k < 2) (h : post (nn, ns, nt, td, sp, pr, yk, yx, yy, yw, upd yv e r, zk, zx, zy, zw, zv, od, wk, wx, wy, wz, ww, nu, va, bg, ag, lf, ou)) : wY_workNumber_38 post (nI e) (nI k) x y r nn ns nt td sp pr yk yx yy yw yv zk zx zy zw zv od wk wx wy wz ww nu va bg ag lf ou :=
  br_f (kx_ne (b := 2) (by omega) (by omega) (by omega)) (br_f (kx_ne (b := 3) (by omega) (by omega) (by omega)) (br_f (kx_ne (b := 4) (by omega) (by omega) (by omega)) (yw_101 he (by omega) h)))
end
end
section
/-! the reference works out an expression -/
section
variable {nn ns nt td sp pr : Int32} {yk yx yy yw yv zk zx zy zw zv od wk wx wy wz ww nu va bg ag lf ou : Nat → Int32} {post : SY → Prop}
theorem yv_2 {k a c : Nat} {nu va : Nat → Int32} {vl : Bool → Nat → Int32} (hk : ¬ (k = 0 ∨ k = 1 ∨ k = 16 ∨ k = 17)) (ha : a < 100) (hc : c < 100) : yx_val k (nI a) (nI c) nu va vl = bz_fo k (vl (ex_t1 k) a) (vl (ex_t2 k) c) := by
  unfold yx_val
  rw [if_neg hk, nI_clamp (by omega), nI_clamp (by omega)]
theorem yv_1 {k a : Nat} {y : Int32} {nu va : Nat → Int32} {vl : Bool → Nat → Int32} (hk : ¬ (k = 0 ∨ k = 1 ∨ k = 16 ∨ k = 17)) (ha : a < 100) : yx_val k (nI a) y nu va vl = bz_fo k (vl (ex_t1 k) a) (vl (ex_t2 k) y.toNatClampNeg) := by
  unfold yx_val
  rw [if_neg hk, nI_clamp (by omega)]
theorem yw_n2 {e k a c : Nat} {r : Int32} (he : e < 40) (hk : k = 2 ∨ k = 3 ∨ k = 4 ∨ k = 5 ∨ k = 6 ∨ k = 9 ∨ k = 10) (ha : a < ex_n 40 30 (ex_t1 k)) (hc : c < ex_n 40 30 (ex_t2 k)) (h : post (nn, ns, nt, td, sp, pr, yk, yx, yy, yw, upd yv e (bz_fo k (kx_sel zv yv (ex_t1 k) a) (kx_sel zv yv (ex_t2 k) c)), zk, zx, zy, zw, zv, od, wk, wx, wy, wz, ww, nu, va, bg, ag, lf, ou)) : wY_workNumber_38 post (nI e) (nI k) (nI a) (nI c) r nn ns nt td sp pr yk yx yy yw yv zk zx zy zw zv od wk wx wy wz ww nu va bg ag lf ou := by
  rcases hk with rfl | rfl | rfl | rfl | rfl | rfl | rfl
  · have ha : a < 40 := ha
    have hc : c < 40 := hc
    exact br_t rfl ⟨vp_in_nI ha (by decide), vp_in_nI hc (by decide), nm_r (e' := yv a + yv c) (by rw [nI_clamp (by omega), nI_clamp (by omega)]) (br_f (by decide) (br_f (by decide) (yw_101 he (by decide) h)))⟩
  · have ha : a < 40 := ha
    have hc : c < 40 := hc
    exact br_f (by decide) (br_t rfl ⟨vp_in_nI ha (by decide), vp_in_nI hc (by decide), nm_r (e' := yv a - yv c) (by rw [nI_clamp (by omega), nI_clamp (by omega)]) (br_f (by decide) (yw_101 he (by decide) h))⟩)
  · have ha : a < 40 := ha
    have hc : c < 40 := hc
    exact br_f (by decide) (br_f (by decide) (br_t rfl ⟨vp_in_nI ha (by decide), vp_in_nI hc (by decide), nm_r (e' := yv a * yv c) (by rw [nI_clamp (by omega), nI_clamp (by omega)]) (yw_101 he (by decide) h)⟩))
  · have ha : a < 40 := ha
    have hc : c < 40 := hc
    refine br_f (by decide) (br_f (by decide) (br_f (by decide) (br_t rfl ⟨vp_in_nI ha (by decide), vp_in_nI hc (by decide), ?_⟩)))
    rw [nI_clamp (show a < 2 ^ 31 by omega), nI_clamp (show c < 2 ^ 31 by omega)]
    have h' : post (nn, ns, nt, td, sp, pr, yk, yx, yy, yw, upd yv e (if yv a < yv c then 1 else 0), zk, zx, zy, zw, zv, od, wk, wx, wy, wz, ww, nu, va, bg, ag, lf, ou) := h
    refine br_c (fun z => yw_129 he (by decide) ?_) (fun z => yw_129 he (by decide) ?_)
    · rw [if_neg (Int32.not_lt.mpr z)] at h'; exact h'
    · rw [if_pos (Int32.not_le.mp z)] at h'; exact h'
  · have ha : a < 40 := ha
    have hc : c < 40 := hc
    refine br_f (by decide) (br_f (by decide) (br_f (by decide) (br_f (by decide) (br_t rfl ⟨vp_in_nI ha (by decide), vp_in_nI hc (by decide), ?_⟩))))
    rw [nI_clamp (show a < 2 ^ 31 by omega), nI_clamp (show c < 2 ^ 31 by omega)]
    have h' : post (nn, ns, nt, td, sp, pr, yk, yx, yy, yw, upd yv e (if yv a = yv c then 1 else 0), zk, zx, zy, zw, zv, od, wk, wx, wy, wz, ww, nu, va, bg, ag, lf, ou) := h
    refine br_c (fun z => yw_158 he (by decide) ?_) (fun z => yw_158 he (by decide) ?_)
    · rw [if_pos z] at h'; exact h'
    · rw [if_neg z] at h'; exact h'
  · have ha : a < 40 := ha
    have hc : c < 30 := hc
    refine br_f (by decide) (br_f (by decide) (br_f (by decide) (br_f (by decide) (br_f (by decide) (br_f (by decide) (br_f (by decide) (br_t rfl ⟨vp_in_nI hc (by decide), vp_in_nI ha (by decide), yx_has ?_⟩)))))))
    rw [nI_clamp (show a < 2 ^ 31 by omega), nI_clamp (show c < 2 ^ 31 by omega)]
    have h' : post (nn, ns, nt, td, sp, pr, yk, yx, yy, yw, upd yv e (if (0 ≤ yv a ∧ yv a ≤ 31) ∧ bt (zv c) (yv a).toNatClampNeg = true then 1 else 0), zk, zx, zy, zw, zv, od, wk, wx, wy, wz, ww, nu, va, bg, ag, lf, ou) := h
    by_cases z : (0 ≤ yv a ∧ yv a ≤ 31) ∧ bt (zv c) (yv a).toNatClampNeg = true
    · rw [if_pos z] at h' ⊢
      exact br_f (by decide) (yw_227 he (by decide) (by decide) h')
    · rw [if_neg z] at h' ⊢
      exact br_t rfl (yw_227 he (by decide) (by decide) h')
  · have ha : a < 30 := ha
    have hc : c < 30 := hc
    refine br_f (by decide) (br_f (by decide) (br_f (by decide) (br_f (by decide) (br_f (by decide) (br_f (by decide) (br_f (by decide) (br_f (by decide) (br_t rfl ⟨vp_in_nI ha (by decide), vp_in_nI hc (by decide), ?_⟩))))))))
    rw [nI_clamp (show a < 2 ^ 31 by omega), nI_clamp (show c < 2 ^ 31 by omega)]
    have h' : post (nn, ns, nt, td, sp, pr, yk, yx, yy, yw, upd yv e (if zv a &&& (zv c ^^^ (-1)) = 0 then 1 else 0), zk, zx, zy, zw, zv, od, wk, wx, wy, wz, ww, nu, va, bg, ag, lf, ou) := h
    refine br_c (fun z => ⟨vp_in_nI he (by decide), nm_r (e' := upd yv e 1) (by rw [nI_clamp (by omega)]) ?_⟩) (fun z => ⟨vp_in_nI he (by decide), nm_r (e' := upd yv e 0) (by rw [nI_clamp (by omega)]) ?_⟩)
    · rw [if_pos z] at h'; exact h'
    · rw [if_neg z] at h'; exact h'
theorem yw_n1 {e k a : Nat} {y y' r : Int32} (he : e < 40) (hk : k = 7 ∨ k = 8) (ha : a < 30) (h : post (nn, ns, nt, td, sp, pr, yk, yx, yy, yw, upd yv e (bz_fo k (kx_sel zv yv (ex_t1 k) a) y'), zk, zx, zy, zw, zv, od, wk, wx, wy, wz, ww, nu, va, bg, ag, lf, ou)) : wY_workNumber_38 post (nI e) (nI k) (nI a) y r nn ns nt td sp pr yk yx yy yw yv zk zx zy zw zv od wk wx wy wz ww nu va bg ag lf ou := by
  rcases hk with rfl | rfl
  · refine br_f (by decide) (br_f (by decide) (br_f (by decide) (br_f (by decide) (br_f (by decide) (br_t rfl ⟨vp_in_nI ha (by decide), yx_members ?_⟩)))))
    rw [nI_clamp (show a < 2 ^ 31 by omega)]
    exact br_f (by decide) (yw_194 he (by decide) h)
  · refine br_f (by decide) (br_f (by decide) (br_f (by decide) (br_f (by decide) (br_f (by decide) (br_f (by decide) (br_t rfl ⟨vp_in_nI ha (by decide), yx_smallest ?_⟩))))))
    rw [nI_clamp (show a < 2 ^ 31 by omega)]
    exact yw_194 he (by decide) h
/-- a number -/
theorem yw_num {e k : Nat} (he : e < 40) (hk : yk e = nI k) (hk11 : k < 11) (hv : k = 1 → ∃ v, v < 4 ∧ yx e = nI v) (h1 : cx_kd k → ∃ a, a < ex_n 40 30 (ex_t1 k) ∧ yx e = nI a) (h2 : cx_k2 k → ∃ c, c < ex_n 40 30 (ex_t2 k) ∧ yy e = nI c) (h : post (nn, ns, nt, td, sp, pr, yk, yx, yy, yw, upd yv e (yx_val k (yx e) (yy e) nu va (kx_sel zv yv)), zk, zx, zy, zw, zv, od, wk, wx, wy, wz, ww, nu, va, bg, ag, lf, ou)) : wpY_workNumber post (nn, ns, nt, td, sp, pr, yk, yx, yy, yw, yv, zk, zx, zy, zw, zv, od, wk, wx, wy, wz, ww, nu, va, bg, ag, lf, ou) (nI e) := by
  refine ⟨vp_in_nI he (by decide), nm_r (e' := nI k) (by rw [nI_clamp (by omega)]; exact hk) ⟨vp_in_nI he (by decide), nm_r (e' := yx e) (by rw [nI_clamp (by omega)]) ⟨vp_in_nI he (by decide), nm_r (e' := yy e) (by rw [nI_clamp (by omega)]) ?_⟩⟩⟩
  by_cases k1 : k = 1
  · obtain ⟨v, hv4, ev⟩ := hv k1
    have e1 : yx_val k (yx e) (yy e) nu va (kx_sel zv yv) = nu v := by
      unfold yx_val ld_v; rw [if_pos (by omega), if_pos k1, ev, nI_clamp (by omega)]
    rw [e1] at h
    subst k1
    rw [ev]
    exact br_t rfl ⟨vp_in_nI hv4 (by decide), nm_r (e' := nu v) (by rw [nI_clamp (by omega)]) (yw_38 he (by decide) h)⟩
  · refine br_f (kx_ne (b := 1) k1 (by omega) (by omega)) ?_
    by_cases k0 : k = 0
    · have e1 : yx_val k (yx e) (yy e) nu va (kx_sel zv yv) = yx e := by
        unfold yx_val ld_v; rw [if_pos (by omega), if_neg k1, if_neg (by omega)]
      rw [e1] at h
      exact yw_38 he (by omega) h
    · have hns : ¬ (k = 0 ∨ k = 1 ∨ k = 16 ∨ k = 17) := by omega
      have hkd : cx_kd k := by unfold cx_kd; omega
      obtain ⟨a, ha, ea⟩ := h1 hkd
      have ha' : a < 40 := (ex_nle (Nat.le_refl _) (Nat.le_refl _) ha).1
      rw [ea] at h ⊢
      by_cases k78 : k = 7 ∨ k = 8
      · rw [yv_1 hns (by omega)] at h
        refine yw_n1 he k78 ?_ h
        rcases k78 with rfl | rfl <;> exact ha
      · have hk2 : cx_k2 k := by unfold cx_k2; omega
        obtain ⟨c, hc, ec⟩ := h2 hk2
        have hc' : c < 40 := (ex_nle (Nat.le_refl _) (Nat.le_refl _) hc).1
        rw [ec] at h ⊢
        rw [yv_2 hns (by omega) (by omega)] at h
        exact yw_n2 he (by omega) ha hc h
/-! sets -/
theorem yt_161 {e k : Nat} {x y r : Int32} (he : e < 30) (hk : k < 8) (h : post (nn, ns, nt, td, sp, pr, yk, yx, yy, yw, yv, zk, zx, zy, zw, upd zv e r, od, wk, wx, wy, wz, ww, nu, va, bg, ag, lf, ou)) : wY_workSet_161 post (nI e) (nI k) x y r nn ns nt td sp pr yk yx yy yw yv zk zx zy zw zv od wk wx wy wz ww nu va bg ag lf ou :=
  br_f (kx_ne (b := 8) (by omega) (by omega) (by omega)) ⟨vp_in_nI he (by decide), nm_r (e' := upd zv e r) (by rw [nI_clamp (by omega)]) h⟩
theorem yt_136 {e k : Nat} {x y r : Int32} (he : e < 30) (hk : k < 7) (h : post (nn, ns, nt, td, sp, pr, yk, yx, yy, yw, yv, zk, zx, zy, zw, upd zv e r, od, wk, wx, wy, wz, ww, nu, va, bg, ag, lf, ou)) : wY_workSet_136 post (nI e) (nI k) x y r nn ns nt td sp pr yk yx yy yw yv zk zx zy zw zv od wk wx wy wz ww nu va bg ag lf ou :=
  br_f (kx_ne (b := 7) (by omega) (by omega) (by omega)) (yt_161 he (by omega) h)
theorem yt_117 {e k : Nat} {x y r : Int32} (he : e < 30) (hk : k < 6) (h : post (nn, ns, nt, td, sp, pr, yk, yx, yy, yw, yv, zk, zx, zy, zw, upd zv e r, od, wk, wx, wy, wz, ww, nu, va, bg, ag, lf, ou)) : wY_workSet_117 post (nI e) (nI k) x y r nn ns nt td sp pr yk yx yy yw yv zk zx zy zw zv od wk wx wy wz ww nu va bg ag lf ou :=
  br_f (kx_ne (b := 6) (by omega) (by omega) (by omega)) (yt_136 he (by omega) h)
theorem yt_102 {e k : Nat} {x y r : Int32} (he : e < 30) (hk : k < 5) (h : post (nn, ns, nt, td, sp, pr, yk, yx, yy, yw, yv, zk, zx, zy, zw, upd zv e r, od, wk, wx, wy, wz, ww, nu, va, bg, ag, lf, ou)) : wY_workSet_102 post (nI e) (nI k) x y r nn ns nt td sp pr yk yx yy yw yv zk zx zy zw zv od wk wx wy wz ww nu va bg ag lf ou :=
  br_f (kx_ne (b := 5) (by omega) (by omega) (by omega)) (yt_117 he (by omega) h)
theorem yt_37 {e k : Nat} {x y r : Int32} (he : e < 30) (hk : k < 2) (h : post (nn, ns, nt, td, sp, pr, yk, yx, yy, yw, yv, zk, zx, zy, zw, upd zv e r, od, wk, wx, wy, wz, ww, nu, va, bg, ag, lf, ou)) : wY_workSet_37 post (nI e) (nI k) x y r nn ns nt td sp pr yk yx yy yw yv zk zx zy zw zv od wk wx wy wz ww nu va bg ag lf ou :=
  br_f (kx_ne (b := 2) (by omega) (by omega) (by omega)) (br_f (kx_ne (b := 3) (by omega) (by omega) (by omega)) (br_f (kx_ne (b := 4) (by omega) (by omega) (by omega)) (yt_102 he (by omega) h)))
theorem yt_n2 {e k a c : Nat} {r : Int32} (he : e < 30) (hk : k = 2 ∨ k = 3 ∨ k = 4 ∨ k = 7 ∨ k = 8) (ha : a < ex_n 40 30 (ex_t1 (16 + k))) (hc : c < ex_n 40 30 (ex_t2 (16 + k))) (h : post (nn, ns, nt, td, sp, pr, yk, yx, yy, yw, yv, zk, zx, zy, zw, upd zv e (bz_fo (16 + k) (kx_sel zv yv (ex_t1 (16 + k)) a) (kx_sel zv yv (ex_t2 (16 + k)) c)), od, wk, wx, wy, wz, ww, nu, va, bg, ag, lf, ou)) : wY_workSet_37 post (nI e) (nI k) (nI a) (nI c) r nn ns nt td sp pr yk yx yy yw yv zk zx zy zw zv od wk wx wy wz ww nu va bg ag lf ou := by
  rcases hk with rfl | rfl | rfl | rfl | rfl
  · have ha : a < 30 := ha
    have hc : c < 30 := hc
    exact br_t rfl ⟨vp_in_nI ha (by decide), vp_in_nI hc (by decide), nm_r (e' := zv a ||| zv c) (by rw [nI_clamp (by omega), nI_clamp (by omega)]) (br_f (by decide) (br_f (by decide) (yt_102 he (by decide) h)))⟩
  · have ha : a < 30 := ha
    have hc : c < 30 := hc
    exact br_f (by decide) (br_t rfl ⟨vp_in_nI ha (by decide), vp_in_nI hc (by decide), nm_r (e' := zv a &&& zv c) (by rw [nI_clamp (by omega), nI_clamp (by omega)]) (br_f (by decide) (yt_102 he (by decide) h))⟩)
  · have ha : a < 30 := ha
    have hc : c < 30 := hc
    exact br_f (by decide) (br_f (by decide) (br_t rfl ⟨vp_in_nI ha (by decide), vp_in_nI hc (by decide), nm_r (e' := zv a &&& (zv c ^^^ (-1))) (by rw [nI_clamp (by omega), nI_clamp (by omega)]) (yt_102 he (by decide) h)⟩))
  · have ha : a < 30 := ha
    have hc : c < 40 := hc
    refine br_f (by decide) (br_f (by decide) (br_f (by decide) (br_f (by decide) (br_f (by decide) (br_t rfl ⟨vp_in_nI ha (by decide), vp_in_nI hc (by decide), yx_moved ?_⟩)))))
    rw [nI_clamp (show a < 2 ^ 31 by omega), nI_clamp (show c < 2 ^ 31 by omega)]
    exact yt_161 he (by decide) h
  · have ha : a < 40 := ha
    have hc : c < 40 := hc
    refine br_f (by decide) (br_f (by decide) (br_f (by decide) (br_f (by decide) (br_f (by decide) (br_f (by decide) (br_t rfl ⟨vp_in_nI ha (by decide), vp_in_nI hc (by decide), yx_range ?_⟩))))))
    rw [nI_clamp (show a < 2 ^ 31 by omega), nI_clamp (show c < 2 ^ 31 by omega)]
    exact ⟨vp_in_nI he (by decide), nm_r (e' := upd zv e (bz_rg (yv a) (yv c) 32)) (by rw [nI_clamp (by omega)]) h⟩
theorem yt_n1 {e k a : Nat} {y y' r : Int32} (he : e < 30) (hk : k = 5 ∨ k = 6) (ha : a < ex_n 40 30 (ex_t1 (16 + k))) (h : post (nn, ns, nt, td, sp, pr, yk, yx, yy, yw, yv, zk, zx, zy, zw, upd zv e (bz_fo (16 + k) (kx_sel zv yv (ex_t1 (16 + k)) a) y'), od, wk, wx, wy, wz, ww, nu, va, bg, ag, lf, ou)) : wY_workSet_37 post (nI e) (nI k) (nI a) y r nn ns nt td sp pr yk yx yy yw yv zk zx zy zw zv od wk wx wy wz ww nu va bg ag lf ou := by
  rcases hk with rfl | rfl
  · have ha : a < 30 := ha
    exact br_f (by decide) (br_f (by decide) (br_f (by decide) (br_t rfl ⟨vp_in_nI ha (by decide), nm_r (e' := zv a ^^^ (-1)) (by rw [nI_clamp (by omega)]) (yt_117 he (by decide) h)⟩)))
  · have ha : a < 40 := ha
    exact br_f (by decide) (br_f (by decide) (br_f (by decide) (br_f (by decide) (br_t rfl ⟨vp_in_nI ha (by decide), nm_r (e' := (1 : Int32) <<< ((yv a &&& 31) &&& 31)) (by rw [nI_clamp (by omega)]) (yt_136 he (by decide) h)⟩))))
/-- a set -/
theorem yw_set {e k : Nat} (he : e < 30) (hk : zk e = nI k) (hk9 : k < 9) (hv : k = 0 → ∃ v, v < 4 ∧ zx e = nI v) (h1 : cx_kd (16 + k) → ∃ a, a < ex_n 40 30 (ex_t1 (16 + k)) ∧ zx e = nI a) (h2 : cx_k2 (16 + k) → ∃ c, c < ex_n 40 30 (ex_t2 (16 + k)) ∧ zy e = nI c) (h : post (nn, ns, nt, td, sp, pr, yk, yx, yy, yw, yv, zk, zx, zy, zw, upd zv e (yx_val (16 + k) (zx e) (zy e) nu va (kx_sel zv yv)), od, wk, wx, wy, wz, ww, nu, va, bg, ag, lf, ou)) : wpY_workSet post (nn, ns, nt, td, sp, pr, yk, yx, yy, yw, yv, zk, zx, zy, zw, zv, od, wk, wx, wy, wz, ww, nu, va, bg, ag, lf, ou) (nI e) := by
  refine ⟨vp_in_nI he (by decide), nm_r (e' := nI k) (by rw [nI_clamp (by omega)]; exact hk) ⟨vp_in_nI he (by decide), nm_r (e' := zx e) (by rw [nI_clamp (by omega)]) ⟨vp_in_nI he (by decide), nm_r (e' := zy e) (by rw [nI_clamp (by omega)]) ?_⟩⟩⟩
  by_cases k0 : k = 0
  · obtain ⟨v, hv4, ev⟩ := hv k0
    have e1 : yx_val (16 + k) (zx e) (zy e) nu va (kx_sel zv yv) = va v := by
      unfold yx_val ld_v; rw [if_pos (by omega), if_neg (by omega), if_pos (by omega), ev, nI_clamp (by omega)]
    rw [e1] at h
    subst k0
    rw [ev]
    exact br_t rfl ⟨vp_in_nI hv4 (by decide), nm_r (e' := va v) (by rw [nI_clamp (by omega)]) (yt_37 he (by decide) h)⟩
  · refine br_f (kx_ne (b := 0) k0 (by omega) (by omega)) ?_
    by_cases k1 : k = 1
    · have e1 : yx_val (16 + k) (zx e) (zy e) nu va (kx_sel zv yv) = zx e := by
        unfold yx_val ld_v; rw [if_pos (by omega), if_neg (by omega), if_neg (by omega)]
      rw [e1] at h
      exact yt_37 he (by omega) h
    · have hns : ¬ (16 + k = 0 ∨ 16 + k = 1 ∨ 16 + k = 16 ∨ 16 + k = 17) := by omega
      have hkd : cx_kd (16 + k) := by unfold cx_kd; omega
      obtain ⟨a, ha, ea⟩ := h1 hkd
      have ha' : a < 40 := (ex_nle (Nat.le_refl _) (Nat.le_refl _) ha).1
      rw [ea] at h ⊢
      by_cases k56 : k = 5 ∨ k = 6
      · rw [yv_1 hns (by omega)] at h
        exact yt_n1 he k56 ha h
      · have hk2 : cx_k2 (16 + k) := by unfold cx_k2; omega
        obtain ⟨c, hc, ec⟩ := h2 hk2
        have hc' : c < 40 := (ex_nle (Nat.le_refl _) (Nat.le_refl _) hc).1
        rw [ec] at h ⊢
        rw [yv_2 hns (by omega) (by omega)] at h
        exact yt_n2 he (by omega) ha hc h
end
end
section
/-! the reference works out all expressions, in the order in which they were made -/
def ex_eq (kd o1 o2 : Bool → Nat → Int32) (nu va : Nat → Int32) (vl : Bool → Nat → Int32) (b : Bool) (i : Nat) : Prop := ∀ k, k < 32 → kd b i = nI k → (cx_sim k → vl b i = ld_v k (o1 b i) nu va) ∧ (cx_kd k → vl b i = bz_fo k (vl (ex_t1 k) (o1 b i).toNatClampNeg) (vl (ex_t2 k) (o2 b i).toNatClampNeg))
def ty_code (b : Bool) (i : Nat) : Int32 := nI (if b = true then 100 + i else i)
def ty_tab (kd o1 o2 : Bool → Nat → Int32) (N S : Nat) (yk yx yy zk zx zy : Nat → Int32) : Prop :=
  (∀ i, i < N → ∃ k, k < 11 ∧ kd false i = nI k ∧ yk i = nI k ∧ yx i = o1 false i ∧ (cx_k2 k → yy i = o2 false i)) ∧
  (∀ i, i < S → ∃ k, k < 9 ∧ kd true i = nI (16 + k) ∧ zk i = nI k ∧ zx i = o1 true i ∧ (cx_k2 (16 + k) → zy i = o2 true i))
def ty_ord (kd o1 o2 : Bool → Nat → Int32) (N S : Nat) (od : Nat → Int32) (ps : Bool → Nat → Nat) : Prop :=
  (∀ b i, i < ex_n N S b → ps b i < N + S ∧ od (ps b i) = ty_code b i ∧ ∀ k, k < 32 → kd b i = nI k → (cx_kd k → ps (ex_t1 k) (o1 b i).toNatClampNeg < ps b i) ∧ (cx_k2 k → ps (ex_t2 k) (o2 b i).toNatClampNeg < ps b i)) ∧
  (∀ m, m < N + S → ∃ b i, i < ex_n N S b ∧ ps b i = m)
theorem ty_inj {b b' : Bool} {i i' : Nat} (h : i < 40) (h' : i' < 40) (e : ty_code b i = ty_code b' i') : b = b' ∧ i = i' := by
  unfold ty_code at e
  cases b <;> cases b' <;> simp at e
  · rw [nI_eq (by omega) (by omega)] at e; exact ⟨rfl, e⟩
  · rw [nI_eq (by omega) (by omega)] at e; omega
  · rw [nI_eq (by omega) (by omega)] at e; omega
  · rw [nI_eq (by omega) (by omega)] at e; exact ⟨rfl, by omega⟩
theorem cx_cases {k : Nat} (h : cx_kd k) : cx_k1 k ∨ cx_k2 k := by
  unfold cx_kd at h; unfold cx_k1 cx_k2; omega
theorem ex_keep {kd o1 o2 : Bool → Nat → Int32} {nu va : Nat → Int32} {vl vl' : Bool → Nat → Int32} {ps : Bool → Nat → Nat} {m i : Nat} {b : Bool} (hne : ∀ b' i', ps b' i' < m → vl' b' i' = vl b' i') (hp : ps b i < m) (ho : ∀ k, k < 32 → kd b i = nI k → (cx_kd k → ps (ex_t1 k) (o1 b i).toNatClampNeg < ps b i) ∧ (cx_k2 k → ps (ex_t2 k) (o2 b i).toNatClampNeg < ps b i)) (h : ex_eq kd o1 o2 nu va vl b i) : ex_eq kd o1 o2 nu va vl' b i := by
  intro k hk e
  obtain ⟨h1, h2⟩ := h k hk e
  obtain ⟨p1, p2⟩ := ho k hk e
  refine ⟨fun hs => by rw [hne _ _ hp]; exact h1 hs, fun hd => ?_⟩
  rw [hne _ _ hp, h2 hd, hne _ _ (Nat.lt_trans (p1 hd) hp)]
  rcases cx_cases hd with z | z
  · exact cx_k1v z _ _ _
  · rw [hne _ _ (Nat.lt_trans (p2 z) hp)]
theorem ex_new {kd o1 o2 : Bool → Nat → Int32} {nu va : Nat → Int32} {vl vl' : Bool → Nat → Int32} {ps : Bool → Nat → Nat} {m i k : Nat} {b : Bool} {y : Int32} (hne : ∀ b' i', ps b' i' < m → vl' b' i' = vl b' i') (hp : ps b i = m) (ho : ∀ k, k < 32 → kd b i = nI k → (cx_kd k → ps (ex_t1 k) (o1 b i).toNatClampNeg < ps b i) ∧ (cx_k2 k → ps (ex_t2 k) (o2 b i).toNatClampNeg < ps b i)) (hk : k < 32) (e : kd b i = nI k) (hy : cx_k2 k → y = o2 b i) (hv : vl' b i = yx_val k (o1 b i) y nu va vl) : ex_eq kd o1 o2 nu va vl' b i := by
  intro k' hk' e'
  have ek : k' = k := by rw [e, nI_eq (by omega) (by omega)] at e'; exact e'.symm
  subst ek
  obtain ⟨p1, p2⟩ := ho k' hk e
  rw [hv]
  unfold yx_val
  refine ⟨fun hs => by unfold cx_sim at hs; rw [if_pos hs], fun hd => ?_⟩
  have hns := cx_kdn hd
  unfold cx_sim at hns
  rw [if_neg hns, hne _ _ (by rw [← hp]; exact p1 hd)]
  rcases cx_cases hd with z | z
  · exact cx_k1v z _ _ _
  · rw [hne _ _ (by rw [← hp]; exact p2 z), hy z]
section
variable {nn ns nt td sp pr : Int32} {yk yx yy yw yv zk zx zy zw zv od wk wx wy wz ww nu va bg ag lf ou : Nat → Int32} {kd o1 o2 : Bool → Nat → Int32} {wt : Bool → Nat → Nat} {N S : Nat} {ps : Bool → Nat → Nat}
theorem yo_main (hwf : tx_wf kd o1 o2 wt N S) (htab : ty_tab kd o1 o2 N S yk yx yy zk zx zy) (hord : ty_ord kd o1 o2 N S od ps) (hnn : nn = nI N) (hns : ns = nI S) : ∀ n m yv zv, m + n = N + S → (∀ b i, i < ex_n N S b → ps b i < m → ex_eq kd o1 o2 nu va (kx_sel zv yv) b i) →
    ∃ yv' zv', (∀ post : SY → Prop, post (nn, ns, nt, td, sp, pr, yk, yx, yy, yw, yv', zk, zx, zy, zw, zv', od, wk, wx, wy, wz, ww, nu, va, bg, ag, lf, ou) → wY_workOut_2 post (n + 1) (nI m) nn ns nt td sp pr yk yx yy yw yv zk zx zy zw zv od wk wx wy wz ww nu va bg ag lf ou) ∧ ex_val kd o1 o2 N S nu va (kx_sel zv' yv') := by
  have hN := hwf.1
  have hS := hwf.2.1
  subst hnn hns
  intro n
  induction n with
  | zero =>
    intro m yv zv hm hI
    refine ⟨yv, zv, fun post hp => ?_, fun b i hi => hI b i hi (by have := (hord.1 b i hi).1; omega)⟩
    refine br_t ?_ hp
    rw [nI_add]; exact nI_le (by omega) (by omega)
  | succ n ih =>
    intro m yv zv hm hI
    obtain ⟨b, i, hi, hps⟩ := hord.2 m (by omega)
    obtain ⟨hps1, hod, hop⟩ := hord.1 b i hi
    rw [hps] at hod
    obtain ⟨hi40, hib⟩ := ex_nle hN hS hi
    obtain ⟨kk, hkk, hkk32, -, -, hcase⟩ := hwf.2.2 b i hi
    -- what the operands are
    have hop1 : cx_kd kk → ∃ a, a < ex_n 40 30 (ex_t1 kk) ∧ o1 b i = nI a := by
      intro hd
      have mono : ∀ t a, a < ex_n N S t → a < ex_n 40 30 t := by
        intro t a ha
        obtain ⟨z1, z2⟩ := ex_nle hN hS ha
        unfold ex_n; cases t
        · simpa using z1
        · simpa using z2 rfl
      rcases hcase with ⟨z, -⟩ | ⟨-, a, ha, ea, -⟩ | ⟨-, a, c, ha, hc, ea, -⟩
      · exact absurd z (cx_kdn hd)
      · exact ⟨a, mono _ a ha, ea⟩
      · exact ⟨a, mono _ a ha, ea⟩
    have hop2 : cx_k2 kk → ∃ c, c < ex_n 40 30 (ex_t2 kk) ∧ o2 b i = nI c := by
      intro hd
      have mono : ∀ t a, a < ex_n N S t → a < ex_n 40 30 t := by
        intro t a ha
        obtain ⟨z1, z2⟩ := ex_nle hN hS ha
        unfold ex_n; cases t
        · simpa using z1
        · simpa using z2 rfl
      rcases hcase with ⟨z, -⟩ | ⟨z, -⟩ | ⟨-, a, c, ha, hc, ea, ec, -⟩
      · exact absurd z (cx_kdn (cx_k2d hd))
      · unfold cx_k1 at z; unfold cx_k2 at hd; omega
      · exact ⟨c, mono _ c hc, ec⟩
    have hvv : kk = 1 ∨ kk = 16 → ∃ v, v < 4 ∧ o1 b i = nI v := fun z => tx_vv hwf b i hi (z.elim (fun z => Or.inl (by rw [hkk, z])) (fun z => Or.inr (by rw [hkk, z])))
    have hge : ¬ (nI N + nI S) ≤ nI m := by rw [nI_add]; exact nI_ge (by omega) (by omega)
    have key : ∀ yv2 zv2, (∀ b' i', (b' = b ∧ i' = i) ∨ kx_sel zv2 yv2 b' i' = kx_sel zv yv b' i') → ∀ y, (cx_k2 kk → y = o2 b i) → kx_sel zv2 yv2 b i = yx_val kk (o1 b i) y nu va (kx_sel zv yv) → ∀ b' i', i' < ex_n N S b' → ps b' i' < m + 1 → ex_eq kd o1 o2 nu va (kx_sel zv2 yv2) b' i' := by
      intro yv2 zv2 hdiff y hy hval b' i' hi' hlt
      have hne : ∀ b' i', ps b' i' < m → kx_sel zv2 yv2 b' i' = kx_sel zv yv b' i' := by
        intro b'' i'' hl
        rcases hdiff b'' i'' with ⟨z1, z2⟩ | z
        · rw [z1, z2, hps] at hl; omega
        · exact z
      by_cases hm' : ps b' i' = m
      · have hc := (hord.1 b' i' hi').2.1
        rw [hm', hod] at hc
        obtain ⟨q1, q2⟩ := ty_inj hi40 (ex_nle hN hS hi').1 hc
        subst q1 q2
        exact ex_new hne hps hop hkk32 hkk hy hval
      · exact ex_keep hne (by omega) (hord.1 b' i' hi').2.2 (hI b' i' hi' (by omega))
    cases b
    · -- a number
      obtain ⟨k, hk11, ek, eyk, eyx, eyy⟩ := htab.1 i hi
      have : kk = k := by rw [hkk, nI_eq (by omega) (by omega)] at ek; exact ek
      subst this
      have hod' : od m = nI i := hod
      obtain ⟨yv', zv', R, hex⟩ := ih (m + 1) (upd yv i (yx_val kk (yx i) (yy i) nu va (kx_sel zv yv))) zv (by omega) (key _ _ (fun b' i' => by
        cases b'
        · by_cases z : i' = i
          · exact Or.inl ⟨rfl, z⟩
          · exact Or.inr (pk_un z)
        · exact Or.inr rfl) (yy i) eyy (by rw [← eyx]; exact pk_us))
      refine ⟨yv', zv', fun post hp => ?_, hex⟩
      refine br_f hge ⟨vp_in_nI (by omega) (by decide), ?_⟩
      rw [nI_clamp (show m < 2 ^ 31 by omega), hod']
      refine br_f (nI_ge (b := 100) (by omega) (by decide)) ⟨vp_in_nI (by omega) (by decide), ?_⟩
      refine yw_num hi40 eyk hk11 (fun z => by rw [eyx]; exact hvv (Or.inl z)) (fun z => by rw [eyx]; exact hop1 z) (fun z => by rw [eyy z]; exact hop2 z) ?_
      exact nm_r (nI_1 m) (R post hp)
    · obtain ⟨k, hk9, ek, eyk, eyx, eyy⟩ := htab.2 i hi
      have : kk = 16 + k := by rw [hkk, nI_eq (by omega) (by omega)] at ek; exact ek
      subst this
      have hod' : od m = nI (100 + i) := hod
      obtain ⟨yv', zv', R, hex⟩ := ih (m + 1) yv (upd zv i (yx_val (16 + k) (zx i) (zy i) nu va (kx_sel zv yv))) (by omega) (key _ _ (fun b' i' => by
        cases b'
        · exact Or.inr rfl
        · by_cases z : i' = i
          · exact Or.inl ⟨rfl, z⟩
          · exact Or.inr (pk_un z)) (zy i) eyy (by rw [← eyx]; exact pk_us))
      refine ⟨yv', zv', fun post hp => ?_, hex⟩
      refine br_f hge ⟨vp_in_nI (by omega) (by decide), ?_⟩
      rw [nI_clamp (show m < 2 ^ 31 by omega), hod']
      refine br_t (nI_le (a := 100) (by omega) (by omega)) ⟨vp_in_nI (by omega) (by decide), ?_⟩
      have e100 : nI (100 + i) - 100 = nI i := by
        rw [show (100 : Int32) = nI 100 from rfl, pk_sub (by omega)]; exact congrArg nI (by omega)
      rw [e100]
      refine yw_set (hib rfl) eyk hk9 (fun z => by rw [eyx]; exact hvv (Or.inr (by omega))) (fun z => by rw [eyx]; exact hop1 z) (fun z => by rw [eyy z]; exact hop2 z) ?_
      exact nm_r (nI_1 m) (R post hp)
theorem yo_work (hwf : tx_wf kd o1 o2 wt N S) (htab : ty_tab kd o1 o2 N S yk yx yy zk zx zy) (hord : ty_ord kd o1 o2 N S od ps) (hnn : nn = nI N) (hns : ns = nI S) : ∃ yv' zv', (∀ post : SY → Prop, post (nn, ns, nt, td, sp, pr, yk, yx, yy, yw, yv', zk, zx, zy, zw, zv', od, wk, wx, wy, wz, ww, nu, va, bg, ag, lf, ou) → wpY_workOut post (nn, ns, nt, td, sp, pr, yk, yx, yy, yw, yv, zk, zx, zy, zw, zv, od, wk, wx, wy, wz, ww, nu, va, bg, ag, lf, ou)) ∧ ex_val kd o1 o2 N S nu va (kx_sel zv' yv') := by
  obtain ⟨yv', zv', h, hex⟩ := yo_main (nt := nt) (td := td) (sp := sp) (pr := pr) (yw := yw) (zw := zw) (wk := wk) (wx := wx) (wy := wy) (wz := wz) (ww := ww) (nu := nu) (va := va) (bg := bg) (ag := ag) (lf := lf) (ou := ou) hwf htab hord hnn hns (N + S) 0 yv zv (by omega) (fun b i _ h => by omega)
  exact ⟨yv', zv', fun post hp => ⟨_, h post hp⟩, hex⟩
end
end
section
/-! the reference's run: its states, and one move by the kind of statement -/
def yx_R (post : Int32 → SY → Prop) (h : Int32) (v : SY) : Prop := match v with
  | (nn, ns, nt, td, sp, pr, yk, yx, yy, yw, yv, zk, zx, zy, zw, zv, od, wk, wx, wy, wz, ww, nu, va, bg, ag, lf, ou) => ∃ n, wY_run_32 post n h nn ns nt td sp pr yk yx yy yw yv zk zx zy zw zv od wk wx wy wz ww nu va bg ag lf ou
def yx_r (h : Int32) (v : SY) (h' : Int32) (v' : SY) : Prop := ∀ post, yx_R post h' v' → yx_R post h v
theorem yx_rf (h : Int32) (v : SY) : yx_r h v h v := fun _ k => k
theorem yx_tr {h1 h2 h3 : Int32} {v1 v2 v3 : SY} (a : yx_r h1 v1 h2 v2) (b : yx_r h2 v2 h3 v3) : yx_r h1 v1 h3 v3 := fun post hp => a post (b post hp)
theorem yx_n0 : vp_nar .boolean 0 = 0 := rfl
theorem yx_n1 : vp_nar .boolean 1 = 1 := rfl
section
variable {nn ns nt td sp pr : Int32} {yk yx yy yw yv zk zx zy zw zv od wk wx wy wz ww nu va bg ag lf ou : Nat → Int32}
theorem yx_mv1 {h : Nat} (hh : h < 100) {h' : Int32} {v' : SY} (k : ∀ post : Int32 → SY → Prop, post h' v' → wpY_move post (nn, ns, nt, 0, sp, pr, yk, yx, yy, yw, yv, zk, zx, zy, zw, zv, od, wk, wx, wy, wz, ww, nu, va, bg, ag, lf, ou) (nI (h + 1))) : yx_r (nI (h + 1)) (nn, ns, nt, 0, sp, pr, yk, yx, yy, yw, yv, zk, zx, zy, zw, zv, od, wk, wx, wy, wz, ww, nu, va, bg, ag, lf, ou) h' v' := by
  intro post hp
  obtain ⟨b1, b2, b3, b4, b5, b6, b7, b8, b9, b10, b11, b12, b13, b14, b15, b16, b17, b18, b19, b20, b21, b22, b23, b24, b25, b26, b27, b28⟩ := v'
  obtain ⟨n, hn⟩ := hp
  exact ⟨n + 1, br_f (nI_nle (by omega) (by omega)) (br_t rfl (k _ hn))⟩
variable {post : Int32 → SY → Prop} {h s t : Nat}
theorem yx_beg {j : Nat} {x : Int32} (hj : j < 30) (k : post (nI (j + 1)) (nn, ns, nt, td, sp, pr, yk, yx, yy, yw, yv, zk, zx, zy, zw, zv, od, wk, wx, wy, wz, ww, nu, va, upd bg j x, upd ag j 0, lf, ou)) : wpY_begin post (nn, ns, nt, td, sp, pr, yk, yx, yy, yw, yv, zk, zx, zy, zw, zv, od, wk, wx, wy, wz, ww, nu, va, bg, ag, lf, ou) (nI j) x :=
  ⟨vp_in_nI hj (by decide), nm_r (e' := upd bg j x) (by rw [nI_clamp (by omega)]) ⟨vp_in_nI hj (by decide), nm_r (e' := upd ag j 0) (by rw [nI_clamp (by omega), yx_n0]) (by rw [nI_1]; exact k)⟩⟩
theorem yx_stT (hsp : sp = nI 400) (k : post 0 (nn, ns, nt, 1, sp, pr, yk, yx, yy, yw, yv, zk, zx, zy, zw, zv, od, wk, wx, wy, wz, ww, nu, va, bg, ag, lf, ou)) : wpY_step post (nn, ns, nt, td, sp, pr, yk, yx, yy, yw, yv, zk, zx, zy, zw, zv, od, wk, wx, wy, wz, ww, nu, va, bg, ag, lf, ou) := by
  subst hsp; exact br_t rfl k
theorem yx_stF (ht : t < 400) (hsp : sp = nI t) (k : post 1 (nn, ns, nt, td, nI (t + 1), pr, yk, yx, yy, yw, yv, zk, zx, zy, zw, zv, od, wk, wx, wy, wz, ww, nu, va, bg, ag, lf, ou)) : wpY_step post (nn, ns, nt, td, sp, pr, yk, yx, yy, yw, yv, zk, zx, zy, zw, zv, od, wk, wx, wy, wz, ww, nu, va, bg, ag, lf, ou) := by
  subst hsp; exact br_f (kx_ne (b := 400) (by omega) (by omega) (by omega)) (nm_r (nI_1 t) k)
/-- tired -/
theorem yx_117T {k : Int32} (hsp : sp = nI 400) (hp : post (nI (h + 1)) (nn, ns, nt, 1, sp, pr, yk, yx, yy, yw, yv, zk, zx, zy, zw, zv, od, wk, wx, wy, wz, ww, nu, va, bg, ag, lf, ou)) : wY_move_117 post (nI (h + 1)) (nI h) (nI s) k nn ns nt td sp pr yk yx yy yw yv zk zx zy zw zv od wk wx wy wz ww nu va bg ag lf ou := by
  unfold wY_move_117
  exact yx_stT hsp (br_t rfl hp)
/-- not the second half of PUT or PRINT: the statement ends, or a branch begins -/
theorem yx_291n {x : Int32} (hx : x < 0) (hp : post (nI h) (nn, ns, nt, td, sp, pr, yk, yx, yy, yw, yv, zk, zx, zy, zw, zv, od, wk, wx, wy, wz, ww, nu, va, bg, ag, lf, ou)) : wY_move_291 post (nI h) x nn ns nt td sp pr yk yx yy yw yv zk zx zy zw zv od wk wx wy wz ww nu va bg ag lf ou := br_f (Int32.not_le.mpr hx) hp
theorem yx_291b {x : Int32} (hh : h < 30) (hx : 0 ≤ x) (hp : post (nI (h + 1)) (nn, ns, nt, td, sp, pr, yk, yx, yy, yw, yv, zk, zx, zy, zw, zv, od, wk, wx, wy, wz, ww, nu, va, upd bg h x, upd ag h 0, lf, ou)) : wY_move_291 post (nI h) x nn ns nt td sp pr yk yx yy yw yv zk zx zy zw zv od wk wx wy wz ww nu va bg ag lf ou := br_t hx (yx_beg hh hp)
theorem yx_252n {k : Nat} (hk : k < 8) (hk3 : k ≠ 3) (hp : post (nI h) (nn, ns, nt, td, sp, pr, yk, yx, yy, yw, yv, zk, zx, zy, zw, zv, od, wk, wx, wy, wz, ww, nu, va, bg, ag, lf, ou)) : wY_move_252 post (nI h) (nI s) (nI k) nn ns nt td sp pr yk yx yy yw yv zk zx zy zw zv od wk wx wy wz ww nu va bg ag lf ou :=
  br_f (kx_ne (b := 3) hk3 (by omega) (by omega)) (yx_291n (by decide) hp)
/-- PUT_NUMBER -/
theorem yx_117_0 {v e : Nat} (ht : t < 400) (hsp : sp = nI t) (hs : s < 40) (hv : v < 4) (he : e < 40) (ex : wx s = nI v) (ey : wy s = nI e) (hp : post (nI h) (nn, ns, nt, td, nI (t + 1), pr, yk, yx, yy, yw, yv, zk, zx, zy, zw, zv, od, wk, wx, wy, wz, ww, upd nu v (yv e), va, bg, ag, lf, ou)) : wY_move_117 post (nI (h + 1)) (nI h) (nI s) (nI 0) nn ns nt td sp pr yk yx yy yw yv zk zx zy zw zv od wk wx wy wz ww nu va bg ag lf ou := by
  unfold wY_move_117
  refine yx_stF ht hsp (br_f (by decide) (br_f (by decide) (br_f (by decide) (br_t rfl ⟨vp_in_nI hs (by decide), vp_in_nI hs (by decide), ?_⟩))))
  rw [nI_clamp (show s < 2 ^ 31 by omega), ex, ey]
  refine ⟨vp_in_nI he (by decide), vp_in_nI hv (by decide), nm_r (e' := upd nu v (yv e)) (by rw [nI_clamp (show v < 2 ^ 31 by omega), nI_clamp (show e < 2 ^ 31 by omega)]) ?_⟩
  exact br_f (by decide) (br_f (by decide) (yx_252n (by decide) (by decide) hp))
/-- PUT_SET -/
theorem yx_117_1 {v e : Nat} (ht : t < 400) (hsp : sp = nI t) (hs : s < 40) (hv : v < 4) (he : e < 30) (ex : wx s = nI v) (ey : wy s = nI e) (hp : post (nI h) (nn, ns, nt, td, nI (t + 1), pr, yk, yx, yy, yw, yv, zk, zx, zy, zw, zv, od, wk, wx, wy, wz, ww, nu, upd va v (zv e), bg, ag, lf, ou)) : wY_move_117 post (nI (h + 1)) (nI h) (nI s) (nI 1) nn ns nt td sp pr yk yx yy yw yv zk zx zy zw zv od wk wx wy wz ww nu va bg ag lf ou := by
  unfold wY_move_117
  refine yx_stF ht hsp (br_f (by decide) (br_f (by decide) (br_f (by decide) (br_f (by decide) (br_t rfl ⟨vp_in_nI hs (by decide), vp_in_nI hs (by decide), ?_⟩)))))
  rw [nI_clamp (show s < 2 ^ 31 by omega), ex, ey]
  refine ⟨vp_in_nI he (by decide), vp_in_nI hv (by decide), nm_r (e' := upd va v (zv e)) (by rw [nI_clamp (show v < 2 ^ 31 by omega), nI_clamp (show e < 2 ^ 31 by omega)]) ?_⟩
  exact br_f (by decide) (yx_252n (by decide) (by decide) hp)
/-- PRINT -/
theorem yx_117_6 {e q : Nat} (ht : t < 400) (hsp : sp = nI t) (hs : s < 40) (he : e < 40) (hq : q < 1000) (ex : wx s = nI e) (hpr : pr = nI q) (hp : post (nI h) (nn, ns, nt, td, nI (t + 1), nI (q + 1), yk, yx, yy, yw, yv, zk, zx, zy, zw, zv, od, wk, wx, wy, wz, ww, nu, va, bg, ag, lf, mx_pl q ou (yv e))) : wY_move_117 post (nI (h + 1)) (nI h) (nI s) (nI 6) nn ns nt td sp pr yk yx yy yw yv zk zx zy zw zv od wk wx wy wz ww nu va bg ag lf ou := by
  subst hpr
  unfold wY_move_117
  refine yx_stF ht hsp (br_f (by decide) (br_f (by decide) (br_f (by decide) (br_f (by decide) (br_f (by decide) (br_t rfl ⟨vp_in_nI hs (by decide), ?_⟩))))))
  rw [nI_clamp (show s < 2 ^ 31 by omega), ex]
  refine ⟨vp_in_nI he (by decide), ?_⟩
  unfold mx_pl at hp
  refine pk_le 30 q (fun hle => ?_) (fun hlt => ?_)
  · rw [if_neg (by omega)] at hp
    exact nm_r (nI_1 q) (yx_252n (by decide) (by decide) hp)
  · rw [if_pos hlt] at hp
    exact ⟨vp_in_nI hlt (by decide), nm_r (e' := upd ou q (yv e)) (by rw [nI_clamp (show q < 2 ^ 31 by omega), nI_clamp (show e < 2 ^ 31 by omega)]) (nm_r (nI_1 q) (yx_252n (by decide) (by decide) hp))⟩
/-- IF -/
theorem yx_117_3 {e : Nat} (ht : t < 400) (hsp : sp = nI t) (hs : s < 40) (he : e < 40) (ex : wx s = nI e) (h0 : yv e = 0 → wY_move_291 post (nI h) (wz s) nn ns nt td (nI (t + 1)) pr yk yx yy yw yv zk zx zy zw zv od wk wx wy wz ww nu va bg ag lf ou) (h1 : ¬ yv e = 0 → wY_move_291 post (nI h) (wy s) nn ns nt td (nI (t + 1)) pr yk yx yy yw yv zk zx zy zw zv od wk wx wy wz ww nu va bg ag lf ou) : wY_move_117 post (nI (h + 1)) (nI h) (nI s) (nI 3) nn ns nt td sp pr yk yx yy yw yv zk zx zy zw zv od wk wx wy wz ww nu va bg ag lf ou := by
  unfold wY_move_117
  refine yx_stF ht hsp (br_f (by decide) (br_f (by decide) (br_f (by decide) (br_f (by decide) (br_f (by decide) (br_f (by decide) (br_t rfl ⟨vp_in_nI hs (by decide), ?_⟩)))))))
  rw [nI_clamp (show s < 2 ^ 31 by omega), ex]
  refine ⟨vp_in_nI he (by decide), ?_⟩
  rw [nI_clamp (show e < 2 ^ 31 by omega)]
  exact br_c (fun z => ⟨vp_in_nI hs (by decide), h0 z⟩) (fun z => ⟨vp_in_nI hs (by decide), h1 z⟩)
/-- WHILE -/
theorem yx_117_4 {e : Nat} (hh : h + 1 < 30) (ht : t < 400) (hsp : sp = nI t) (hs : s < 40) (he : e < 40) (ex : wx s = nI e) (h0 : yv e = 0 → post (nI h) (nn, ns, nt, td, nI (t + 1), pr, yk, yx, yy, yw, yv, zk, zx, zy, zw, zv, od, wk, wx, wy, wz, ww, nu, va, bg, ag, lf, ou)) (h1 : ¬ yv e = 0 → post (nI (h + 1 + 1)) (nn, ns, nt, td, nI (t + 1), pr, yk, yx, yy, yw, yv, zk, zx, zy, zw, zv, od, wk, wx, wy, wz, ww, nu, va, upd bg (h + 1) (wy s), upd ag (h + 1) 0, lf, ou)) : wY_move_117 post (nI (h + 1)) (nI h) (nI s) (nI 4) nn ns nt td sp pr yk yx yy yw yv zk zx zy zw zv od wk wx wy wz ww nu va bg ag lf ou := by
  unfold wY_move_117
  refine yx_stF ht hsp (br_f (by decide) (br_f (by decide) (br_t rfl ⟨vp_in_nI hs (by decide), ?_⟩)))
  rw [nI_clamp (show s < 2 ^ 31 by omega), ex]
  refine ⟨vp_in_nI he (by decide), ?_⟩
  rw [nI_clamp (show e < 2 ^ 31 by omega)]
  exact br_c (fun z => h0 z) (fun z => ⟨vp_in_nI hs (by decide), yx_beg hh (h1 z)⟩)
/-- EACH -/
theorem yx_117_5 {v : Nat} (hh : h + 1 < 30) (ht : t < 400) (hsp : sp = nI t) (hs : s < 40) (hv : v < 4) (ex : wx s = nI v) (h0 : lf h = 0 → post (nI h) (nn, ns, nt, td, nI (t + 1), pr, yk, yx, yy, yw, yv, zk, zx, zy, zw, zv, od, wk, wx, wy, wz, ww, nu, va, bg, ag, lf, ou)) (h1 : ¬ lf h = 0 → post (nI (h + 1 + 1)) (nn, ns, nt, td, nI (t + 1), pr, yk, yx, yy, yw, yv, zk, zx, zy, zw, zv, od, wk, wx, wy, wz, ww, upd nu v (nI (bz_lo (lf h))), va, upd bg (h + 1) (wz s), upd ag (h + 1) 0, upd lf h (lf h &&& (lf h - 1)), ou)) : wY_move_117 post (nI (h + 1)) (nI h) (nI s) (nI 5) nn ns nt td sp pr yk yx yy yw yv zk zx zy zw zv od wk wx wy wz ww nu va bg ag lf ou := by
  unfold wY_move_117
  refine yx_stF ht hsp (br_f (by decide) (br_t rfl ?_))
  unfold wpY_next
  have e1 := nI_pred h
  show vp_in (nI (h + 1) - 1) 30 ∧ _
  rw [e1, nI_clamp (show h < 2 ^ 31 by omega)]
  refine ⟨vp_in_nI (by omega) (by decide), yx_smallest ?_⟩
  have hle := bz_lo_le (lf h)
  refine br_c (fun z => ?_) (fun z => ?_)
  · rw [show (32 : Int32) = nI 32 from rfl, nI_eq (by omega) (by decide)] at z
    exact h0 (bz_lo_32.mp z)
  · have hz : ¬ lf h = 0 := fun y => z (by rw [bz_lo_32.mpr y]; rfl)
    obtain ⟨s1, s2, s3⟩ : bz_lo (lf h) < 32 ∧ bt (lf h) (bz_lo (lf h)) = true ∧ ∀ j, j < bz_lo (lf h) → bt (lf h) j = false := by
      rcases bz_lo_spec (lf h) with y | y
      · exact absurd y.2 hz
      · exact y
    have hp := h1 hz
    rw [bz_low s1 s2 s3] at hp
    refine ⟨vp_in_nI (by omega) (by decide), vp_in_nI (by omega) (by decide), nm_e ⟨vp_in_nI hs (by decide), ?_⟩⟩
    rw [nI_clamp (show s < 2 ^ 31 by omega), ex]
    refine ⟨vp_in_nI hv (by decide), nm_r (e' := upd nu v (nI (bz_lo (lf h)))) (by rw [nI_clamp (show v < 2 ^ 31 by omega)]) ⟨vp_in_nI hs (by decide), ?_⟩⟩
    exact yx_beg hh hp
/-! moves -/
theorem ym_7 (hh : h < 30) (hs : s < 40) (hb : bg h = nI s) (hk : wk s = nI 7) : yx_r (nI (h + 1)) (nn, ns, nt, 0, sp, pr, yk, yx, yy, yw, yv, zk, zx, zy, zw, zv, od, wk, wx, wy, wz, ww, nu, va, bg, ag, lf, ou) (nI h) (nn, ns, nt, 0, sp, pr, yk, yx, yy, yw, yv, zk, zx, zy, zw, zv, od, wk, wx, wy, wz, ww, nu, va, bg, ag, lf, ou) := by
  refine yx_mv1 (by omega) (fun post hp => ?_)
  refine nm_r (nI_pred h) ⟨vp_in_nI hh (by decide), nm_r (e' := nI s) (by rw [nI_clamp (by omega)]; exact hb) ⟨vp_in_nI hs (by decide), nm_r (e' := nI 7) (by rw [nI_clamp (by omega)]; exact hk) (br_t rfl hp)⟩⟩
theorem ym_2a (hh : h + 1 < 30) (hs : s < 40) (hb : bg h = nI s) (hk : wk s = nI 2) (ha : ag h = 0) : yx_r (nI (h + 1)) (nn, ns, nt, 0, sp, pr, yk, yx, yy, yw, yv, zk, zx, zy, zw, zv, od, wk, wx, wy, wz, ww, nu, va, bg, ag, lf, ou) (nI (h + 1 + 1)) (nn, ns, nt, 0, sp, pr, yk, yx, yy, yw, yv, zk, zx, zy, zw, zv, od, wk, wx, wy, wz, ww, nu, va, upd bg (h + 1) (wx s), upd (upd ag h 1) (h + 1) 0, lf, ou) := by
  refine yx_mv1 (by omega) (fun post hp => ?_)
  refine nm_r (nI_pred h) ⟨vp_in_nI (by omega) (by decide), nm_r (e' := nI s) (by rw [nI_clamp (by omega)]; exact hb) ⟨vp_in_nI hs (by decide), nm_r (e' := nI 2) (by rw [nI_clamp (by omega)]; exact hk) (br_f (by decide) (br_t rfl ⟨vp_in_nI (by omega) (by decide), ?_⟩))⟩⟩
  rw [nI_clamp (show h < 2 ^ 31 by omega), nI_clamp (show s < 2 ^ 31 by omega)]
  exact br_t ha ⟨vp_in_nI (by omega) (by decide), nm_r (e' := upd ag h 1) (by rw [yx_n1]) ⟨vp_in_nI hs (by decide), yx_beg hh hp⟩⟩
theorem ym_2b (hh : h < 30) (hs : s < 40) (hb : bg h = nI s) (hk : wk s = nI 2) (ha : ¬ ag h = 0) : yx_r (nI (h + 1)) (nn, ns, nt, 0, sp, pr, yk, yx, yy, yw, yv, zk, zx, zy, zw, zv, od, wk, wx, wy, wz, ww, nu, va, bg, ag, lf, ou) (nI (h + 1)) (nn, ns, nt, 0, sp, pr, yk, yx, yy, yw, yv, zk, zx, zy, zw, zv, od, wk, wx, wy, wz, ww, nu, va, upd bg h (wy s), upd ag h 0, lf, ou) := by
  refine yx_mv1 (by omega) (fun post hp => ?_)
  refine nm_r (nI_pred h) ⟨vp_in_nI (by omega) (by decide), nm_r (e' := nI s) (by rw [nI_clamp (by omega)]; exact hb) ⟨vp_in_nI hs (by decide), nm_r (e' := nI 2) (by rw [nI_clamp (by omega)]; exact hk) (br_f (by decide) (br_t rfl ⟨vp_in_nI (by omega) (by decide), ?_⟩))⟩⟩
  rw [nI_clamp (show h < 2 ^ 31 by omega), nI_clamp (show s < 2 ^ 31 by omega)]
  exact br_f ha ⟨vp_in_nI hs (by decide), yx_beg hh hp⟩
/-- a move of another kind but EACH, behind workOut -/
theorem ym_w {yv' zv' : Nat → Int32} {k : Nat} (hh : h < 30) (hs : s < 40) (hb : bg h = nI s) (hk : wk s = nI k) (hk8 : k < 8) (h7 : k ≠ 7) (h2 : k ≠ 2) (h5 : k ≠ 5) (hW : ∀ post : SY → Prop, post (nn, ns, nt, 0, sp, pr, yk, yx, yy, yw, yv', zk, zx, zy, zw, zv', od, wk, wx, wy, wz, ww, nu, va, bg, ag, lf, ou) → wpY_workOut post (nn, ns, nt, 0, sp, pr, yk, yx, yy, yw, yv, zk, zx, zy, zw, zv, od, wk, wx, wy, wz, ww, nu, va, bg, ag, lf, ou)) (hp : wY_move_117 post (nI (h + 1)) (nI h) (nI s) (nI k) nn ns nt 0 sp pr yk yx yy yw yv' zk zx zy zw zv' od wk wx wy wz ww nu va bg ag lf ou) : wpY_move post (nn, ns, nt, 0, sp, pr, yk, yx, yy, yw, yv, zk, zx, zy, zw, zv, od, wk, wx, wy, wz, ww, nu, va, bg, ag, lf, ou) (nI (h + 1)) := by
  refine nm_r (nI_pred h) ⟨vp_in_nI (by omega) (by decide), nm_r (e' := nI s) (by rw [nI_clamp (by omega)]; exact hb) ⟨vp_in_nI hs (by decide), nm_r (e' := nI k) (by rw [nI_clamp (by omega)]; exact hk) (br_f (kx_ne (b := 7) h7 (by omega) (by omega)) (br_f (kx_ne (b := 2) h2 (by omega) (by omega)) (hW _ ?_)))⟩⟩
  exact br_f (kx_ne (b := 5) h5 (by omega) (by omega)) hp
theorem ym_w5a {yv' zv' : Nat → Int32} {e : Nat} (hh : h < 30) (hs : s < 40) (hb : bg h = nI s) (hk : wk s = nI 5) (ha : ag h = 0) (he : e < 30) (ey : wy s = nI e) (hW : ∀ post : SY → Prop, post (nn, ns, nt, 0, sp, pr, yk, yx, yy, yw, yv', zk, zx, zy, zw, zv', od, wk, wx, wy, wz, ww, nu, va, bg, ag, lf, ou) → wpY_workOut post (nn, ns, nt, 0, sp, pr, yk, yx, yy, yw, yv, zk, zx, zy, zw, zv, od, wk, wx, wy, wz, ww, nu, va, bg, ag, lf, ou)) (hp : wY_move_117 post (nI (h + 1)) (nI h) (nI s) (nI 5) nn ns nt 0 sp pr yk yx yy yw yv' zk zx zy zw zv' od wk wx wy wz ww nu va bg (upd ag h 1) (upd lf h (zv' e)) ou) : wpY_move post (nn, ns, nt, 0, sp, pr, yk, yx, yy, yw, yv, zk, zx, zy, zw, zv, od, wk, wx, wy, wz, ww, nu, va, bg, ag, lf, ou) (nI (h + 1)) := by
  refine nm_r (nI_pred h) ⟨vp_in_nI (by omega) (by decide), nm_r (e' := nI s) (by rw [nI_clamp (by omega)]; exact hb) ⟨vp_in_nI hs (by decide), nm_r (e' := nI 5) (by rw [nI_clamp (by omega)]; exact hk) (br_f (by decide) (br_f (by decide) (hW _ ?_)))⟩⟩
  refine br_t rfl ⟨vp_in_nI (by omega) (by decide), ?_⟩
  rw [nI_clamp (show h < 2 ^ 31 by omega), nI_clamp (show s < 2 ^ 31 by omega), ey]
  exact br_t ha ⟨vp_in_nI hs (by decide), vp_in_nI he (by decide), vp_in_nI (by omega) (by decide), nm_r (e' := upd lf h (zv' e)) (by rw [nI_clamp (show e < 2 ^ 31 by omega)]) ⟨vp_in_nI (by omega) (by decide), nm_r (e' := upd ag h 1) (by rw [yx_n1]) hp⟩⟩
theorem ym_w5b {yv' zv' : Nat → Int32} (hh : h < 30) (hs : s < 40) (hb : bg h = nI s) (hk : wk s = nI 5) (ha : ¬ ag h = 0) (hW : ∀ post : SY → Prop, post (nn, ns, nt, 0, sp, pr, yk, yx, yy, yw, yv', zk, zx, zy, zw, zv', od, wk, wx, wy, wz, ww, nu, va, bg, ag, lf, ou) → wpY_workOut post (nn, ns, nt, 0, sp, pr, yk, yx, yy, yw, yv, zk, zx, zy, zw, zv, od, wk, wx, wy, wz, ww, nu, va, bg, ag, lf, ou)) (hp : wY_move_117 post (nI (h + 1)) (nI h) (nI s) (nI 5) nn ns nt 0 sp pr yk yx yy yw yv' zk zx zy zw zv' od wk wx wy wz ww nu va bg ag lf ou) : wpY_move post (nn, ns, nt, 0, sp, pr, yk, yx, yy, yw, yv, zk, zx, zy, zw, zv, od, wk, wx, wy, wz, ww, nu, va, bg, ag, lf, ou) (nI (h + 1)) := by
  refine nm_r (nI_pred h) ⟨vp_in_nI (by omega) (by decide), nm_r (e' := nI s) (by rw [nI_clamp (by omega)]; exact hb) ⟨vp_in_nI hs (by decide), nm_r (e' := nI 5) (by rw [nI_clamp (by omega)]; exact hk) (br_f (by decide) (br_f (by decide) (hW _ ?_)))⟩⟩
  refine br_t rfl ⟨vp_in_nI (by omega) (by decide), ?_⟩
  rw [nI_clamp (show h < 2 ^ 31 by omega)]
  exact br_f ha hp
/-- tired: the run ends -/
theorem yx_end1 {P : Int32 → SY → Prop} (hh : h < 100) (hp : P 1 (nn, ns, nt, 1, sp, pr, yk, yx, yy, yw, yv, zk, zx, zy, zw, zv, od, wk, wx, wy, wz, ww, nu, va, bg, ag, lf, ou)) : yx_R P (nI (h + 1)) (nn, ns, nt, 1, sp, pr, yk, yx, yy, yw, yv, zk, zx, zy, zw, zv, od, wk, wx, wy, wz, ww, nu, va, bg, ag, lf, ou) :=
  ⟨1, br_f (nI_nle (by omega) (by omega)) (br_f (by decide) (br_f (by decide) hp))⟩
theorem yx_end0 {P : Int32 → SY → Prop} (hp : P 0 (nn, ns, nt, 0, sp, pr, yk, yx, yy, yw, yv, zk, zx, zy, zw, zv, od, wk, wx, wy, wz, ww, nu, va, bg, ag, lf, ou)) : yx_R P (nI 0) (nn, ns, nt, 0, sp, pr, yk, yx, yy, yw, yv, zk, zx, zy, zw, zv, od, wk, wx, wy, wz, ww, nu, va, bg, ag, lf, ou) :=
  ⟨1, br_t (by decide) (br_t rfl hp)⟩
end
end
section
/-! the reference's moves over bundled states -/
def yx_c (v : SY) (td sp pr : Int32) (yv zv nu va bg ag lf ou : Nat → Int32) : SY := match v with
  | (nn, ns, nt, _, _, _, yk, yx, yy, yw, _, zk, zx, zy, zw, _, od, wk, wx, wy, wz, ww, _, _, _, _, _, _) => (nn, ns, nt, td, sp, pr, yk, yx, yy, yw, yv, zk, zx, zy, zw, zv, od, wk, wx, wy, wz, ww, nu, va, bg, ag, lf, ou)
def ty_ok (v : SY) (kd o1 o2 : Bool → Nat → Int32) (wt : Bool → Nat → Nat) (N S : Nat) (ps : Bool → Nat → Nat) : Prop := match v with
  | (nn, ns, nt, td, sp, pr, yk, yx, yy, yw, yv, zk, zx, zy, zw, zv, od, wk, wx, wy, wz, ww, nu, va, bg, ag, lf, ou) => tx_wf kd o1 o2 wt N S ∧ ty_tab kd o1 o2 N S yk yx yy zk zx zy ∧ ty_ord kd o1 o2 N S od ps ∧ nn = nI N ∧ ns = nI S
def ty_wk (v : SY) : Nat → Int32 := match v with | (nn, ns, nt, td, sp, pr, yk, yx, yy, yw, yv, zk, zx, zy, zw, zv, od, wk, wx, wy, wz, ww, nu, va, bg, ag, lf, ou) => wk
def ty_wx (v : SY) : Nat → Int32 := match v with | (nn, ns, nt, td, sp, pr, yk, yx, yy, yw, yv, zk, zx, zy, zw, zv, od, wk, wx, wy, wz, ww, nu, va, bg, ag, lf, ou) => wx
def ty_wy (v : SY) : Nat → Int32 := match v with | (nn, ns, nt, td, sp, pr, yk, yx, yy, yw, yv, zk, zx, zy, zw, zv, od, wk, wx, wy, wz, ww, nu, va, bg, ag, lf, ou) => wy
def ty_wz (v : SY) : Nat → Int32 := match v with | (nn, ns, nt, td, sp, pr, yk, yx, yy, yw, yv, zk, zx, zy, zw, zv, od, wk, wx, wy, wz, ww, nu, va, bg, ag, lf, ou) => wz
section
variable {v : SY} {kd o1 o2 : Bool → Nat → Int32} {wt : Bool → Nat → Nat} {N S : Nat} {ps : Bool → Nat → Nat} {pr : Int32} {yv zv nu va bg ag lf ou : Nat → Int32} {h s t : Nat}
theorem jy_7 (hh : h < 30) (hs : s < 40) (hb : bg h = nI s) (hk : ty_wk v s = nI 7) : yx_r (nI (h + 1)) (yx_c v 0 (nI t) pr yv zv nu va bg ag lf ou) (nI h) (yx_c v 0 (nI t) pr yv zv nu va bg ag lf ou) := by
  obtain ⟨nn, ns, nt, _, _, _, yk, yx, yy, yw, _, zk, zx, zy, zw, _, od, wk, wx, wy, wz, ww, _, _, _, _, _, _⟩ := v
  exact ym_7 hh hs hb hk
theorem jy_2a (hh : h + 1 < 30) (hs : s < 40) (hb : bg h = nI s) (hk : ty_wk v s = nI 2) (ha : ag h = 0) : yx_r (nI (h + 1)) (yx_c v 0 (nI t) pr yv zv nu va bg ag lf ou) (nI (h + 1 + 1)) (yx_c v 0 (nI t) pr yv zv nu va (upd bg (h + 1) (ty_wx v s)) (upd (upd ag h 1) (h + 1) 0) lf ou) := by
  obtain ⟨nn, ns, nt, _, _, _, yk, yx, yy, yw, _, zk, zx, zy, zw, _, od, wk, wx, wy, wz, ww, _, _, _, _, _, _⟩ := v
  exact ym_2a hh hs hb hk ha
theorem jy_2b (hh : h < 30) (hs : s < 40) (hb : bg h = nI s) (hk : ty_wk v s = nI 2) (ha : ¬ ag h = 0) : yx_r (nI (h + 1)) (yx_c v 0 (nI t) pr yv zv nu va bg ag lf ou) (nI (h + 1)) (yx_c v 0 (nI t) pr yv zv nu va (upd bg h (ty_wy v s)) (upd ag h 0) lf ou) := by
  obtain ⟨nn, ns, nt, _, _, _, yk, yx, yy, yw, _, zk, zx, zy, zw, _, od, wk, wx, wy, wz, ww, _, _, _, _, _, _⟩ := v
  exact ym_2b hh hs hb hk ha
theorem jy_0 {x e : Nat} (hok : ty_ok v kd o1 o2 wt N S ps) (hh : h < 30) (hs : s < 40) (hb : bg h = nI s) (hk : ty_wk v s = nI 0) (hx : x < 4) (ex : ty_wx v s = nI x) (he : e < 40) (ey : ty_wy v s = nI e) (ht : t < 400) : ∃ yv' zv', ex_val kd o1 o2 N S nu va (kx_sel zv' yv') ∧ yx_r (nI (h + 1)) (yx_c v 0 (nI t) pr yv zv nu va bg ag lf ou) (nI h) (yx_c v 0 (nI (t + 1)) pr yv' zv' (upd nu x (yv' e)) va bg ag lf ou) := by
  obtain ⟨nn, ns, nt, _, _, _, yk, yx, yy, yw, _, zk, zx, zy, zw, _, od, wk, wx, wy, wz, ww, _, _, _, _, _, _⟩ := v
  obtain ⟨hwf, htab, hord, hnn, hns⟩ := hok
  obtain ⟨yv', zv', hW, hex⟩ := yo_work (nt := nt) (td := 0) (sp := nI t) (pr := pr) (yw := yw) (zw := zw) (wk := wk) (wx := wx) (wy := wy) (wz := wz) (ww := ww) (nu := nu) (va := va) (yv := yv) (zv := zv) (bg := bg) (ag := ag) (lf := lf) (ou := ou) hwf htab hord hnn hns
  exact ⟨yv', zv', hex, yx_mv1 (by omega) (fun post hp => ym_w hh hs hb hk (by decide) (by decide) (by decide) (by decide) hW (yx_117_0 ht rfl hs hx he ex ey hp))⟩
theorem jy_1 {x e : Nat} (hok : ty_ok v kd o1 o2 wt N S ps) (hh : h < 30) (hs : s < 40) (hb : bg h = nI s) (hk : ty_wk v s = nI 1) (hx : x < 4) (ex : ty_wx v s = nI x) (he : e < 30) (ey : ty_wy v s = nI e) (ht : t < 400) : ∃ yv' zv', ex_val kd o1 o2 N S nu va (kx_sel zv' yv') ∧ yx_r (nI (h + 1)) (yx_c v 0 (nI t) pr yv zv nu va bg ag lf ou) (nI h) (yx_c v 0 (nI (t + 1)) pr yv' zv' nu (upd va x (zv' e)) bg ag lf ou) := by
  obtain ⟨nn, ns, nt, _, _, _, yk, yx, yy, yw, _, zk, zx, zy, zw, _, od, wk, wx, wy, wz, ww, _, _, _, _, _, _⟩ := v
  obtain ⟨hwf, htab, hord, hnn, hns⟩ := hok
  obtain ⟨yv', zv', hW, hex⟩ := yo_work (nt := nt) (td := 0) (sp := nI t) (pr := pr) (yw := yw) (zw := zw) (wk := wk) (wx := wx) (wy := wy) (wz := wz) (ww := ww) (nu := nu) (va := va) (yv := yv) (zv := zv) (bg := bg) (ag := ag) (lf := lf) (ou := ou) hwf htab hord hnn hns
  exact ⟨yv', zv', hex, yx_mv1 (by omega) (fun post hp => ym_w hh hs hb hk (by decide) (by decide) (by decide) (by decide) hW (yx_117_1 ht rfl hs hx he ex ey hp))⟩
theorem jy_6 {e q : Nat} (hok : ty_ok v kd o1 o2 wt N S ps) (hh : h < 30) (hs : s < 40) (hb : bg h = nI s) (hk : ty_wk v s = nI 6) (he : e < 40) (ex : ty_wx v s = nI e) (hq : q < 1000) (hpr : pr = nI q) (ht : t < 400) : ∃ yv' zv', ex_val kd o1 o2 N S nu va (kx_sel zv' yv') ∧ yx_r (nI (h + 1)) (yx_c v 0 (nI t) pr yv zv nu va bg ag lf ou) (nI h) (yx_c v 0 (nI (t + 1)) (nI (q + 1)) yv' zv' nu va bg ag lf (mx_pl q ou (yv' e))) := by
  obtain ⟨nn, ns, nt, _, _, _, yk, yx, yy, yw, _, zk, zx, zy, zw, _, od, wk, wx, wy, wz, ww, _, _, _, _, _, _⟩ := v
  obtain ⟨hwf, htab, hord, hnn, hns⟩ := hok
  obtain ⟨yv', zv', hW, hex⟩ := yo_work (nt := nt) (td := 0) (sp := nI t) (pr := pr) (yw := yw) (zw := zw) (wk := wk) (wx := wx) (wy := wy) (wz := wz) (ww := ww) (nu := nu) (va := va) (yv := yv) (zv := zv) (bg := bg) (ag := ag) (lf := lf) (ou := ou) hwf htab hord hnn hns
  exact ⟨yv', zv', hex, yx_mv1 (by omega) (fun post hp => ym_w hh hs hb hk (by decide) (by decide) (by decide) (by decide) hW (yx_117_6 ht rfl hs he hq ex hpr hp))⟩
theorem jy_3 {e : Nat} (hok : ty_ok v kd o1 o2 wt N S ps) (hh : h < 30) (hs : s < 40) (hb : bg h = nI s) (hk : ty_wk v s = nI 3) (he : e < 40) (ex : ty_wx v s = nI e) (hy : 0 ≤ ty_wy v s) (ht : t < 400) : ∃ yv' zv', ex_val kd o1 o2 N S nu va (kx_sel zv' yv') ∧
    (yv' e = 0 → ty_wz v s < 0 → yx_r (nI (h + 1)) (yx_c v 0 (nI t) pr yv zv nu va bg ag lf ou) (nI h) (yx_c v 0 (nI (t + 1)) pr yv' zv' nu va bg ag lf ou)) ∧
    (yv' e = 0 → 0 ≤ ty_wz v s → yx_r (nI (h + 1)) (yx_c v 0 (nI t) pr yv zv nu va bg ag lf ou) (nI (h + 1)) (yx_c v 0 (nI (t + 1)) pr yv' zv' nu va (upd bg h (ty_wz v s)) (upd ag h 0) lf ou)) ∧
    (¬ yv' e = 0 → yx_r (nI (h + 1)) (yx_c v 0 (nI t) pr yv zv nu va bg ag lf ou) (nI (h + 1)) (yx_c v 0 (nI (t + 1)) pr yv' zv' nu va (upd bg h (ty_wy v s)) (upd ag h 0) lf ou)) := by
  obtain ⟨nn, ns, nt, _, _, _, yk, yx, yy, yw, _, zk, zx, zy, zw, _, od, wk, wx, wy, wz, ww, _, _, _, _, _, _⟩ := v
  obtain ⟨hwf, htab, hord, hnn, hns⟩ := hok
  obtain ⟨yv', zv', hW, hex⟩ := yo_work (nt := nt) (td := 0) (sp := nI t) (pr := pr) (yw := yw) (zw := zw) (wk := wk) (wx := wx) (wy := wy) (wz := wz) (ww := ww) (nu := nu) (va := va) (yv := yv) (zv := zv) (bg := bg) (ag := ag) (lf := lf) (ou := ou) hwf htab hord hnn hns
  refine ⟨yv', zv', hex, fun z zz => ?_, fun z zz => ?_, fun z => ?_⟩
  · exact yx_mv1 (by omega) (fun post hp => ym_w hh hs hb hk (by decide) (by decide) (by decide) (by decide) hW (yx_117_3 ht rfl hs he ex (fun _ => yx_291n zz hp) (fun q => absurd z q)))
  · exact yx_mv1 (by omega) (fun post hp => ym_w hh hs hb hk (by decide) (by decide) (by decide) (by decide) hW (yx_117_3 ht rfl hs he ex (fun _ => yx_291b hh zz hp) (fun q => absurd z q)))
  · exact yx_mv1 (by omega) (fun post hp => ym_w hh hs hb hk (by decide) (by decide) (by decide) (by decide) hW (yx_117_3 ht rfl hs he ex (fun q => absurd q z) (fun _ => yx_291b hh hy hp)))
theorem jy_4 {e : Nat} (hok : ty_ok v kd o1 o2 wt N S ps) (hh : h + 1 < 30) (hs : s < 40) (hb : bg h = nI s) (hk : ty_wk v s = nI 4) (he : e < 40) (ex : ty_wx v s = nI e) (ht : t < 400) : ∃ yv' zv', ex_val kd o1 o2 N S nu va (kx_sel zv' yv') ∧
    (yv' e = 0 → yx_r (nI (h + 1)) (yx_c v 0 (nI t) pr yv zv nu va bg ag lf ou) (nI h) (yx_c v 0 (nI (t + 1)) pr yv' zv' nu va bg ag lf ou)) ∧
    (¬ yv' e = 0 → yx_r (nI (h + 1)) (yx_c v 0 (nI t) pr yv zv nu va bg ag lf ou) (nI (h + 1 + 1)) (yx_c v 0 (nI (t + 1)) pr yv' zv' nu va (upd bg (h + 1) (ty_wy v s)) (upd ag (h + 1) 0) lf ou)) := by
  obtain ⟨nn, ns, nt, _, _, _, yk, yx, yy, yw, _, zk, zx, zy, zw, _, od, wk, wx, wy, wz, ww, _, _, _, _, _, _⟩ := v
  obtain ⟨hwf, htab, hord, hnn, hns⟩ := hok
  obtain ⟨yv', zv', hW, hex⟩ := yo_work (nt := nt) (td := 0) (sp := nI t) (pr := pr) (yw := yw) (zw := zw) (wk := wk) (wx := wx) (wy := wy) (wz := wz) (ww := ww) (nu := nu) (va := va) (yv := yv) (zv := zv) (bg := bg) (ag := ag) (lf := lf) (ou := ou) hwf htab hord hnn hns
  refine ⟨yv', zv', hex, fun z => ?_, fun z => ?_⟩
  · exact yx_mv1 (by omega) (fun post hp => ym_w (by omega) hs hb hk (by decide) (by decide) (by decide) (by decide) hW (yx_117_4 hh ht rfl hs he ex (fun _ => hp) (fun q => absurd z q)))
  · exact yx_mv1 (by omega) (fun post hp => ym_w (by omega) hs hb hk (by decide) (by decide) (by decide) (by decide) hW (yx_117_4 hh ht rfl hs he ex (fun q => absurd q z) (fun _ => hp)))
/-- EACH, for the first time: the set is worked out -/
theorem jy_5a {x e : Nat} (hok : ty_ok v kd o1 o2 wt N S ps) (hh : h + 1 < 30) (hs : s < 40) (hb : bg h = nI s) (hk : ty_wk v s = nI 5) (ha : ag h = 0) (hx : x < 4) (ex : ty_wx v s = nI x) (he : e < 30) (ey : ty_wy v s = nI e) : ∃ yv' zv', ex_val kd o1 o2 N S nu va (kx_sel zv' yv') ∧
    (t < 400 → zv' e = 0 → yx_r (nI (h + 1)) (yx_c v 0 (nI t) pr yv zv nu va bg ag lf ou) (nI h) (yx_c v 0 (nI (t + 1)) pr yv' zv' nu va bg (upd ag h 1) (upd lf h (zv' e)) ou)) ∧
    (t < 400 → ¬ zv' e = 0 → yx_r (nI (h + 1)) (yx_c v 0 (nI t) pr yv zv nu va bg ag lf ou) (nI (h + 1 + 1)) (yx_c v 0 (nI (t + 1)) pr yv' zv' (upd nu x (nI (bz_lo (zv' e)))) va (upd bg (h + 1) (ty_wz v s)) (upd (upd ag h 1) (h + 1) 0) (upd (upd lf h (zv' e)) h (zv' e &&& (zv' e - 1))) ou)) := by
  obtain ⟨nn, ns, nt, _, _, _, yk, yx, yy, yw, _, zk, zx, zy, zw, _, od, wk, wx, wy, wz, ww, _, _, _, _, _, _⟩ := v
  obtain ⟨hwf, htab, hord, hnn, hns⟩ := hok
  obtain ⟨yv', zv', hW, hex⟩ := yo_work (nt := nt) (td := 0) (sp := nI t) (pr := pr) (yw := yw) (zw := zw) (wk := wk) (wx := wx) (wy := wy) (wz := wz) (ww := ww) (nu := nu) (va := va) (yv := yv) (zv := zv) (bg := bg) (ag := ag) (lf := lf) (ou := ou) hwf htab hord hnn hns
  refine ⟨yv', zv', hex, fun ht z => ?_, fun ht z => ?_⟩
  · refine yx_mv1 (by omega) (fun post hp => ym_w5a (by omega) hs hb hk ha he ey hW (yx_117_5 hh ht rfl hs hx ex (fun _ => hp) (fun q => absurd ?_ q)))
    rw [pk_us]; exact z
  · refine yx_mv1 (by omega) (fun post hp => ym_w5a (by omega) hs hb hk ha he ey hW (yx_117_5 hh ht rfl hs hx ex (fun q => absurd ?_ z) (fun _ => ?_)))
    · rw [pk_us] at q; exact q
    · rw [pk_us]; exact hp
/-- EACH, once more -/
theorem jy_5b {x : Nat} (hok : ty_ok v kd o1 o2 wt N S ps) (hh : h + 1 < 30) (hs : s < 40) (hb : bg h = nI s) (hk : ty_wk v s = nI 5) (ha : ¬ ag h = 0) (hx : x < 4) (ex : ty_wx v s = nI x) (ht : t < 400) : ∃ yv' zv',
    (lf h = 0 → yx_r (nI (h + 1)) (yx_c v 0 (nI t) pr yv zv nu va bg ag lf ou) (nI h) (yx_c v 0 (nI (t + 1)) pr yv' zv' nu va bg ag lf ou)) ∧
    (¬ lf h = 0 → yx_r (nI (h + 1)) (yx_c v 0 (nI t) pr yv zv nu va bg ag lf ou) (nI (h + 1 + 1)) (yx_c v 0 (nI (t + 1)) pr yv' zv' (upd nu x (nI (bz_lo (lf h)))) va (upd bg (h + 1) (ty_wz v s)) (upd ag (h + 1) 0) (upd lf h (lf h &&& (lf h - 1))) ou)) := by
  obtain ⟨nn, ns, nt, _, _, _, yk, yx, yy, yw, _, zk, zx, zy, zw, _, od, wk, wx, wy, wz, ww, _, _, _, _, _, _⟩ := v
  obtain ⟨hwf, htab, hord, hnn, hns⟩ := hok
  obtain ⟨yv', zv', hW, hex⟩ := yo_work (nt := nt) (td := 0) (sp := nI t) (pr := pr) (yw := yw) (zw := zw) (wk := wk) (wx := wx) (wy := wy) (wz := wz) (ww := ww) (nu := nu) (va := va) (yv := yv) (zv := zv) (bg := bg) (ag := ag) (lf := lf) (ou := ou) hwf htab hord hnn hns
  refine ⟨yv', zv', fun z => ?_, fun z => ?_⟩
  · exact yx_mv1 (by omega) (fun post hp => ym_w5b (by omega) hs hb hk ha hW (yx_117_5 hh ht rfl hs hx ex (fun _ => hp) (fun q => absurd z q)))
  · exact yx_mv1 (by omega) (fun post hp => ym_w5b (by omega) hs hb hk ha hW (yx_117_5 hh ht rfl hs hx ex (fun q => absurd q z) (fun _ => hp)))
/-- tired -/
theorem jy_T {k : Nat} (hok : ty_ok v kd o1 o2 wt N S ps) (hh : h < 30) (hs : s < 40) (hb : bg h = nI s) (hk : ty_wk v s = nI k) (hk8 : k < 8) (h7 : k ≠ 7) (h2 : k ≠ 2) (h5 : k = 5 → ∃ e, e < 30 ∧ ty_wy v s = nI e) (ht : t = 400) : ∃ yv' zv' ag' lf', ∀ post : Int32 → SY → Prop, post 1 (yx_c v 1 (nI t) pr yv' zv' nu va bg ag' lf' ou) → yx_R post (nI (h + 1)) (yx_c v 0 (nI t) pr yv zv nu va bg ag lf ou) := by
  subst ht
  have hok' := hok
  obtain ⟨nn, ns, nt, _, _, _, yk, yx, yy, yw, _, zk, zx, zy, zw, _, od, wk, wx, wy, wz, ww, _, _, _, _, _, _⟩ := v
  obtain ⟨hwf, htab, hord, hnn, hns⟩ := hok
  obtain ⟨yv', zv', hW, hex⟩ := yo_work (nt := nt) (td := 0) (sp := nI 400) (pr := pr) (yw := yw) (zw := zw) (wk := wk) (wx := wx) (wy := wy) (wz := wz) (ww := ww) (nu := nu) (va := va) (yv := yv) (zv := zv) (bg := bg) (ag := ag) (lf := lf) (ou := ou) hwf htab hord hnn hns
  by_cases k5 : k = 5
  · obtain ⟨e, he, ey⟩ := h5 k5
    subst k5
    by_cases ha : ag h = 0
    · refine ⟨yv', zv', upd ag h 1, upd lf h (zv' e), fun post hp => ?_⟩
      exact yx_mv1 (by omega) (fun post hp => ym_w5a (by omega) hs hb hk ha he ey hW (yx_117T rfl hp)) post (yx_end1 (by omega) hp)
    · refine ⟨yv', zv', ag, lf, fun post hp => ?_⟩
      exact yx_mv1 (by omega) (fun post hp => ym_w5b (by omega) hs hb hk ha hW (yx_117T rfl hp)) post (yx_end1 (by omega) hp)
  · refine ⟨yv', zv', ag, lf, fun post hp => ?_⟩
    exact yx_mv1 (by omega) (fun post hp => ym_w (by omega) hs hb hk hk8 h7 h2 k5 hW (yx_117T rfl hp)) post (yx_end1 (by omega) hp)
end
end
section
/-! both sides together -/
def jx_rel (rr nu va : Nat → Int32) (t : Nat) : Prop := rr 12 = nI t ∧ (∀ i, i < 4 → rr (4 + i) = nu i) ∧ (∀ i, i < 4 → rr (8 + i) = va i) ∧ t ≤ 400
/-- how both sides end -/
def jx_E (u : SX) (v : SY) (a : SX) (b : SY) : Prop := ∃ (ip ng zr cy ov td : Int32) (mm rr pl yv zv nu va bg ag lf : Nat → Int32) (t z : Nat), a = mx_h u ip ng zr cy ov (nI z) mm rr pl ∧ b = yx_c v td (nI t) (nI z) yv zv nu va bg ag lf pl ∧ jx_rel rr nu va t ∧ z ≤ t ∧ cx_at mm 0 cx_rt
/-- both sides end, with one answer -/
def jx_G (u : SX) (v : SY) (h : Nat) (a : SX) (b : SY) : Prop := ∃ r a' b', (∀ post : Int32 → SX → Prop, post r a' → mx_R post a) ∧ (∀ post : Int32 → SY → Prop, post r b' → yx_R post (nI h) b) ∧ jx_E u v a' b'
theorem jx_x {u : SX} {v : SY} {h : Nat} {a a' : SX} {b : SY} (r : mx_r a a') (k : jx_G u v h a' b) : jx_G u v h a b := by
  obtain ⟨r1, a1, b1, k1, k2, k3⟩ := k
  exact ⟨r1, a1, b1, fun post hp => r post (k1 post hp), k2, k3⟩
theorem jx_y {u : SX} {v : SY} {h h' : Nat} {a : SX} {b b' : SY} (r : yx_r (nI h) b (nI h') b') (k : jx_G u v h' a b') : jx_G u v h a b := by
  obtain ⟨r1, a1, b1, k1, k2, k3⟩ := k
  exact ⟨r1, a1, b1, k1, fun post hp => r post (k2 post hp), k3⟩
/-- what is to be shown behind the code of a statement -/
def st_K (u : SX) (v : SY) (q S w h t : Nat) (mm bg ag lf : Nat → Int32) : Prop := ∀ (mm' rr' pl' : Nat → Int32) (ng' zr' cy' ov' : Int32) (yv' zv' nu' va' bg' ag' lf' : Nat → Int32) (t' z' : Nat), (∀ j, j < S - w ∨ S ≤ j → mm' j = mm j) → rr' 13 = nI (4 * S) → jx_rel rr' nu' va' t' → z' ≤ t' → t ≤ t' → (∀ j, j < h → bg' j = bg j ∧ ag' j = ag j ∧ lf' j = lf j) →
  jx_G u v h (mx_c u (nI q) ng' zr' cy' ov' (nI z') mm' rr' pl') (yx_c v 0 (nI t') (nI z') yv' zv' nu' va' bg' ag' lf' pl')
def st_sg (v : SY) (M : Nat → Int32) (p q s w : Nat) : Prop := 23 ≤ p ∧ p ≤ q ∧ q ≤ p + 14 * w ∧
  ∀ (u : SX) (mm rr pl : Nat → Int32) (ng zr cy ov : Int32) (yv zv nu va bg ag lf : Nat → Int32) (S h t z : Nat), (∀ j, p ≤ j → j < q → mm j = M j) → cx_at mm 0 cx_rt → rr 13 = nI (4 * S) → q < 390 → q + w ≤ S → S < 1024 → h + w ≤ 30 → bg h = nI s → ag h = 0 → jx_rel rr nu va t → z ≤ t → st_K u v q S w h t mm bg ag lf →
    jx_G u v (h + 1) (mx_c u (nI p) ng zr cy ov (nI z) mm rr pl) (yx_c v 0 (nI t) (nI z) yv zv nu va bg ag lf pl)
theorem st_fr {v : SY} {M M' : Nat → Int32} {p q s w : Nat} (h : st_sg v M p q s w) (hM : ∀ j, p ≤ j → j < q → M' j = M j) : st_sg v M' p q s w :=
  ⟨h.1, h.2.1, h.2.2.1, fun u mm rr pl ng zr cy ov yv zv nu va bg ag lf S hh t z a => h.2.2.2 u mm rr pl ng zr cy ov yv zv nu va bg ag lf S hh t z (fun j h1 h2 => (a j h1 h2).trans (hM j h1 h2))⟩
theorem st_Km {u : SX} {v : SY} {q S w w1 h t t1 : Nat} {mm bg ag lf mm1 bg1 ag1 lf1 : Nat → Int32} (K : st_K u v q S w h t mm bg ag lf) (hm : ∀ j, j < S - w ∨ S ≤ j → mm1 j = mm j) (hf : ∀ j, j < h → bg1 j = bg j ∧ ag1 j = ag j ∧ lf1 j = lf j) (ht : t ≤ t1) (hw : w1 ≤ w) : st_K u v q S w1 h t1 mm1 bg1 ag1 lf1 := by
  intro mm' rr' pl' ng' zr' cy' ov' yv' zv' nu' va' bg' ag' lf' t' z' a1 a2 a3 a4 a5 a6
  refine K mm' rr' pl' ng' zr' cy' ov' yv' zv' nu' va' bg' ag' lf' t' z' (fun j hj => (a1 j (by omega)).trans (hm j hj)) a2 a3 a4 (by omega) (fun j hj => ?_)
  obtain ⟨x1, x2, x3⟩ := a6 j hj
  obtain ⟨y1, y2, y3⟩ := hf j hj
  exact ⟨x1.trans y1, x2.trans y2, x3.trans y3⟩
theorem jx_ev {kd o1 o2 : Bool → Nat → Int32} {N S : Nat} {nu va nu' va' : Nat → Int32} {vl : Bool → Nat → Int32} (h : ex_val kd o1 o2 N S nu va vl) (k1 : ∀ i, i < 4 → nu' i = nu i) (k2 : ∀ i, i < 4 → va' i = va i) (hv : ∀ b i, i < ex_n N S b → kd b i = nI 1 ∨ kd b i = nI 16 → ∃ v, v < 4 ∧ o1 b i = nI v) : ex_val kd o1 o2 N S nu' va' vl := by
  intro b i hi k' hk' e
  refine ⟨fun hs => ?_, (h b i hi k' hk' e).2⟩
  rw [(h b i hi k' hk' e).1 hs]
  unfold ld_v
  by_cases h1 : k' = 1
  · rw [if_pos h1, if_pos h1]
    obtain ⟨v, hv1, hv2⟩ := hv b i hi (Or.inl (by rw [e, h1]))
    rw [hv2, nI_clamp (by omega)]
    exact (k1 v hv1).symm
  · rw [if_neg h1, if_neg h1]
    by_cases h2 : k' = 16
    · rw [if_pos h2, if_pos h2]
      obtain ⟨v, hv1, hv2⟩ := hv b i hi (Or.inr (by rw [e, h2]))
      rw [hv2, nI_clamp (by omega)]
      exact (k2 v hv1).symm
    · rw [if_neg h2, if_neg h2]
theorem ty_wf {v : SY} {kd o1 o2 : Bool → Nat → Int32} {wt : Bool → Nat → Nat} {N S : Nat} {ps : Bool → Nat → Nat} (h : ty_ok v kd o1 o2 wt N S ps) : tx_wf kd o1 o2 wt N S := by
  obtain ⟨nn, ns, nt, td, sp, pr, yk, yx, yy, yw, yv, zk, zx, zy, zw, zv, od, wk, wx, wy, wz, ww, nu, va, bg, ag, lf, ou⟩ := v
  exact h.1
section
variable {u : SX} {v : SY} {kd o1 o2 : Bool → Nat → Int32} {wt : Bool → Nat → Nat} {N S : Nat} {ps : Bool → Nat → Nat}
/-- tired on both sides -/
theorem jx_T {mm rr pl : Nat → Int32} {ng zr cy ov : Int32} {yv zv nu va bg ag lf : Nat → Int32} {p h s t z k : Nat} (hok : ty_ok v kd o1 o2 wt N S ps) (hR : cx_at mm 0 cx_rt) (hp : p < 400) (hw : mm p = cx_bw 14 1 (nI p) (nI 0)) (hh : h < 30) (hs : s < 40) (hb : bg h = nI s) (hk : ty_wk v s = nI k) (hk8 : k < 8) (h7 : k ≠ 7) (h2 : k ≠ 2) (h5 : k = 5 → ∃ e, e < 30 ∧ ty_wy v s = nI e) (ht : t = 400) (hrel : jx_rel rr nu va t) (hz : z ≤ t) : jx_G u v (h + 1) (mx_c u (nI p) ng zr cy ov (nI z) mm rr pl) (yx_c v 0 (nI t) (nI z) yv zv nu va bg ag lf pl) := by
  obtain ⟨yv', zv', ag', lf', hY⟩ := jy_T (pr := nI z) (yv := yv) (zv := zv) (nu := nu) (va := va) (ag := ag) (lf := lf) (ou := pl) hok hh hs hb hk hk8 h7 h2 h5 ht
  obtain ⟨r1, r2, r3, r4⟩ := hrel
  obtain ⟨ip', ng', zr', cy', ov', hX⟩ := rt_tired (u := u) (pc := nI z) (pl := pl) (ng := ng) (zr := zr) (cy := cy) (ov := ov) hR p hp hw (rr := rr) (by rw [r1, ht])
  refine ⟨1, _, _, hX, hY, ip', ng', zr', cy', ov', 1, mm, upd (upd rr 14 (nI (p + 1))) 0 1, pl, yv', zv', nu, va, bg, ag', lf', t, z, rfl, rfl, ⟨?_, fun i hi => ?_, fun i hi => ?_, r4⟩, hz, hR⟩
  · rw [pk_un (by decide), pk_un (by decide)]; exact r1
  · rw [pk_un (by omega), pk_un (by omega)]; exact r2 i hi
  · rw [pk_un (by omega), pk_un (by omega)]; exact r3 i hi
/-- a tick, then an expression -/
theorem jx_te {M mm rr pl : Nat → Int32} {ng zr cy ov pc : Int32} {nu va : Nat → Int32} {vl : Bool → Nat → Int32} {p q i w st t : Nat} {bb : Bool} (hwf : tx_wf kd o1 o2 wt N S) (hv : ex_val kd o1 o2 N S nu va vl) (hR : cx_at mm 0 cx_rt) (hw : mm p = cx_bw 14 1 (nI p) (nI 0)) (hsg : ex_sg kd o1 o2 N S M (p + 1) q bb i w) (hm : ∀ j, p + 1 ≤ j → j < q → mm j = M j) (h13 : rr 13 = nI (4 * st)) (hq : q < 390) (hst : q + w ≤ st) (hst2 : st < 1024) (hrel : jx_rel rr nu va t) (ht : t < 400) :
    ∃ ng' zr' cy' ov' mm' rr', mx_r (mx_c u (nI p) ng zr cy ov pc mm rr pl) (mx_c u (nI q) ng' zr' cy' ov' pc mm' rr' pl) ∧ rr' 0 = vl bb i ∧ rr' 13 = nI (4 * st) ∧ jx_rel rr' nu va (t + 1) ∧ (∀ j, j < st - w ∨ st ≤ j → mm' j = mm j) := by
  obtain ⟨r1, r2, r3, r4⟩ := hrel
  obtain ⟨g0, g1, g2, g3⟩ := hsg
  obtain ⟨n1, z1, c1, v1, rr1, x1, e1⟩ := rt_tick (u := u) (pc := pc) (pl := pl) (ng := ng) (zr := zr) (cy := cy) (ov := ov) hR p t (by omega) hw ht r1
  subst e1
  have hv1 : ex_val kd o1 o2 N S (fun i => upd (upd rr 14 (nI (p + 1))) 12 (nI (t + 1)) (4 + i)) (fun i => upd (upd rr 14 (nI (p + 1))) 12 (nI (t + 1)) (8 + i)) vl := by
    refine jx_ev hv (fun i hi => ?_) (fun i hi => ?_) (tx_vv hwf)
    · show upd (upd rr 14 (nI (p + 1))) 12 (nI (t + 1)) (4 + i) = nu i
      rw [pk_un (by omega), pk_un (by omega)]; exact r2 i hi
    · show upd (upd rr 14 (nI (p + 1))) 12 (nI (t + 1)) (8 + i) = va i
      rw [pk_un (by omega), pk_un (by omega)]; exact r3 i hi
  obtain ⟨n2, z2, c2, v2, mm2, rr2, x2, e0, ek, em⟩ := g3 u pc mm pl _ n1 z1 c1 v1 st vl hm hR (by rw [pk_un (by decide), pk_un (by decide)]; exact h13) hq hst hst2 hv1
  refine ⟨n2, z2, c2, v2, mm2, rr2, mx_tr x1 x2, e0, ?_, ⟨?_, fun i hi => ?_, fun i hi => ?_, by omega⟩, em⟩
  · rw [ek 13 (by decide) (by decide), pk_un (by decide), pk_un (by decide)]; exact h13
  · rw [ek 12 (by decide) (by decide), pk_us]
  · rw [ek (4 + i) (by omega) (by omega), pk_un (by omega), pk_un (by omega)]; exact r2 i hi
  · rw [ek (8 + i) (by omega) (by omega), pk_un (by omega), pk_un (by omega)]; exact r3 i hi
end
theorem st_v4 : ∀ x, x < 4 → mx_D (cx_wd 14 13 0 (4 + nI x) 0 0) 14 13 0 0 (4 + x) ∧ (mx_dS (cx_wd 14 13 0 (4 + nI x) 0 0) 0 0 0 ∧ (mx_us (cx_wd 14 13 0 (4 + nI x) 0 0) 7 &&& 31) = 0) := fun x hx => ⟨(by decide +kernel : ∀ x, x < 4 → mx_D (cx_wd 14 13 0 (4 + nI x) 0 0) 14 13 0 0 (4 + x)) x hx, (by decide +kernel : ∀ x, x < 4 → (mx_dS (cx_wd 14 13 0 (4 + nI x) 0 0) 0 0 0 ∧ (mx_us (cx_wd 14 13 0 (4 + nI x) 0 0) 7 &&& 31) = 0)) x hx⟩
theorem st_v8 : ∀ x, x < 4 → mx_D (cx_wd 14 13 0 (8 + nI x) 0 0) 14 13 0 0 (8 + x) ∧ (mx_dS (cx_wd 14 13 0 (8 + nI x) 0 0) 0 0 0 ∧ (mx_us (cx_wd 14 13 0 (8 + nI x) 0 0) 7 &&& 31) = 0) := fun x hx => ⟨(by decide +kernel : ∀ x, x < 4 → mx_D (cx_wd 14 13 0 (8 + nI x) 0 0) 14 13 0 0 (8 + x)) x hx, (by decide +kernel : ∀ x, x < 4 → (mx_dS (cx_wd 14 13 0 (8 + nI x) 0 0) 0 0 0 ∧ (mx_us (cx_wd 14 13 0 (8 + nI x) 0 0) 7 &&& 31) = 0)) x hx⟩
section
variable {v : SY} {kd o1 o2 : Bool → Nat → Int32} {wt : Bool → Nat → Nat} {N S : Nat} {ps : Bool → Nat → Nat} {M : Nat → Int32}
theorem st_7 {p s w : Nat} (hp : 23 ≤ p) (hs : s < 40) (hk : ty_wk v s = nI 7) (hw : 1 ≤ w) : st_sg v M p p s w := by
  refine ⟨hp, Nat.le_refl _, by omega, fun u mm rr pl ng zr cy ov yv zv nu va bg ag lf S h t z hm hR h13 hq hS hS2 hh hb ha hrel hz K => ?_⟩
  exact jx_y (jy_7 (by omega) hs hb hk) (K mm rr pl ng zr cy ov yv zv nu va bg ag lf t z (fun _ _ => rfl) h13 hrel hz (Nat.le_refl _) (fun _ _ => ⟨rfl, rfl, rfl⟩))
theorem st_2 {p q1 q2 s a b w1 w2 : Nat} (hs : s < 40) (hk : ty_wk v s = nI 2) (hx : ty_wx v s = nI a) (hy : ty_wy v s = nI b) (hw1 : 1 ≤ w1) (hw2 : 1 ≤ w2) (h1 : st_sg v M p q1 a w1) (h2 : st_sg v M q1 q2 b w2) : st_sg v M p q2 s (1 + w1 + w2) := by
  obtain ⟨a0, a1, a2, a3⟩ := h1
  obtain ⟨b0, b1, b2, b3⟩ := h2
  refine ⟨a0, by omega, by omega, fun u mm rr pl ng zr cy ov yv zv nu va bg ag lf S h t z hm hR h13 hq hS hS2 hh hb ha hrel hz K => ?_⟩
  refine jx_y (jy_2a (by omega) hs hb hk ha) ?_
  refine a3 u mm rr pl ng zr cy ov yv zv nu va _ _ lf S (h + 1) t z (fun j x y => hm j x (by omega)) hR h13 (by omega) (by omega) hS2 (by omega) (by rw [pk_us]; exact hx) pk_us hrel hz ?_
  intro mm' rr' pl' ng' zr' cy' ov' yv' zv' nu' va' bg' ag' lf' t' z' c1 c2 c3 c4 c5 c6
  obtain ⟨f1, f2, f3⟩ := c6 h (by omega)
  have hbh : bg' h = nI s := by rw [f1, pk_un (by omega)]; exact hb
  have hah : ¬ ag' h = 0 := by rw [f2, pk_un (by omega), pk_us]; decide
  refine jx_y (jy_2b (by omega) hs hbh hk hah) ?_
  refine b3 u mm' rr' pl' ng' zr' cy' ov' yv' zv' nu' va' _ _ lf' S h t' z' (fun j x y => (c1 j (by omega)).trans (hm j (by omega) y)) (ex_rt (n := 23) (Nat.le_refl _) hR (fun j hj => c1 j (by omega))) c2 hq (by omega) hS2 (by omega) (by rw [pk_us]; exact hy) pk_us c3 c4 ?_
  refine st_Km K (fun j hj => c1 j (by omega)) (fun j hj => ?_) c5 (by omega)
  obtain ⟨g1, g2, g3⟩ := c6 j (by omega)
  exact ⟨by rw [pk_un (by omega), g1, pk_un (by omega)], by rw [pk_un (by omega), g2, pk_un (by omega), pk_un (by omega)], g3⟩
/-- PUT_NUMBER -/
theorem st_0 {p q1 s x e : Nat} (hok : ty_ok v kd o1 o2 wt N S ps) (hp : 23 ≤ p) (hs : s < 40) (hk : ty_wk v s = nI 0) (hx : x < 4) (ex : ty_wx v s = nI x) (he : e < N) (ey : ty_wy v s = nI e) (h0 : M p = cx_bw 14 1 (nI p) (nI 0)) (h1 : ex_sg kd o1 o2 N S M (p + 1) q1 false e (wt false e)) (h2 : M q1 = cx_wd 14 13 0 (4 + nI x) 0 0) : st_sg v M p (q1 + 1) s (1 + wt false e) := by
  have hwf := ty_wf hok
  have hN := hwf.1
  have g1 := h1.2.1
  have g2 := h1.2.2.1
  refine ⟨hp, by omega, by omega, fun u mm rr pl ng zr cy ov yv zv nu va bg ag lf S h t z hm hR h13 hq hS hS2 hh hb ha hrel hz K => ?_⟩
  have hp0 : mm p = cx_bw 14 1 (nI p) (nI 0) := (hm p (by omega) (by omega)).trans h0
  by_cases ht : t = 400
  · exact jx_T hok hR (by omega) hp0 (by omega) hs hb hk (by decide) (by decide) (by decide) (fun z => by cases z) ht hrel hz
  · have ht' : t < 400 := by have := hrel.2.2.2; omega
    obtain ⟨yv', zv', hv, hy⟩ := jy_0 (pr := nI z) (yv := yv) (zv := zv) (nu := nu) (va := va) (ag := ag) (lf := lf) (ou := pl) hok (by omega) hs hb hk hx ex (by omega) ey ht'
    obtain ⟨n1, z1, c1, v1, mm1, rr1, x1, e0, e13, rel1, em⟩ := jx_te (u := u) (pl := pl) (ng := ng) (zr := zr) (cy := cy) (ov := ov) (pc := nI z) hwf hv hR hp0 h1 (fun j x y => hm j (by omega) (by omega)) h13 (by omega) (by omega) hS2 hrel ht'
    have d := st_v4 x hx
    have x2 := mx_alu (u := u) (ng := n1) (zr := z1) (cy := c1) (ov := v1) (pc := nI z) (pl := pl) (mm := mm1) (rr := rr1) q1 (by omega) (by rw [em q1 (by omega), hm q1 (by omega) (by omega), h2]) 14 13 0 (4 + x) (by decide) (by decide) d.1 (by decide) (by omega) (mx_opR 0 (by decide) d.2) trivial
    refine jx_x x1 (jx_x x2 (jx_y hy ?_))
    obtain ⟨r1, r2, r3, r4⟩ := rel1
    refine K mm1 _ pl n1 z1 c1 v1 yv' zv' _ va bg ag lf (t + 1) z (fun j hj => em j (by omega)) (by rw [pk_un (by omega)]; exact e13) ⟨by rw [pk_un (by omega)]; exact r1, fun i hi => ?_, fun i hi => by rw [pk_un (by omega)]; exact r3 i hi, r4⟩ (by omega) (by omega) (fun j hj => ⟨rfl, rfl, rfl⟩)
    by_cases hix : i = x
    · subst hix
      rw [pk_us, pk_us]; exact e0
    · rw [pk_un (by omega), pk_un hix]; exact r2 i hi
/-- PUT_SET -/
theorem st_1 {p q1 s x e : Nat} (hok : ty_ok v kd o1 o2 wt N S ps) (hp : 23 ≤ p) (hs : s < 40) (hk : ty_wk v s = nI 1) (hx : x < 4) (ex : ty_wx v s = nI x) (he : e < S) (ey : ty_wy v s = nI e) (h0 : M p = cx_bw 14 1 (nI p) (nI 0)) (h1 : ex_sg kd o1 o2 N S M (p + 1) q1 true e (wt true e)) (h2 : M q1 = cx_wd 14 13 0 (8 + nI x) 0 0) : st_sg v M p (q1 + 1) s (1 + wt true e) := by
  have hwf := ty_wf hok
  have hN := hwf.2.1
  have g1 := h1.2.1
  have g2 := h1.2.2.1
  refine ⟨hp, by omega, by omega, fun u mm rr pl ng zr cy ov yv zv nu va bg ag lf S h t z hm hR h13 hq hS hS2 hh hb ha hrel hz K => ?_⟩
  have hp0 : mm p = cx_bw 14 1 (nI p) (nI 0) := (hm p (by omega) (by omega)).trans h0
  by_cases ht : t = 400
  · exact jx_T hok hR (by omega) hp0 (by omega) hs hb hk (by decide) (by decide) (by decide) (fun z => by cases z) ht hrel hz
  · have ht' : t < 400 := by have := hrel.2.2.2; omega
    obtain ⟨yv', zv', hv, hy⟩ := jy_1 (pr := nI z) (yv := yv) (zv := zv) (nu := nu) (va := va) (ag := ag) (lf := lf) (ou := pl) hok (by omega) hs hb hk hx ex (by omega) ey ht'
    obtain ⟨n1, z1, c1, v1, mm1, rr1, x1, e0, e13, rel1, em⟩ := jx_te (u := u) (pl := pl) (ng := ng) (zr := zr) (cy := cy) (ov := ov) (pc := nI z) hwf hv hR hp0 h1 (fun j x y => hm j (by omega) (by omega)) h13 (by omega) (by omega) hS2 hrel ht'
    have d := st_v8 x hx
    have x2 := mx_alu (u := u) (ng := n1) (zr := z1) (cy := c1) (ov := v1) (pc := nI z) (pl := pl) (mm := mm1) (rr := rr1) q1 (by omega) (by rw [em q1 (by omega), hm q1 (by omega) (by omega), h2]) 14 13 0 (8 + x) (by decide) (by decide) d.1 (by decide) (by omega) (mx_opR 0 (by decide) d.2) trivial
    refine jx_x x1 (jx_x x2 (jx_y hy ?_))
    obtain ⟨r1, r2, r3, r4⟩ := rel1
    refine K mm1 _ pl n1 z1 c1 v1 yv' zv' nu _ bg ag lf (t + 1) z (fun j hj => em j (by omega)) (by rw [pk_un (by omega)]; exact e13) ⟨by rw [pk_un (by omega)]; exact r1, fun i hi => by rw [pk_un (by omega)]; exact r2 i hi, fun i hi => ?_, r4⟩ (by omega) (by omega) (fun j hj => ⟨rfl, rfl, rfl⟩)
    by_cases hix : i = x
    · subst hix
      rw [pk_us, pk_us]; exact e0
    · rw [pk_un (by omega), pk_un hix]; exact r3 i hi
/-- PRINT -/
theorem st_6 {p q1 s e : Nat} (hok : ty_ok v kd o1 o2 wt N S ps) (hp : 23 ≤ p) (hs : s < 40) (hk : ty_wk v s = nI 6) (he : e < N) (ex : ty_wx v s = nI e) (h0 : M p = cx_bw 14 1 (nI p) (nI 0)) (h1 : ex_sg kd o1 o2 N S M (p + 1) q1 false e (wt false e)) (h2 : M q1 = -285212671) : st_sg v M p (q1 + 1) s (1 + wt false e) := by
  have hwf := ty_wf hok
  have hN := hwf.1
  have g1 := h1.2.1
  have g2 := h1.2.2.1
  refine ⟨hp, by omega, by omega, fun u mm rr pl ng zr cy ov yv zv nu va bg ag lf S h t z hm hR h13 hq hS hS2 hh hb ha hrel hz K => ?_⟩
  have hp0 : mm p = cx_bw 14 1 (nI p) (nI 0) := (hm p (by omega) (by omega)).trans h0
  by_cases ht : t = 400
  · exact jx_T hok hR (by omega) hp0 (by omega) hs hb hk (by decide) (by decide) (by decide) (fun z => by cases z) ht hrel hz
  · have ht' : t < 400 := by have := hrel.2.2.2; omega
    obtain ⟨yv', zv', hv, hy⟩ := jy_6 (pr := nI z) (q := z) (yv := yv) (zv := zv) (nu := nu) (va := va) (ag := ag) (lf := lf) (ou := pl) hok (by omega) hs hb hk (by omega) ex (by omega) rfl ht'
    obtain ⟨n1, z1, c1, v1, mm1, rr1, x1, e0, e13, rel1, em⟩ := jx_te (u := u) (pl := pl) (ng := ng) (zr := zr) (cy := cy) (ov := ov) (pc := nI z) hwf hv hR hp0 h1 (fun j x y => hm j (by omega) (by omega)) h13 (by omega) (by omega) hS2 hrel ht'
    have x2 := mx_prt (u := u) (ng := n1) (zr := z1) (cy := c1) (ov := v1) (pc := nI z) (pl := pl) (mm := mm1) (rr := rr1) q1 z (by omega) (by omega) rfl (show mm1 q1 = -285212671 by rw [em q1 (by omega), hm q1 (by omega) (by omega), h2]) (by decide +kernel) (by decide +kernel) (by decide +kernel)
    have e0' : rr1 0 = yv' e := e0
    rw [e0'] at x2
    refine jx_x x1 (jx_x x2 (jx_y hy ?_))
    exact K mm1 rr1 _ n1 z1 c1 v1 yv' zv' nu va bg ag lf (t + 1) (z + 1) (fun j hj => em j (by omega)) e13 rel1 (by omega) (by omega) (fun j hj => ⟨rfl, rfl, rfl⟩)
end
end
section
/-! IF and WHILE -/
section
variable {u : SX} {v : SY} {kd o1 o2 : Bool → Nat → Int32} {wt : Bool → Nat → Nat} {N S : Nat} {ps : Bool → Nat → Nat} {M : Nat → Int32}
theorem jx_br0 {mm rr pl : Nat → Int32} {ng zr cy ov pc : Int32} {q t : Nat} (hc : mm q = cx_wd 14 10 1 0 0 (33554432 ||| 0)) (hb : mm (q + 1) = cx_bw 0 0 (nI (q + 1)) (nI t)) (hq : q + 1 ≤ 400) (ht : t ≤ 400) (h0 : rr 0 = 0) : ∃ n z c o, mx_r (mx_c u (nI q) ng zr cy ov pc mm rr pl) (mx_c u (nI t) n z c o pc mm rr pl) := by
  have hB := cx_bwe hq ht
  exact ⟨_, _, _, _, mx_tr (mx_cmp q (by omega) hc 0 0 (by decide +kernel) (by decide) (mx_opI (y := 0) (by decide +kernel))) (mx_bra (q + 1) t (by omega) hb 0 (by decide) hB.1 hB.2 (mx_cEQ.mpr h0))⟩
theorem jx_br1 {mm rr pl : Nat → Int32} {ng zr cy ov pc : Int32} {q t : Nat} (hc : mm q = cx_wd 14 10 1 0 0 (33554432 ||| 0)) (hb : mm (q + 1) = cx_bw 0 0 (nI (q + 1)) (nI t)) (hq : q + 1 ≤ 400) (ht : t ≤ 400) (h0 : ¬ rr 0 = 0) : ∃ n z c o, mx_r (mx_c u (nI q) ng zr cy ov pc mm rr pl) (mx_c u (nI (q + 2)) n z c o pc mm rr pl) := by
  have hB := cx_bwe hq ht
  exact ⟨_, _, _, _, mx_tr (mx_cmp q (by omega) hc 0 0 (by decide +kernel) (by decide) (mx_opI (y := 0) (by decide +kernel))) (mx_skip (q + 1) (by omega) hb 0 (by decide) hB.1.1 (fun z => h0 (mx_cEQ.mp z)))⟩
theorem jx_jmp {mm rr pl : Nat → Int32} {ng zr cy ov pc : Int32} {q t : Nat} (hb : mm q = cx_bw 14 0 (nI q) (nI t)) (hq : q ≤ 400) (ht : t ≤ 400) : mx_r (mx_c u (nI q) ng zr cy ov pc mm rr pl) (mx_c u (nI t) ng zr cy ov pc mm rr pl) := by
  have hB := cx_bw0 hq ht
  exact mx_bra q t (by omega) hb 14 (by decide) hB.1 hB.2 trivial
/-- IF without a second branch -/
theorem st_3n {p q1 q2 s a e wa : Nat} (hok : ty_ok v kd o1 o2 wt N S ps) (hp : 23 ≤ p) (hs : s < 40) (hk : ty_wk v s = nI 3) (he : e < N) (ex : ty_wx v s = nI e) (ha : a < 40) (ey : ty_wy v s = nI a) (ez : ty_wz v s < 0) (hwa : 1 ≤ wa) (h0 : M p = cx_bw 14 1 (nI p) (nI 0)) (h1 : ex_sg kd o1 o2 N S M (p + 1) q1 false e (wt false e)) (h2 : M q1 = cx_wd 14 10 1 0 0 (33554432 ||| 0)) (h3 : M (q1 + 1) = cx_bw 0 0 (nI (q1 + 1)) (nI q2)) (h4 : st_sg v M (q1 + 2) q2 a wa) : st_sg v M p q2 s (1 + wt false e + wa) := by
  have hwf := ty_wf hok
  have hN := hwf.1
  have g1 := h1.2.1
  have g2 := h1.2.2.1
  obtain ⟨a0, a1, a2, a3⟩ := h4
  refine ⟨hp, by omega, by omega, fun u mm rr pl ng zr cy ov yv zv nu va bg ag lf S h t z hm hR h13 hq hS hS2 hh hb hag hrel hz K => ?_⟩
  have hp0 : mm p = cx_bw 14 1 (nI p) (nI 0) := (hm p (by omega) (by omega)).trans h0
  by_cases ht : t = 400
  · exact jx_T hok hR (by omega) hp0 (by omega) hs hb hk (by decide) (by decide) (by decide) (fun z => by cases z) ht hrel hz
  · have ht' : t < 400 := by have := hrel.2.2.2; omega
    obtain ⟨yv', zv', hv, hy1, -, hy3⟩ := jy_3 (pr := nI z) (yv := yv) (zv := zv) (nu := nu) (va := va) (ag := ag) (lf := lf) (ou := pl) hok (by omega) hs hb hk (by omega) ex (by rw [ey]; exact nI_pos' (by omega)) ht'
    obtain ⟨n1, z1, c1, v1, mm1, rr1, x1, e0, e13, rel1, em⟩ := jx_te (u := u) (pl := pl) (ng := ng) (zr := zr) (cy := cy) (ov := ov) (pc := nI z) hwf hv hR hp0 h1 (fun j x y => hm j (by omega) (by omega)) h13 (by omega) (by omega) hS2 hrel ht'
    have e0' : rr1 0 = yv' e := e0
    have m1 : mm1 q1 = cx_wd 14 10 1 0 0 (33554432 ||| 0) := by rw [em q1 (by omega), hm q1 (by omega) (by omega), h2]
    have m2 : mm1 (q1 + 1) = cx_bw 0 0 (nI (q1 + 1)) (nI q2) := by rw [em (q1 + 1) (by omega), hm (q1 + 1) (by omega) (by omega), h3]
    by_cases hz0 : yv' e = 0
    · obtain ⟨n2, z2, c2, v2, x2⟩ := jx_br0 (u := u) (pl := pl) (ng := n1) (zr := z1) (cy := c1) (ov := v1) (pc := nI z) (rr := rr1) m1 m2 (by omega) (by omega) (by rw [e0']; exact hz0)
      exact jx_x x1 (jx_x x2 (jx_y (hy1 hz0 ez) (K mm1 rr1 pl n2 z2 c2 v2 yv' zv' nu va bg ag lf (t + 1) z (fun j hj => em j (by omega)) e13 rel1 (by omega) (by omega) (fun j hj => ⟨rfl, rfl, rfl⟩))))
    · obtain ⟨n2, z2, c2, v2, x2⟩ := jx_br1 (u := u) (pl := pl) (ng := n1) (zr := z1) (cy := c1) (ov := v1) (pc := nI z) (rr := rr1) m1 m2 (by omega) (by omega) (by rw [e0']; exact hz0)
      refine jx_x x1 (jx_x x2 (jx_y (hy3 hz0) ?_))
      refine a3 u mm1 rr1 pl n2 z2 c2 v2 yv' zv' nu va _ _ lf S h (t + 1) z (fun j x y => (em j (by omega)).trans (hm j (by omega) y)) (ex_rt (n := 23) (Nat.le_refl _) hR (fun j hj => em j (by omega))) e13 hq (by omega) hS2 (by omega) (by rw [pk_us]; exact ey) pk_us rel1 (by omega) ?_
      exact st_Km K (fun j hj => em j (by omega)) (fun j hj => ⟨pk_un (by omega), pk_un (by omega), rfl⟩) (by omega) (by omega)
/-- IF with both branches -/
theorem st_3e {p q1 q2 q3 s a c e wa wc : Nat} (hok : ty_ok v kd o1 o2 wt N S ps) (hp : 23 ≤ p) (hs : s < 40) (hk : ty_wk v s = nI 3) (he : e < N) (ex : ty_wx v s = nI e) (ha : a < 40) (ey : ty_wy v s = nI a) (hc : c < 40) (ez : ty_wz v s = nI c) (hwa : 1 ≤ wa) (hwc : 1 ≤ wc) (h0 : M p = cx_bw 14 1 (nI p) (nI 0)) (h1 : ex_sg kd o1 o2 N S M (p + 1) q1 false e (wt false e)) (h2 : M q1 = cx_wd 14 10 1 0 0 (33554432 ||| 0)) (h3 : M (q1 + 1) = cx_bw 0 0 (nI (q1 + 1)) (nI (q2 + 1))) (h4 : st_sg v M (q1 + 2) q2 a wa) (h5 : M q2 = cx_bw 14 0 (nI q2) (nI q3)) (h6 : st_sg v M (q2 + 1) q3 c wc) : st_sg v M p q3 s (1 + wt false e + wa + wc) := by
  have hwf := ty_wf hok
  have hN := hwf.1
  have g1 := h1.2.1
  have g2 := h1.2.2.1
  obtain ⟨a0, a1, a2, a3⟩ := h4
  obtain ⟨b0, b1, b2, b3⟩ := h6
  refine ⟨hp, by omega, by omega, fun u mm rr pl ng zr cy ov yv zv nu va bg ag lf S h t z hm hR h13 hq hS hS2 hh hb hag hrel hz K => ?_⟩
  have hp0 : mm p = cx_bw 14 1 (nI p) (nI 0) := (hm p (by omega) (by omega)).trans h0
  by_cases ht : t = 400
  · exact jx_T hok hR (by omega) hp0 (by omega) hs hb hk (by decide) (by decide) (by decide) (fun z => by cases z) ht hrel hz
  · have ht' : t < 400 := by have := hrel.2.2.2; omega
    obtain ⟨yv', zv', hv, -, hy2, hy3⟩ := jy_3 (pr := nI z) (yv := yv) (zv := zv) (nu := nu) (va := va) (ag := ag) (lf := lf) (ou := pl) hok (by omega) hs hb hk (by omega) ex (by rw [ey]; exact nI_pos' (by omega)) ht'
    obtain ⟨n1, z1, c1, v1, mm1, rr1, x1, e0, e13, rel1, em⟩ := jx_te (u := u) (pl := pl) (ng := ng) (zr := zr) (cy := cy) (ov := ov) (pc := nI z) hwf hv hR hp0 h1 (fun j x y => hm j (by omega) (by omega)) h13 (by omega) (by omega) hS2 hrel ht'
    have e0' : rr1 0 = yv' e := e0
    have m1 : mm1 q1 = cx_wd 14 10 1 0 0 (33554432 ||| 0) := by rw [em q1 (by omega), hm q1 (by omega) (by omega), h2]
    have m2 : mm1 (q1 + 1) = cx_bw 0 0 (nI (q1 + 1)) (nI (q2 + 1)) := by rw [em (q1 + 1) (by omega), hm (q1 + 1) (by omega) (by omega), h3]
    have hR1 := ex_rt (n := 23) (Nat.le_refl _) hR (fun j hj => em j (by omega))
    by_cases hz0 : yv' e = 0
    · obtain ⟨n2, z2, c2, v2, x2⟩ := jx_br0 (u := u) (pl := pl) (ng := n1) (zr := z1) (cy := c1) (ov := v1) (pc := nI z) (rr := rr1) m1 m2 (by omega) (by omega) (by rw [e0']; exact hz0)
      refine jx_x x1 (jx_x x2 (jx_y (hy2 hz0 (by rw [ez]; exact nI_pos' (by omega))) ?_))
      refine b3 u mm1 rr1 pl n2 z2 c2 v2 yv' zv' nu va _ _ lf S h (t + 1) z (fun j x y => (em j (by omega)).trans (hm j (by omega) y)) hR1 e13 hq (by omega) hS2 (by omega) (by rw [pk_us]; exact ez) pk_us rel1 (by omega) ?_
      exact st_Km K (fun j hj => em j (by omega)) (fun j hj => ⟨pk_un (by omega), pk_un (by omega), rfl⟩) (by omega) (by omega)
    · obtain ⟨n2, z2, c2, v2, x2⟩ := jx_br1 (u := u) (pl := pl) (ng := n1) (zr := z1) (cy := c1) (ov := v1) (pc := nI z) (rr := rr1) m1 m2 (by omega) (by omega) (by rw [e0']; exact hz0)
      refine jx_x x1 (jx_x x2 (jx_y (hy3 hz0) ?_))
      refine a3 u mm1 rr1 pl n2 z2 c2 v2 yv' zv' nu va _ _ lf S h (t + 1) z (fun j x y => (em j (by omega)).trans (hm j (by omega) (by omega))) hR1 e13 (by omega) (by omega) hS2 (by omega) (by rw [pk_us]; exact ey) pk_us rel1 (by omega) ?_
      intro mm' rr' pl' ng' zr' cy' ov' yv2 zv2 nu' va' bg' ag' lf' t' z' d1 d2 d3 d4 d5 d6
      refine jx_x (jx_jmp (q := q2) (t := q3) (by rw [d1 q2 (by omega), em q2 (by omega), hm q2 (by omega) (by omega), h5]) (by omega) (by omega)) ?_
      refine K mm' rr' pl' ng' zr' cy' ov' yv2 zv2 nu' va' bg' ag' lf' t' z' (fun j hj => (d1 j (by omega)).trans (em j (by omega))) d2 d3 d4 (by omega) (fun j hj => ?_)
      obtain ⟨f1, f2, f3⟩ := d6 j hj
      exact ⟨by rw [f1, pk_un (by omega)], by rw [f2, pk_un (by omega)], f3⟩
/-- WHILE -/
theorem st_4 {p q1 q2 s a e wa : Nat} (hok : ty_ok v kd o1 o2 wt N S ps) (hp : 23 ≤ p) (hs : s < 40) (hk : ty_wk v s = nI 4) (he : e < N) (ex : ty_wx v s = nI e) (ha : a < 40) (ey : ty_wy v s = nI a) (hwa : 1 ≤ wa) (h0 : M p = cx_bw 14 1 (nI p) (nI 0)) (h1 : ex_sg kd o1 o2 N S M (p + 1) q1 false e (wt false e)) (h2 : M q1 = cx_wd 14 10 1 0 0 (33554432 ||| 0)) (h3 : M (q1 + 1) = cx_bw 0 0 (nI (q1 + 1)) (nI (q2 + 1))) (h4 : st_sg v M (q1 + 2) q2 a wa) (h5 : M q2 = cx_bw 14 0 (nI q2) (nI p)) : st_sg v M p (q2 + 1) s (1 + wt false e + wa) := by
  have hwf := ty_wf hok
  have hN := hwf.1
  have g1 := h1.2.1
  have g2 := h1.2.2.1
  obtain ⟨a0, a1, a2, a3⟩ := h4
  refine ⟨hp, by omega, by omega, fun u mm rr pl ng zr cy ov yv zv nu va bg ag lf S h t z hm hR h13 hq hS hS2 hh hb hag hrel hz K => ?_⟩
  have L : ∀ (n : Nat) (mm1 rr pl : Nat → Int32) (ng zr cy ov : Int32) (yv zv nu va bg1 ag1 lf1 : Nat → Int32) (t1 z1 : Nat), 400 - t1 ≤ n → (∀ j, j < S - (1 + wt false e + wa) ∨ S ≤ j → mm1 j = mm j) → rr 13 = nI (4 * S) → bg1 h = nI s → ag1 h = 0 → (∀ j, j < h → bg1 j = bg j ∧ ag1 j = ag j ∧ lf1 j = lf j) → jx_rel rr nu va t1 → z1 ≤ t1 → t ≤ t1 → jx_G u v (h + 1) (mx_c u (nI p) ng zr cy ov (nI z1) mm1 rr pl) (yx_c v 0 (nI t1) (nI z1) yv zv nu va bg1 ag1 lf1 pl) := by
    intro n
    induction n with
    | zero =>
      intro mm1 rr pl ng zr cy ov yv zv nu va bg1 ag1 lf1 t1 z1 hn hmm h13 hb hag hfr hrel hz htt
      have ht : t1 = 400 := by have := hrel.2.2.2; omega
      exact jx_T hok (ex_rt (n := 23) (Nat.le_refl _) hR (fun j hj => hmm j (by omega))) (by omega) (by rw [hmm p (by omega), hm p (by omega) (by omega), h0]) (by omega) hs hb hk (by decide) (by decide) (by decide) (fun z => by cases z) ht hrel hz
    | succ n ih =>
      intro mm1 rr pl ng zr cy ov yv zv nu va bg1 ag1 lf1 t1 z1 hn hmm h13 hb hag hfr hrel hz htt
      have hR1 := ex_rt (n := 23) (Nat.le_refl _) hR (fun j hj => hmm j (by omega))
      have hp0 : mm1 p = cx_bw 14 1 (nI p) (nI 0) := by rw [hmm p (by omega), hm p (by omega) (by omega), h0]
      by_cases ht : t1 = 400
      · exact jx_T hok hR1 (by omega) hp0 (by omega) hs hb hk (by decide) (by decide) (by decide) (fun z => by cases z) ht hrel hz
      · have ht' : t1 < 400 := by have := hrel.2.2.2; omega
        obtain ⟨yv', zv', hv, hy1, hy2⟩ := jy_4 (pr := nI z1) (yv := yv) (zv := zv) (nu := nu) (va := va) (ag := ag1) (lf := lf1) (ou := pl) hok (by omega) hs hb hk (by omega) ex ht'
        obtain ⟨n1, z2, c1, v1, mm2, rr1, x1, e0, e13, rel1, em⟩ := jx_te (u := u) (pl := pl) (ng := ng) (zr := zr) (cy := cy) (ov := ov) (pc := nI z1) hwf hv hR1 hp0 h1 (fun j x y => (hmm j (by omega)).trans (hm j (by omega) (by omega))) h13 (by omega) (by omega) hS2 hrel ht'
        have e0' : rr1 0 = yv' e := e0
        have emm : ∀ j, j < S - (1 + wt false e + wa) ∨ S ≤ j → mm2 j = mm j := fun j hj => (em j (by omega)).trans (hmm j hj)
        have m1 : mm2 q1 = cx_wd 14 10 1 0 0 (33554432 ||| 0) := by rw [emm q1 (by omega), hm q1 (by omega) (by omega), h2]
        have m2 : mm2 (q1 + 1) = cx_bw 0 0 (nI (q1 + 1)) (nI (q2 + 1)) := by rw [emm (q1 + 1) (by omega), hm (q1 + 1) (by omega) (by omega), h3]
        by_cases hz0 : yv' e = 0
        · obtain ⟨n2, z3, c2, v2, x2⟩ := jx_br0 (u := u) (pl := pl) (ng := n1) (zr := z2) (cy := c1) (ov := v1) (pc := nI z1) (rr := rr1) m1 m2 (by omega) (by omega) (by rw [e0']; exact hz0)
          exact jx_x x1 (jx_x x2 (jx_y (hy1 hz0) (K mm2 rr1 pl n2 z3 c2 v2 yv' zv' nu va bg1 ag1 lf1 (t1 + 1) z1 emm e13 rel1 (by omega) (by omega) hfr)))
        · obtain ⟨n2, z3, c2, v2, x2⟩ := jx_br1 (u := u) (pl := pl) (ng := n1) (zr := z2) (cy := c1) (ov := v1) (pc := nI z1) (rr := rr1) m1 m2 (by omega) (by omega) (by rw [e0']; exact hz0)
          refine jx_x x1 (jx_x x2 (jx_y (hy2 hz0) ?_))
          refine a3 u mm2 rr1 pl n2 z3 c2 v2 yv' zv' nu va _ _ lf1 S (h + 1) (t1 + 1) z1 (fun j x y => (emm j (by omega)).trans (hm j (by omega) (by omega))) (ex_rt (n := 23) (Nat.le_refl _) hR (fun j hj => emm j (by omega))) e13 (by omega) (by omega) hS2 (by omega) (by rw [pk_us]; exact ey) pk_us rel1 (by omega) ?_
          intro mm' rr' pl' ng' zr' cy' ov' yv2 zv2 nu' va' bg' ag' lf' t' z' d1 d2 d3 d4 d5 d6
          have dmm : ∀ j, j < S - (1 + wt false e + wa) ∨ S ≤ j → mm' j = mm j := fun j hj => (d1 j (by omega)).trans (emm j hj)
          refine jx_x (jx_jmp (q := q2) (t := p) (by rw [dmm q2 (by omega), hm q2 (by omega) (by omega), h5]) (by omega) (by omega)) ?_
          obtain ⟨f1, f2, f3⟩ := d6 h (by omega)
          refine ih mm' rr' pl' ng' zr' cy' ov' yv2 zv2 nu' va' bg' ag' lf' t' z' (by omega) dmm d2 (by rw [f1, pk_un (by omega)]; exact hb) (by rw [f2, pk_un (by omega)]; exact hag) (fun j hj => ?_) d3 d4 (by omega)
          obtain ⟨l1, l2, l3⟩ := d6 j (by omega)
          obtain ⟨k1, k2, k3⟩ := hfr j hj
          exact ⟨by rw [l1, pk_un (by omega), k1], by rw [l2, pk_un (by omega), k2], by rw [l3, k3]⟩
  exact L 400 mm rr pl ng zr cy ov yv zv nu va bg ag lf t z (by omega) (fun _ _ => rfl) h13 hb hag (fun _ _ => ⟨rfl, rfl, rfl⟩) hrel hz (Nat.le_refl _)
end
end
section
/-! EACH -/
section
variable {u : SX} {pc : Int32} {pl : Nat → Int32}
theorem ea_up {mm : Nat → Int32} {T j : Nat} {x : Int32} (h : j < T) : upd mm T x j = mm j := pk_un (by omega)
/-- the head of the loop, up to the branch -/
theorem ea_h {mm rr : Nat → Int32} {ng zr cy ov : Int32} {c T t : Nat} (hR : cx_at mm 0 cx_rt) (hc : c + 12 ≤ 400) (hT : T < 1024) (h13 : rr 13 = nI (4 * T)) (h12 : rr 12 = nI t) (ht : t < 400) (h0 : mm c = cx_bw 14 1 (nI c) (nI 0)) (h1 : mm (c + 1) = mx_wpeek 1 0) : mx_bf u pc mm pl c (c + 2) rr ng zr cy ov (fun rr' => rr' 0 = mm T ∧ rr' 12 = nI (t + 1) ∧ ∀ j, 3 ≤ j → j ≤ 13 → j ≠ 12 → rr' j = rr j) := by
  refine bf_seq (rt_tick hR c t (by omega) h0 ht h12) (fun rr1 n1 z1 c1 v1 e1 => ?_)
  subst e1
  refine bf_go (mx_peekL (c + 1) T (by omega) h1 hT (by rw [pk_un (by decide), pk_un (by decide)]; exact h13)) (bf_end ⟨pk_us, ?_, fun j a b d => ?_⟩)
  · rw [pk_un (by decide), pk_us]
  · rw [pk_un (by omega), pk_un (by omega), pk_un (by omega)]
/-- nothing is left -/
theorem ea_0 {mm rr nu va : Nat → Int32} {ng zr cy ov : Int32} {c T t q2 : Nat} (hR : cx_at mm 0 cx_rt) (hc : c + 12 ≤ 400) (hq2 : q2 + 2 ≤ 400) (hT : T < 1024) (h13 : rr 13 = nI (4 * T)) (hrel : jx_rel rr nu va t) (ht : t < 400) (h0 : mm c = cx_bw 14 1 (nI c) (nI 0)) (h1 : mm (c + 1) = mx_wpeek 1 0) (h2 : mm (c + 2) = cx_wd 14 10 1 0 0 (33554432 ||| 0)) (h3 : mm (c + 3) = cx_bw 0 0 (nI (c + 3)) (nI (q2 + 1))) (h4 : mm (q2 + 1) = cx_wd 14 4 0 13 13 33554436) (hz : mm T = 0) : mx_bf u pc mm pl c (q2 + 2) rr ng zr cy ov (fun rr' => rr' 13 = nI (4 * (T + 1)) ∧ jx_rel rr' nu va (t + 1)) := by
  obtain ⟨r1, r2, r3, r4⟩ := hrel
  refine bf_seq (ea_h hR hc hT h13 r1 ht h0 h1) (fun rr1 n1 z1 c1 v1 ⟨e0, e12, ek⟩ => ?_)
  obtain ⟨n2, z2, c2, v2, x2⟩ := jx_br0 (u := u) (pl := pl) (ng := n1) (zr := z1) (cy := c1) (ov := v1) (pc := pc) (rr := rr1) h2 h3 (by omega) (by omega) (e0.trans hz)
  refine bf_go x2 (bf_I 14 4 13 13 4 h4 (bf_end ⟨?_, ?_, fun i hi => ?_, fun i hi => ?_, by omega⟩))
  · show rr1 13 + 4 = _
    rw [ek 13 (by decide) (by decide) (by decide), h13, show (4 : Int32) = nI 4 from rfl, nI_add]; rfl
  · rw [pk_un (by decide)]; exact e12
  · rw [pk_un (by omega), ek (4 + i) (by omega) (by omega) (by omega)]; exact r2 i hi
  · rw [pk_un (by omega), ek (8 + i) (by omega) (by omega) (by omega)]; exact r3 i hi
theorem ea_and (x y : Int32) : x &&& y = y &&& x := by
  apply b_ext; intro i hi; rw [b_and, b_and, Bool.and_comm]
/-- the least member is taken -/
theorem ea_1 {mm rr nu va : Nat → Int32} {ng zr cy ov : Int32} {c T t q2 x : Nat} (hR : cx_at mm 0 cx_rt) (hc : c + 12 ≤ 400) (hq2 : q2 + 2 ≤ 400) (hcT : c + 12 ≤ T) (hc23 : 23 ≤ c) (hT : T < 1024) (h13 : rr 13 = nI (4 * T)) (hrel : jx_rel rr nu va t) (ht : t < 400) (hx : x < 4) (h0 : mm c = cx_bw 14 1 (nI c) (nI 0)) (h1 : mm (c + 1) = mx_wpeek 1 0) (h2 : mm (c + 2) = cx_wd 14 10 1 0 0 (33554432 ||| 0)) (h3 : mm (c + 3) = cx_bw 0 0 (nI (c + 3)) (nI (q2 + 1)))
    (h4 : mm (c + 4) = cx_wd 14 2 0 1 0 33554433) (h5 : mm (c + 5) = cx_wd 14 0 0 1 1 0) (h6 : mm (c + 6) = mx_wpeek 0 1) (h7 : mm (c + 7) = cx_bw 14 1 (nI (c + 7)) (nI 13)) (h8 : mm (c + 8) = cx_wd 14 13 0 (4 + nI x) 0 0) (hz : ¬ mm T = 0) :
    ∃ ng' zr' cy' ov' rr', mx_r (mx_c u (nI c) ng zr cy ov pc mm rr pl) (mx_c u (nI (c + 9)) ng' zr' cy' ov' pc (upd mm T (mm T &&& (mm T - 1))) rr' pl) ∧ rr' 13 = nI (4 * T) ∧ jx_rel rr' (upd nu x (nI (bz_lo (mm T)))) va (t + 1) := by
  obtain ⟨r1, r2, r3, r4⟩ := hrel
  have A : mx_bf u pc mm pl c (c + 6) rr ng zr cy ov (fun rr' => rr' 0 = mm T ∧ rr' 1 = mm T &&& (mm T - 1) ∧ rr' 12 = nI (t + 1) ∧ ∀ j, 3 ≤ j → j ≤ 13 → j ≠ 12 → rr' j = rr j) := by
    refine bf_seq (ea_h hR hc hT h13 r1 ht h0 h1) (fun rr1 n1 z1 c1 v1 ⟨e0, e12, ek⟩ => ?_)
    obtain ⟨n2, z2, c2, v2, x2⟩ := jx_br1 (u := u) (pl := pl) (ng := n1) (zr := z1) (cy := c1) (ov := v1) (pc := pc) (rr := rr1) h2 h3 (by omega) (by omega) (fun y => hz (e0.symm.trans y))
    refine bf_go x2 (bf_I 14 2 0 1 1 h4 (bf_R 14 0 1 1 0 h5 (bf_end ⟨?_, ?_, ?_, fun j a b d => ?_⟩)))
    · rw [pk_un (by decide), pk_un (by decide)]; exact e0
    · show (rr1 0 - 1) &&& rr1 0 = _
      rw [e0, ea_and]
    · rw [pk_un (by decide), pk_un (by decide)]; exact e12
    · rw [pk_un (by omega), pk_un (by omega)]; exact ek j a b d
  obtain ⟨n1, z1, c1, v1, rr1, x1, e0, e1, e12, ek⟩ := A
  have x2 := mx_peekS (u := u) (ng := n1) (zr := z1) (cy := c1) (ov := v1) (pc := pc) (pl := pl) (mm := mm) (rr := rr1) (c + 6) T (by omega) h6 hT (by rw [ek 13 (by decide) (by decide) (by decide)]; exact h13)
  rw [e1] at x2
  have hR2 : cx_at (upd mm T (mm T &&& (mm T - 1))) 0 cx_rt := ex_rt (n := 23) (Nat.le_refl _) hR (fun j hj => ea_up (by omega))
  have d := st_v4 x hx
  have B : mx_bf u pc (upd mm T (mm T &&& (mm T - 1))) pl (c + 6 + 1) (c + 9) rr1 n1 z1 c1 v1 (fun rr' => rr' 13 = nI (4 * T) ∧ jx_rel rr' (upd nu x (nI (bz_lo (mm T)))) va (t + 1)) := by
    refine bf_seq (rt_least hR2 (c + 7) (by omega) (by rw [ea_up (by omega)]; exact h7)) (fun rr2 n2 z2 c2 v2 ⟨f0, fk⟩ => ?_)
    refine bf_O 14 13 0 (4 + x) _ (show upd mm T (mm T &&& (mm T - 1)) (c + 7 + 1) = _ by rw [ea_up (by omega)]; exact h8) (mx_opR 0 (by decide) d.2) (bf_end ⟨?_, ?_, fun i hi => ?_, fun i hi => ?_, by omega⟩) trivial (by omega) d.1 (by decide) (by decide) (by decide) (by omega)
    · rw [pk_un (by omega), fk 13 (by decide) (by decide), ek 13 (by decide) (by decide) (by decide)]; exact h13
    · rw [pk_un (by omega), fk 12 (by decide) (by decide)]; exact e12
    · by_cases hix : i = x
      · subst hix
        rw [pk_us, pk_us]
        show rr2 0 = _
        rw [f0, e0]
      · rw [pk_un (by omega), pk_un hix, fk (4 + i) (by omega) (by omega), ek (4 + i) (by omega) (by omega) (by omega)]; exact r2 i hi
    · rw [pk_un (by omega), fk (8 + i) (by omega) (by omega), ek (8 + i) (by omega) (by omega) (by omega)]; exact r3 i hi
  obtain ⟨n3, z3, c3, v3, rr3, x3, q1, q2'⟩ := B
  exact ⟨n3, z3, c3, v3, rr3, mx_tr x1 (mx_tr x2 x3), q1, q2'⟩
end
section
variable {v : SY} {kd o1 o2 : Bool → Nat → Int32} {wt : Bool → Nat → Nat} {N S : Nat} {ps : Bool → Nat → Nat} {M : Nat → Int32}
/-- what the reference does next at an EACH of which L is left -/
def ea_Y (v : SY) (h t z x : Nat) (s : Nat) (L : Int32) (yv zv nu va bg ag lf pl : Nat → Int32) : Prop :=
  (t < 400 → L = 0 → ∃ yv' zv' ag' lf', (∀ j, j < h → ag' j = ag j ∧ lf' j = lf j) ∧ yx_r (nI (h + 1)) (yx_c v 0 (nI t) (nI z) yv zv nu va bg ag lf pl) (nI h) (yx_c v 0 (nI (t + 1)) (nI z) yv' zv' nu va bg ag' lf' pl)) ∧
  (t < 400 → ¬ L = 0 → ∃ yv' zv' ag' lf', (∀ j, j < h → ag' j = ag j ∧ lf' j = lf j) ∧ ag' h = 1 ∧ ag' (h + 1) = 0 ∧ lf' h = L &&& (L - 1) ∧ yx_r (nI (h + 1)) (yx_c v 0 (nI t) (nI z) yv zv nu va bg ag lf pl) (nI (h + 1 + 1)) (yx_c v 0 (nI (t + 1)) (nI z) yv' zv' (upd nu x (nI (bz_lo L))) va (upd bg (h + 1) (ty_wz v s)) ag' lf' pl))
theorem ea_Yb {h s t z x : Nat} {L : Int32} {yv zv nu va bg ag lf pl : Nat → Int32} (hok : ty_ok v kd o1 o2 wt N S ps) (hh : h + 1 < 30) (hs : s < 40) (hb : bg h = nI s) (hk : ty_wk v s = nI 5) (ha : ag h = 1) (hx : x < 4) (ex : ty_wx v s = nI x) (hl : lf h = L) : ea_Y v h t z x s L yv zv nu va bg ag lf pl := by
  subst hl
  refine ⟨fun ht hL => ?_, fun ht hL => ?_⟩
  · obtain ⟨yv', zv', h1, -⟩ := jy_5b (pr := nI z) (yv := yv) (zv := zv) (nu := nu) (va := va) (ag := ag) (lf := lf) (ou := pl) hok hh hs hb hk (by rw [ha]; decide) hx ex ht
    exact ⟨yv', zv', ag, lf, fun j hj => ⟨rfl, rfl⟩, h1 hL⟩
  · obtain ⟨yv', zv', -, h1⟩ := jy_5b (pr := nI z) (yv := yv) (zv := zv) (nu := nu) (va := va) (ag := ag) (lf := lf) (ou := pl) hok hh hs hb hk (by rw [ha]; decide) hx ex ht
    exact ⟨yv', zv', _, _, fun j hj => ⟨pk_un (by omega), pk_un (by omega)⟩, by rw [pk_un (by omega)]; exact ha, pk_us, pk_us, h1 hL⟩
theorem st_5 {p q1 q2 s x e a wa : Nat} (hok : ty_ok v kd o1 o2 wt N S ps) (hs : s < 40) (hk : ty_wk v s = nI 5) (hx : x < 4) (ex : ty_wx v s = nI x) (he : e < S) (ey : ty_wy v s = nI e) (ha : a < 40) (ez : ty_wz v s = nI a) (hwa : 1 ≤ wa) (h1 : ex_sg kd o1 o2 N S M p q1 true e (wt true e)) (h2 : M q1 = mx_wpush) (h3 : M (q1 + 1) = cx_bw 14 1 (nI (q1 + 1)) (nI 0)) (h4 : M (q1 + 2) = mx_wpeek 1 0) (h5 : M (q1 + 3) = cx_wd 14 10 1 0 0 (33554432 ||| 0)) (h6 : M (q1 + 4) = cx_bw 0 0 (nI (q1 + 4)) (nI (q2 + 1))) (h7 : M (q1 + 5) = cx_wd 14 2 0 1 0 33554433) (h8 : M (q1 + 6) = cx_wd 14 0 0 1 1 0) (h9 : M (q1 + 7) = mx_wpeek 0 1) (h10 : M (q1 + 8) = cx_bw 14 1 (nI (q1 + 8)) (nI 13)) (h11 : M (q1 + 9) = cx_wd 14 13 0 (4 + nI x) 0 0) (h12 : st_sg v M (q1 + 10) q2 a wa) (h13' : M q2 = cx_bw 14 0 (nI q2) (nI (q1 + 1))) (h14 : M (q2 + 1) = cx_wd 14 4 0 13 13 33554436) : st_sg v M p (q2 + 2) s (1 + wt true e + wa) := by
  have hwf := ty_wf hok
  have hN := hwf.2.1
  obtain ⟨g0, g1, g2, g3⟩ := h1
  obtain ⟨a0, a1, a2, a3⟩ := h12
  refine ⟨g0, by omega, by omega, fun u mm rr pl ng zr cy ov yv zv nu va bg ag lf S h t z hm hR h13 hq hS hS2 hh hb hag hrel hz K => ?_⟩
  obtain ⟨T, rfl⟩ : ∃ T, S = T + 1 := ⟨S - 1, by omega⟩
  have L : ∀ (n : Nat) (mm1 rr pl : Nat → Int32) (ng zr cy ov : Int32) (yv zv nu va bg1 ag1 lf1 : Nat → Int32) (t1 z1 : Nat), 400 - t1 ≤ n → (∀ j, j < T + 1 - (1 + wt true e + wa) ∨ T + 1 ≤ j → mm1 j = mm j) → rr 13 = nI (4 * T) → bg1 h = nI s → (∀ j, j < h → bg1 j = bg j ∧ ag1 j = ag j ∧ lf1 j = lf j) → jx_rel rr nu va t1 → z1 ≤ t1 → t ≤ t1 → ea_Y v h t1 z1 x s (mm1 T) yv zv nu va bg1 ag1 lf1 pl → jx_G u v (h + 1) (mx_c u (nI (q1 + 1)) ng zr cy ov (nI z1) mm1 rr pl) (yx_c v 0 (nI t1) (nI z1) yv zv nu va bg1 ag1 lf1 pl) := by
    intro n
    induction n with
    | zero =>
      intro mm1 rr pl ng zr cy ov yv zv nu va bg1 ag1 lf1 t1 z1 hn hmm h13 hb hfr hrel hz htt hY
      have ht : t1 = 400 := by have := hrel.2.2.2; omega
      exact jx_T hok (ex_rt (n := 23) (Nat.le_refl _) hR (fun j hj => hmm j (by omega))) (by omega) (by rw [hmm (q1 + 1) (by omega), hm (q1 + 1) (by omega) (by omega), h3]) (by omega) hs hb hk (by decide) (by decide) (by decide) (fun _ => ⟨e, by omega, ey⟩) ht hrel hz
    | succ n ih =>
      intro mm1 rr pl ng zr cy ov yv zv nu va bg1 ag1 lf1 t1 z1 hn hmm h13 hb hfr hrel hz htt hY
      have hR1 := ex_rt (n := 23) (Nat.le_refl _) hR (fun j hj => hmm j (by omega))
      have W : ∀ j, p ≤ j → j < q2 + 2 → mm1 j = M j := fun j y1 y2 => (hmm j (by omega)).trans (hm j y1 y2)
      by_cases ht : t1 = 400
      · exact jx_T hok hR1 (by omega) (by rw [W (q1 + 1) (by omega) (by omega), h3]) (by omega) hs hb hk (by decide) (by decide) (by decide) (fun _ => ⟨e, by omega, ey⟩) ht hrel hz
      · have ht' : t1 < 400 := by have := hrel.2.2.2; omega
        by_cases hz0 : mm1 T = 0
        · obtain ⟨yv', zv', ag', lf', hf, hy⟩ := hY.1 ht' hz0
          obtain ⟨n2, z2, c2, v2, rr2, x2, e13, rel2⟩ := ea_0 (u := u) (pc := nI z1) (pl := pl) (ng := ng) (zr := zr) (cy := cy) (ov := ov) (c := q1 + 1) (T := T) (q2 := q2) hR1 (by omega) (by omega) (by omega) h13 hrel ht' (by rw [W (q1 + 1) (by omega) (by omega), h3]) (by rw [W (q1 + 1 + 1) (by omega) (by omega)]; exact h4) (by rw [W (q1 + 1 + 2) (by omega) (by omega)]; exact h5) (by rw [W (q1 + 1 + 3) (by omega) (by omega)]; exact h6) (by rw [W (q2 + 1) (by omega) (by omega), h14]) hz0
          refine jx_x x2 (jx_y hy (K mm1 rr2 pl n2 z2 c2 v2 yv' zv' nu va bg1 ag' lf' (t1 + 1) z1 hmm e13 rel2 (by omega) (by omega) (fun j hj => ?_)))
          obtain ⟨k1, k2, k3⟩ := hfr j hj
          obtain ⟨l1, l2⟩ := hf j hj
          exact ⟨k1, l1.trans k2, l2.trans k3⟩
        · obtain ⟨yv', zv', ag', lf', hf, f1, f2, f3, hy⟩ := hY.2 ht' hz0
          obtain ⟨n2, z2, c2, v2, rr2, x2, e13, rel2⟩ := ea_1 (u := u) (pc := nI z1) (pl := pl) (ng := ng) (zr := zr) (cy := cy) (ov := ov) (c := q1 + 1) (T := T) (q2 := q2) (x := x) hR1 (by omega) (by omega) (by omega) (by omega) (by omega) h13 hrel ht' hx (by rw [W (q1 + 1) (by omega) (by omega), h3]) (by rw [W (q1 + 1 + 1) (by omega) (by omega)]; exact h4) (by rw [W (q1 + 1 + 2) (by omega) (by omega)]; exact h5) (by rw [W (q1 + 1 + 3) (by omega) (by omega)]; exact h6) (by rw [W (q1 + 1 + 4) (by omega) (by omega)]; exact h7) (by rw [W (q1 + 1 + 5) (by omega) (by omega)]; exact h8) (by rw [W (q1 + 1 + 6) (by omega) (by omega)]; exact h9) (by rw [W (q1 + 1 + 7) (by omega) (by omega)]; exact h10) (by rw [W (q1 + 1 + 8) (by omega) (by omega)]; exact h11) hz0
          refine jx_x x2 (jx_y hy ?_)
          refine a3 u _ rr2 pl n2 z2 c2 v2 yv' zv' _ va _ _ lf' T (h + 1) (t1 + 1) z1 (fun j y1 y2 => (pk_un (by omega)).trans (W j (by omega) (by omega))) (ex_rt (n := 23) (Nat.le_refl _) hR1 (fun j hj => pk_un (by omega))) e13 (by omega) (by omega) (by omega) (by omega) (by rw [pk_us]; exact ez) f2 rel2 (by omega) ?_
          intro mm' rr' pl' ng' zr' cy' ov' yv2 zv2 nu' va' bg' ag2 lf2 t' z' d1 d2 d3 d4 d5 d6
          have dmm : ∀ j, j < T + 1 - (1 + wt true e + wa) ∨ T + 1 ≤ j → mm' j = mm j := fun j hj => (d1 j (by omega)).trans ((pk_un (by omega)).trans (hmm j hj))
          have dT : mm' T = mm1 T &&& (mm1 T - 1) := by rw [d1 T (by omega), pk_us]
          refine jx_x (jx_jmp (q := q2) (t := q1 + 1) (by rw [dmm q2 (by omega), hm q2 (by omega) (by omega), h13']) (by omega) (by omega)) ?_
          obtain ⟨k1, k2, k3⟩ := d6 h (by omega)
          have hb2 : bg' h = nI s := by rw [k1, pk_un (by omega)]; exact hb
          refine ih mm' rr' pl' ng' zr' cy' ov' yv2 zv2 nu' va' bg' ag2 lf2 t' z' (by omega) dmm d2 hb2 (fun j hj => ?_) d3 d4 (by omega) ?_
          · obtain ⟨l1, l2, l3⟩ := d6 j (by omega)
            obtain ⟨y1, y2, y3⟩ := hfr j hj
            obtain ⟨w1, w2⟩ := hf j hj
            exact ⟨by rw [l1, pk_un (by omega), y1], by rw [l2, w1, y2], by rw [l3, w2, y3]⟩
          · exact ea_Yb hok (by omega) hs hb2 hk (by rw [k2]; exact f1) hx ex (by rw [k3, f3, dT])
  obtain ⟨yv', zv', hv, hy1, hy2⟩ := jy_5a (t := t) (pr := nI z) (yv := yv) (zv := zv) (nu := nu) (va := va) (ag := ag) (lf := lf) (ou := pl) hok (by omega) hs hb hk hag hx ex (by omega) ey
  obtain ⟨r1, r2, r3, r4⟩ := hrel
  obtain ⟨n1, z1, c1, v1, mm1, rr1, x1, e0, ek, em⟩ := g3 u (nI z) mm pl rr ng zr cy ov (T + 1) (kx_sel zv' yv') (fun j y1 y2 => hm j y1 (by omega)) hR h13 (by omega) (by omega) hS2 (jx_ev hv r2 r3 (tx_vv hwf))
  have x2 := mx_push (u := u) (ng := n1) (zr := z1) (cy := c1) (ov := v1) (pc := nI z) (pl := pl) (mm := mm1) (rr := rr1) q1 T (by omega) (by rw [em q1 (by omega), hm q1 (by omega) (by omega), h2]) (by omega) (by rw [ek 13 (by decide) (by decide), h13])
  have e0' : rr1 0 = zv' e := e0
  refine jx_x x1 (jx_x x2 ?_)
  refine L 400 _ _ pl n1 z1 c1 v1 yv zv nu va bg ag lf t z (by omega) (fun j hj => (pk_un (by omega)).trans (em j (by omega))) pk_us hb (fun _ _ => ⟨rfl, rfl, rfl⟩) ⟨?_, fun i hi => ?_, fun i hi => ?_, r4⟩ hz (Nat.le_refl _) ?_
  · rw [pk_un (by decide), ek 12 (by decide) (by decide)]; exact r1
  · rw [pk_un (by omega), ek (4 + i) (by omega) (by omega)]; exact r2 i hi
  · rw [pk_un (by omega), ek (8 + i) (by omega) (by omega)]; exact r3 i hi
  · rw [pk_us, e0']
    exact ⟨fun ht hL => ⟨yv', zv', _, _, fun j hj => ⟨pk_un (by omega), pk_un (by omega)⟩, hy1 ht hL⟩, fun ht hL => ⟨yv', zv', _, _, fun j hj => ⟨by rw [pk_un (by omega), pk_un (by omega)], by rw [pk_un (by omega), pk_un (by omega)]⟩, by rw [pk_un (by omega), pk_us], pk_us, pk_us, hy2 ht hL⟩⟩
end
end
section
/-! compileState: one turn of its loop -/
def sx_R (post : SX → Prop) (s : SX) : Prop := match s with
  | (nc, sc, tc, lv, ce, tk, sz, ls, dp, sd, ip, ng, zr, cy, ov, hl, st, pc, nk, nx, ny, nw, ek, ex, ey, ew, qk, qx, qy, qz, qw, fn, fs, fp, gn, gp, gs, gq, mm, rr, pl) => ∃ n, wX_compileState_10 post n nc sc tc lv ce tk sz ls dp sd ip ng zr cy ov hl st pc nk nx ny nw ek ex ey ew qk qx qy qz qw fn fs fp gn gp gs gq mm rr pl
def sx_r (s s' : SX) : Prop := ∀ post, sx_R post s' → sx_R post s
theorem sx_tr {a b c : SX} (h : sx_r a b) (k : sx_r b c) : sx_r a c := fun post hp => h post (k post hp)
theorem kx_short (c : Nat) (h : c < 1024) : vp_nar .short (nI c).toInt16.toInt32 = nI c := by
  rw [vp_nar_short]
  exact (by decide +kernel : ∀ c, c < 1024 → (nI c).toInt16.toInt32.toInt16.toInt32 = nI c) c h
def cx_f0 (a : Int32) : Int32 := (a <<< ((28 : Int32) &&& 31)) ||| 167772160
theorem cx_land0 (p t : Int32) : cx_f0 0 ||| (((t - p) - 2) &&& 16777215) = cx_bw 0 0 p t := by
  unfold cx_bw; rw [show cx_f0 0 = cx_bb 0 0 from by decide +kernel]
theorem cx_land14 (p t : Int32) : cx_f0 14 ||| (((t - p) - 2) &&& 16777215) = cx_bw 14 0 p t := by
  unfold cx_bw; rw [show cx_f0 14 = cx_bb 14 0 from by decide +kernel]
section
variable {nc sc tc lv ce tk sz ls dp sd ip ng zr cy ov hl st pc : Int32} {nk nx ny nw ek ex ey ew qk qx qy qz qw fn fs fp gn gp gs gq mm rr pl : Nat → Int32} {wt : Bool → Nat → Nat} {N S : Nat}
theorem ks_ent {post : SX → Prop} {d s : Nat} (hd : d < 24) (hs : s < 100) (h : post (nc, sc, tc, lv, ce, tk, sz, ls, dp, nI (d + 1), ip, ng, zr, cy, ov, hl, st, pc, nk, nx, ny, nw, ek, ex, ey, ew, qk, qx, qy, qz, qw, fn, fs, fp, upd gn d (nI s), upd gp d 0, gs, gq, mm, rr, pl)) : wpX_enterState post (nc, sc, tc, lv, ce, tk, sz, ls, dp, nI d, ip, ng, zr, cy, ov, hl, st, pc, nk, nx, ny, nw, ek, ex, ey, ew, qk, qx, qy, qz, qw, fn, fs, fp, gn, gp, gs, gq, mm, rr, pl) (nI s) :=
  ⟨vp_in_nI hd (by decide), nm_r (e' := upd gn d (nI s)) (by rw [nI_clamp (by omega), kx_byte s (by omega)]) ⟨vp_in_nI hd (by decide), nm_r (e' := upd gp d 0) (by rw [nI_clamp (by omega), kx_b0]) (nm_r (nI_1 d) h)⟩⟩
/-- a tick, a number, a comparison with 0, a branch -/
theorem ks_test (hwf : tx_wf (kx_sel ek nk) (kx_sel ex nx) (kx_sel ey ny) wt N S) (htk : tk = nI 0) (hsz : sz = nI 5) (hls : ls = nI 13) {e p : Nat} (he : e < N) (hp1 : 23 ≤ p) (hp2 : p + 1 + 14 * wt false e ≤ 500) :
    ∃ q fn' fs' fp' mm', (∀ P : Int32 → SX → Prop, P (nI (q + 1)) (nc, sc, tc, lv, nI (q + 2), tk, sz, ls, nI 0, sd, ip, ng, zr, cy, ov, hl, st, pc, nk, nx, ny, nw, ek, ex, ey, ew, qk, qx, qy, qz, qw, fn', fs', fp', gn, gp, gs, gq, mm', rr, pl) → wpX_compileTest P (nc, sc, tc, lv, nI p, tk, sz, ls, dp, sd, ip, ng, zr, cy, ov, hl, st, pc, nk, nx, ny, nw, ek, ex, ey, ew, qk, qx, qy, qz, qw, fn, fs, fp, gn, gp, gs, gq, mm, rr, pl) (nI e)) ∧ (∀ j, j < p ∨ q + 2 ≤ j → mm' j = mm j) ∧ mm' p = cx_bw 14 1 (nI p) (nI 0) ∧ ex_sg (kx_sel ek nk) (kx_sel ex nx) (kx_sel ey ny) N S mm' (p + 1) q false e (wt false e) ∧ mm' q = cx_wd 14 10 1 0 0 (33554432 ||| 0) ∧ mm' (q + 1) = cx_f0 0 := by
  obtain ⟨q, fn', fs', fp', mm', hc, me, sg⟩ := ke_call (nc := nc) (sc := sc) (tc := tc) (lv := lv) (tk := tk) (dp := dp) (sd := sd) (ip := ip) (ng := ng) (zr := zr) (cy := cy) (ov := ov) (hl := hl) (st := st) (pc := pc) (nw := nw) (ew := ew) (qk := qk) (qx := qx) (qy := qy) (qz := qz) (qw := qw) (fn := fn) (fs := fs) (fp := fp) (gn := gn) (gp := gp) (gs := gs) (gq := gq) (mm := upd mm p (cx_bw 14 1 (nI p) (nI 0))) (rr := rr) (pl := pl) hwf hsz hls (b := false) (i := e) (p := p + 1) he (by omega) hp2
  have b1 := sg.2.1
  have b2 := sg.2.2.1
  refine ⟨q, fn', fs', fp', upd (upd mm' q (cx_wd 14 10 1 0 0 (33554432 ||| 0))) (q + 1) (cx_f0 0), fun P hP => ?_, fun j hj => ?_, ?_, ?_, ?_, ?_⟩
  · unfold wpX_compileTest
    subst htk
    refine kx_call (by omega) (hc _ ?_)
    exact kx_cw (by omega) (kx_fwd (by omega) hP)
  · rw [pk_un (by omega), pk_un (by omega), me j (by omega), pk_un (by omega)]
  · rw [pk_un (by omega), pk_un (by omega), me p (by omega), pk_us]
  · exact ex_fr sg (fun j h1 h2 => by rw [pk_un (by omega), pk_un (by omega)])
  · rw [pk_un (by omega), pk_us]
  · rw [pk_us]
/-! plain statements -/
theorem ks_plainE (hwf : tx_wf (kx_sel ek nk) (kx_sel ex nx) (kx_sel ey ny) wt N S) (htk : tk = nI 0) (hsz : sz = nI 5) (hls : ls = nI 13) {e p : Nat} {b : Bool} (he : e < ex_n N S b) (hp1 : 23 ≤ p) (hp2 : p + 1 + 14 * wt b e ≤ 500) (w : Int32) :
    ∃ q fn' fs' fp' mm', (∀ post : SX → Prop, post (nc, sc, tc, lv, nI q, tk, sz, ls, nI 0, sd, ip, ng, zr, cy, ov, hl, st, pc, nk, nx, ny, nw, ek, ex, ey, ew, qk, qx, qy, qz, qw, fn', fs', fp', gn, gp, gs, gq, mm', rr, pl) → wpX_compileExpression post (nc, sc, tc, lv, nI (p + 1), tk, sz, ls, dp, sd, ip, ng, zr, cy, ov, hl, st, pc, nk, nx, ny, nw, ek, ex, ey, ew, qk, qx, qy, qz, qw, fn, fs, fp, gn, gp, gs, gq, upd mm p (cx_bw 14 1 (nI p) (nI 0)), rr, pl) (nI e) (kx_bi b)) ∧ (∀ j, j < p ∨ q + 1 ≤ j → upd mm' q w j = mm j) ∧ upd mm' q w p = cx_bw 14 1 (nI p) (nI 0) ∧ ex_sg (kx_sel ek nk) (kx_sel ex nx) (kx_sel ey ny) N S (upd mm' q w) (p + 1) q b e (wt b e) := by
  obtain ⟨q, fn', fs', fp', mm', hc, me, sg⟩ := ke_call (nc := nc) (sc := sc) (tc := tc) (lv := lv) (tk := tk) (dp := dp) (sd := sd) (ip := ip) (ng := ng) (zr := zr) (cy := cy) (ov := ov) (hl := hl) (st := st) (pc := pc) (nw := nw) (ew := ew) (qk := qk) (qx := qx) (qy := qy) (qz := qz) (qw := qw) (fn := fn) (fs := fs) (fp := fp) (gn := gn) (gp := gp) (gs := gs) (gq := gq) (mm := upd mm p (cx_bw 14 1 (nI p) (nI 0))) (rr := rr) (pl := pl) hwf hsz hls (b := b) (i := e) (p := p + 1) he (by omega) hp2
  have b1 := sg.2.1
  refine ⟨q, fn', fs', fp', mm', hc, fun j hj => ?_, ?_, ?_⟩
  · rw [pk_un (by omega), me j (by omega), pk_un (by omega)]
  · rw [pk_un (by omega), me p (by omega), pk_us]
  · exact ex_fr sg (fun j h1 h2 => by rw [pk_un (by omega)])
variable {d s ph k p : Nat}
theorem ks_th0 {a : Nat} (hd : d < 24) (hd2 : d + 1 < 24) (hs : s < 40) (hgn : gn d = nI s) (hk : qk s = nI k) (hgp : gp d = nI ph) (hk2 : k = 2) (hph : ph = 0) (ha : qx s = nI a) (ha2 : a < 40) : sx_r (nc, sc, tc, lv, ce, tk, sz, ls, dp, nI (d + 1), ip, ng, zr, cy, ov, hl, st, pc, nk, nx, ny, nw, ek, ex, ey, ew, qk, qx, qy, qz, qw, fn, fs, fp, gn, gp, gs, gq, mm, rr, pl) (nc, sc, tc, lv, ce, tk, sz, ls, dp, nI (d + 1 + 1), ip, ng, zr, cy, ov, hl, st, pc, nk, nx, ny, nw, ek, ex, ey, ew, qk, qx, qy, qz, qw, fn, fs, fp, upd gn (d + 1) (nI a), upd (upd gp d (nI (ph + 1))) (d + 1) 0, gs, gq, mm, rr, pl) := by
  intro post hp
  obtain ⟨n, hn⟩ := hp
  refine ⟨n + 1, br_f (nI_nle (by omega) (by omega)) (nm_r (nI_pred d) ⟨vp_in_nI hd (by decide), nm_r (e' := nI s) (by rw [nI_clamp (by omega)]; exact hgn) ⟨vp_in_nI hs (by decide), nm_r (e' := nI k) (by rw [nI_clamp (by omega)]; exact hk) ⟨vp_in_nI hd (by decide), nm_r (e' := nI ph) (by rw [nI_clamp (by omega)]; exact hgp) ⟨vp_in_nI hd (by decide), vp_in_nI hd (by decide), nm_r (e' := upd gp d (nI (ph + 1))) (by rw [nI_clamp (by omega), hgp, kx_ph (by omega)]) ?_⟩⟩⟩⟩)⟩
  refine br_t (by rw [hk2]; rfl) (br_f (by rw [hph]; decide) (br_t (by rw [hph]; rfl) ⟨vp_in_nI hs (by decide), ?_⟩))
  rw [nI_clamp (show s < 2 ^ 31 by omega), ha]
  exact ks_ent hd2 (by omega) hn
theorem ks_th1 {a : Nat} (hd : d < 24) (hd2 : d + 1 < 24) (hs : s < 40) (hgn : gn d = nI s) (hk : qk s = nI k) (hgp : gp d = nI ph) (hk2 : k = 2) (hph : ph = 1) (ha : qy s = nI a) (ha2 : a < 40) : sx_r (nc, sc, tc, lv, ce, tk, sz, ls, dp, nI (d + 1), ip, ng, zr, cy, ov, hl, st, pc, nk, nx, ny, nw, ek, ex, ey, ew, qk, qx, qy, qz, qw, fn, fs, fp, gn, gp, gs, gq, mm, rr, pl) (nc, sc, tc, lv, ce, tk, sz, ls, dp, nI (d + 1 + 1), ip, ng, zr, cy, ov, hl, st, pc, nk, nx, ny, nw, ek, ex, ey, ew, qk, qx, qy, qz, qw, fn, fs, fp, upd gn (d + 1) (nI a), upd (upd gp d (nI (ph + 1))) (d + 1) 0, gs, gq, mm, rr, pl) := by
  intro post hp
  obtain ⟨n, hn⟩ := hp
  refine ⟨n + 1, br_f (nI_nle (by omega) (by omega)) (nm_r (nI_pred d) ⟨vp_in_nI hd (by decide), nm_r (e' := nI s) (by rw [nI_clamp (by omega)]; exact hgn) ⟨vp_in_nI hs (by decide), nm_r (e' := nI k) (by rw [nI_clamp (by omega)]; exact hk) ⟨vp_in_nI hd (by decide), nm_r (e' := nI ph) (by rw [nI_clamp (by omega)]; exact hgp) ⟨vp_in_nI hd (by decide), vp_in_nI hd (by decide), nm_r (e' := upd gp d (nI (ph + 1))) (by rw [nI_clamp (by omega), hgp, kx_ph (by omega)]) ?_⟩⟩⟩⟩)⟩
  refine br_t (by rw [hk2]; rfl) (br_f (by rw [hph]; decide) (br_f (by rw [hph]; decide) ⟨vp_in_nI hs (by decide), ?_⟩))
  rw [nI_clamp (show s < 2 ^ 31 by omega), ha]
  exact ks_ent hd2 (by omega) hn
theorem ks_th2 (hd : d < 24) (hs : s < 40) (hgn : gn d = nI s) (hk : qk s = nI k) (hgp : gp d = nI ph) (hk2 : k = 2) (hph : ph = 2) : sx_r (nc, sc, tc, lv, ce, tk, sz, ls, dp, nI (d + 1), ip, ng, zr, cy, ov, hl, st, pc, nk, nx, ny, nw, ek, ex, ey, ew, qk, qx, qy, qz, qw, fn, fs, fp, gn, gp, gs, gq, mm, rr, pl) (nc, sc, tc, lv, ce, tk, sz, ls, dp, nI d, ip, ng, zr, cy, ov, hl, st, pc, nk, nx, ny, nw, ek, ex, ey, ew, qk, qx, qy, qz, qw, fn, fs, fp, gn, upd gp d (nI (ph + 1)), gs, gq, mm, rr, pl) := by
  intro post hp
  obtain ⟨n, hn⟩ := hp
  refine ⟨n + 1, br_f (nI_nle (by omega) (by omega)) (nm_r (nI_pred d) ⟨vp_in_nI hd (by decide), nm_r (e' := nI s) (by rw [nI_clamp (by omega)]; exact hgn) ⟨vp_in_nI hs (by decide), nm_r (e' := nI k) (by rw [nI_clamp (by omega)]; exact hk) ⟨vp_in_nI hd (by decide), nm_r (e' := nI ph) (by rw [nI_clamp (by omega)]; exact hgp) ⟨vp_in_nI hd (by decide), vp_in_nI hd (by decide), nm_r (e' := upd gp d (nI (ph + 1))) (by rw [nI_clamp (by omega), hgp, kx_ph (by omega)]) ?_⟩⟩⟩⟩)⟩
  exact br_t (by rw [hk2]; rfl) (br_t (by rw [hph]; rfl) (nm_r (nI_pred d) hn))
/-- NOTHING -/
theorem ks_no (hd : d < 24) (hs : s < 40) (hgn : gn d = nI s) (hk : qk s = nI k) (hgp : gp d = nI ph) (hk2 : k = 7) (hph : ph = 0) : sx_r (nc, sc, tc, lv, ce, tk, sz, ls, dp, nI (d + 1), ip, ng, zr, cy, ov, hl, st, pc, nk, nx, ny, nw, ek, ex, ey, ew, qk, qx, qy, qz, qw, fn, fs, fp, gn, gp, gs, gq, mm, rr, pl) (nc, sc, tc, lv, ce, tk, sz, ls, dp, nI d, ip, ng, zr, cy, ov, hl, st, pc, nk, nx, ny, nw, ek, ex, ey, ew, qk, qx, qy, qz, qw, fn, fs, fp, gn, upd gp d (nI (ph + 1)), gs, gq, mm, rr, pl) := by
  intro post hp
  obtain ⟨n, hn⟩ := hp
  refine ⟨n + 1, br_f (nI_nle (by omega) (by omega)) (nm_r (nI_pred d) ⟨vp_in_nI hd (by decide), nm_r (e' := nI s) (by rw [nI_clamp (by omega)]; exact hgn) ⟨vp_in_nI hs (by decide), nm_r (e' := nI k) (by rw [nI_clamp (by omega)]; exact hk) ⟨vp_in_nI hd (by decide), nm_r (e' := nI ph) (by rw [nI_clamp (by omega)]; exact hgp) ⟨vp_in_nI hd (by decide), vp_in_nI hd (by decide), nm_r (e' := upd gp d (nI (ph + 1))) (by rw [nI_clamp (by omega), hgp, kx_ph (by omega)]) ?_⟩⟩⟩⟩)⟩
  subst hk2
  exact br_f (by decide) (br_f (by decide) (br_f (by decide) (br_f (by decide) (nm_r (nI_pred d) (br_t rfl hn)))))
/-- PRINT -/
theorem ks_pr {e q : Nat} {fn' fs' fp' mm' : Nat → Int32} (hd : d < 24) (hs : s < 40) (hgn : gn d = nI s) (hk : qk s = nI k) (hgp : gp d = nI ph) (hk2 : k = 6) (hph : ph = 0) (hp : p < 1024) (hq : q < 1024) (he : qx s = nI e) (htk : tk = nI 0) (hc : ∀ post : SX → Prop, post (nc, sc, tc, lv, nI q, tk, sz, ls, nI 0, nI d, ip, ng, zr, cy, ov, hl, st, pc, nk, nx, ny, nw, ek, ex, ey, ew, qk, qx, qy, qz, qw, fn', fs', fp', gn, upd gp d (nI (ph + 1)), gs, gq, mm', rr, pl) → wpX_compileExpression post (nc, sc, tc, lv, nI (p + 1), tk, sz, ls, dp, nI d, ip, ng, zr, cy, ov, hl, st, pc, nk, nx, ny, nw, ek, ex, ey, ew, qk, qx, qy, qz, qw, fn, fs, fp, gn, upd gp d (nI (ph + 1)), gs, gq, upd mm p (cx_bw 14 1 (nI p) (nI 0)), rr, pl) (nI e) 0) : sx_r (nc, sc, tc, lv, nI p, tk, sz, ls, dp, nI (d + 1), ip, ng, zr, cy, ov, hl, st, pc, nk, nx, ny, nw, ek, ex, ey, ew, qk, qx, qy, qz, qw, fn, fs, fp, gn, gp, gs, gq, mm, rr, pl) (nc, sc, tc, lv, nI (q + 1), tk, sz, ls, nI 0, nI d, ip, ng, zr, cy, ov, hl, st, pc, nk, nx, ny, nw, ek, ex, ey, ew, qk, qx, qy, qz, qw, fn', fs', fp', gn, upd gp d (nI (ph + 1)), gs, gq, upd mm' q (-285212671), rr, pl) := by
  have hp' := hp
  intro post hp
  obtain ⟨n, hn⟩ := hp
  refine ⟨n + 1, br_f (nI_nle (by omega) (by omega)) (nm_r (nI_pred d) ⟨vp_in_nI hd (by decide), nm_r (e' := nI s) (by rw [nI_clamp (by omega)]; exact hgn) ⟨vp_in_nI hs (by decide), nm_r (e' := nI k) (by rw [nI_clamp (by omega)]; exact hk) ⟨vp_in_nI hd (by decide), nm_r (e' := nI ph) (by rw [nI_clamp (by omega)]; exact hgp) ⟨vp_in_nI hd (by decide), vp_in_nI hd (by decide), nm_r (e' := upd gp d (nI (ph + 1))) (by rw [nI_clamp (by omega), hgp, kx_ph (by omega)]) ?_⟩⟩⟩⟩)⟩
  subst hk2 htk
  refine br_f (by decide) (br_f (by decide) (br_f (by decide) (br_f (by decide) (nm_r (nI_pred d) (br_f (by decide) (kx_call hp' (br_t rfl ⟨vp_in_nI hs (by decide), ?_⟩)))))))
  rw [nI_clamp (show s < 2 ^ 31 by omega), he]
  exact hc _ (kx_put hq hn)
/-- PUT_NUMBER -/
theorem ks_p0 {e x q : Nat} {fn' fs' fp' mm' : Nat → Int32} (hd : d < 24) (hs : s < 40) (hgn : gn d = nI s) (hk : qk s = nI k) (hgp : gp d = nI ph) (hk2 : k = 0) (hph : ph = 0) (hp : p < 1024) (hq : q < 1024) (hx : qx s = nI x) (he : qy s = nI e) (htk : tk = nI 0) (hc : ∀ post : SX → Prop, post (nc, sc, tc, lv, nI q, tk, sz, ls, nI 0, nI d, ip, ng, zr, cy, ov, hl, st, pc, nk, nx, ny, nw, ek, ex, ey, ew, qk, qx, qy, qz, qw, fn', fs', fp', gn, upd gp d (nI (ph + 1)), gs, gq, mm', rr, pl) → wpX_compileExpression post (nc, sc, tc, lv, nI (p + 1), tk, sz, ls, dp, nI d, ip, ng, zr, cy, ov, hl, st, pc, nk, nx, ny, nw, ek, ex, ey, ew, qk, qx, qy, qz, qw, fn, fs, fp, gn, upd gp d (nI (ph + 1)), gs, gq, upd mm p (cx_bw 14 1 (nI p) (nI 0)), rr, pl) (nI e) 0) : sx_r (nc, sc, tc, lv, nI p, tk, sz, ls, dp, nI (d + 1), ip, ng, zr, cy, ov, hl, st, pc, nk, nx, ny, nw, ek, ex, ey, ew, qk, qx, qy, qz, qw, fn, fs, fp, gn, gp, gs, gq, mm, rr, pl) (nc, sc, tc, lv, nI (q + 1), tk, sz, ls, nI 0, nI d, ip, ng, zr, cy, ov, hl, st, pc, nk, nx, ny, nw, ek, ex, ey, ew, qk, qx, qy, qz, qw, fn', fs', fp', gn, upd gp d (nI (ph + 1)), gs, gq, upd mm' q (cx_wd 14 13 0 (4 + nI x) 0 0), rr, pl) := by
  have hp' := hp
  intro post hp
  obtain ⟨n, hn⟩ := hp
  refine ⟨n + 1, br_f (nI_nle (by omega) (by omega)) (nm_r (nI_pred d) ⟨vp_in_nI hd (by decide), nm_r (e' := nI s) (by rw [nI_clamp (by omega)]; exact hgn) ⟨vp_in_nI hs (by decide), nm_r (e' := nI k) (by rw [nI_clamp (by omega)]; exact hk) ⟨vp_in_nI hd (by decide), nm_r (e' := nI ph) (by rw [nI_clamp (by omega)]; exact hgp) ⟨vp_in_nI hd (by decide), vp_in_nI hd (by decide), nm_r (e' := upd gp d (nI (ph + 1))) (by rw [nI_clamp (by omega), hgp, kx_ph (by omega)]) ?_⟩⟩⟩⟩)⟩
  subst hk2 htk
  refine br_f (by decide) (br_f (by decide) (br_f (by decide) (br_f (by decide) (nm_r (nI_pred d) (br_f (by decide) (kx_call hp' (br_f (by decide) ⟨vp_in_nI hs (by decide), br_f (by decide) ?_⟩)))))))
  rw [nI_clamp (show s < 2 ^ 31 by omega), he]
  unfold wX_compilePlain_57
  refine hc _ (br_f (by decide) ⟨vp_in_nI hs (by decide), ?_⟩)
  rw [nI_clamp (show s < 2 ^ 31 by omega), hx]
  exact kx_d0 hq (Or.inr ⟨by decide, by decide⟩) hn
/-- PUT_SET -/
theorem ks_p1 {e x q : Nat} {fn' fs' fp' mm' : Nat → Int32} (hd : d < 24) (hs : s < 40) (hgn : gn d = nI s) (hk : qk s = nI k) (hgp : gp d = nI ph) (hk2 : k = 1) (hph : ph = 0) (hp : p < 1024) (hq : q < 1024) (hx : qx s = nI x) (he : qy s = nI e) (htk : tk = nI 0) (hc : ∀ post : SX → Prop, post (nc, sc, tc, lv, nI q, tk, sz, ls, nI 0, nI d, ip, ng, zr, cy, ov, hl, st, pc, nk, nx, ny, nw, ek, ex, ey, ew, qk, qx, qy, qz, qw, fn', fs', fp', gn, upd gp d (nI (ph + 1)), gs, gq, mm', rr, pl) → wpX_compileExpression post (nc, sc, tc, lv, nI (p + 1), tk, sz, ls, dp, nI d, ip, ng, zr, cy, ov, hl, st, pc, nk, nx, ny, nw, ek, ex, ey, ew, qk, qx, qy, qz, qw, fn, fs, fp, gn, upd gp d (nI (ph + 1)), gs, gq, upd mm p (cx_bw 14 1 (nI p) (nI 0)), rr, pl) (nI e) 1) : sx_r (nc, sc, tc, lv, nI p, tk, sz, ls, dp, nI (d + 1), ip, ng, zr, cy, ov, hl, st, pc, nk, nx, ny, nw, ek, ex, ey, ew, qk, qx, qy, qz, qw, fn, fs, fp, gn, gp, gs, gq, mm, rr, pl) (nc, sc, tc, lv, nI (q + 1), tk, sz, ls, nI 0, nI d, ip, ng, zr, cy, ov, hl, st, pc, nk, nx, ny, nw, ek, ex, ey, ew, qk, qx, qy, qz, qw, fn', fs', fp', gn, upd gp d (nI (ph + 1)), gs, gq, upd mm' q (cx_wd 14 13 0 (8 + nI x) 0 0), rr, pl) := by
  have hp' := hp
  intro post hp
  obtain ⟨n, hn⟩ := hp
  refine ⟨n + 1, br_f (nI_nle (by omega) (by omega)) (nm_r (nI_pred d) ⟨vp_in_nI hd (by decide), nm_r (e' := nI s) (by rw [nI_clamp (by omega)]; exact hgn) ⟨vp_in_nI hs (by decide), nm_r (e' := nI k) (by rw [nI_clamp (by omega)]; exact hk) ⟨vp_in_nI hd (by decide), nm_r (e' := nI ph) (by rw [nI_clamp (by omega)]; exact hgp) ⟨vp_in_nI hd (by decide), vp_in_nI hd (by decide), nm_r (e' := upd gp d (nI (ph + 1))) (by rw [nI_clamp (by omega), hgp, kx_ph (by omega)]) ?_⟩⟩⟩⟩)⟩
  subst hk2 htk
  refine br_f (by decide) (br_f (by decide) (br_f (by decide) (br_f (by decide) (nm_r (nI_pred d) (br_f (by decide) (kx_call hp' (br_f (by decide) ⟨vp_in_nI hs (by decide), br_t rfl ?_⟩)))))))
  rw [nI_clamp (show s < 2 ^ 31 by omega), he]
  unfold wX_compilePlain_57
  refine hc _ (br_t rfl ⟨vp_in_nI hs (by decide), ?_⟩)
  rw [nI_clamp (show s < 2 ^ 31 by omega), hx]
  exact kx_d0 hq (Or.inr ⟨by decide, by decide⟩) hn
/-- IF, first -/
theorem ks_if0 {e a q : Nat} {fn' fs' fp' mm' : Nat → Int32} (hd : d < 24) (hd2 : d + 1 < 24) (hs : s < 40) (hgn : gn d = nI s) (hk : qk s = nI k) (hgp : gp d = nI ph) (hk2 : k = 3) (hph : ph = 0) (hq : q + 1 < 1024) (hx : qx s = nI e) (hy : qy s = nI a) (ha : a < 40) (hc : ∀ P : Int32 → SX → Prop, P (nI (q + 1)) (nc, sc, tc, lv, nI (q + 2), tk, sz, ls, nI 0, nI (d + 1), ip, ng, zr, cy, ov, hl, st, pc, nk, nx, ny, nw, ek, ex, ey, ew, qk, qx, qy, qz, qw, fn', fs', fp', gn, upd gp d (nI (ph + 1)), gs, gq, mm', rr, pl) → wpX_compileTest P (nc, sc, tc, lv, nI p, tk, sz, ls, dp, nI (d + 1), ip, ng, zr, cy, ov, hl, st, pc, nk, nx, ny, nw, ek, ex, ey, ew, qk, qx, qy, qz, qw, fn, fs, fp, gn, upd gp d (nI (ph + 1)), gs, gq, mm, rr, pl) (nI e)) : sx_r (nc, sc, tc, lv, nI p, tk, sz, ls, dp, nI (d + 1), ip, ng, zr, cy, ov, hl, st, pc, nk, nx, ny, nw, ek, ex, ey, ew, qk, qx, qy, qz, qw, fn, fs, fp, gn, gp, gs, gq, mm, rr, pl) (nc, sc, tc, lv, nI (q + 2), tk, sz, ls, nI 0, nI (d + 1 + 1), ip, ng, zr, cy, ov, hl, st, pc, nk, nx, ny, nw, ek, ex, ey, ew, qk, qx, qy, qz, qw, fn', fs', fp', upd gn (d + 1) (nI a), upd (upd gp d (nI (ph + 1))) (d + 1) 0, gs, upd gq d (nI (q + 1)), mm', rr, pl) := by
  intro post hp
  obtain ⟨n, hn⟩ := hp
  refine ⟨n + 1, br_f (nI_nle (by omega) (by omega)) (nm_r (nI_pred d) ⟨vp_in_nI hd (by decide), nm_r (e' := nI s) (by rw [nI_clamp (by omega)]; exact hgn) ⟨vp_in_nI hs (by decide), nm_r (e' := nI k) (by rw [nI_clamp (by omega)]; exact hk) ⟨vp_in_nI hd (by decide), nm_r (e' := nI ph) (by rw [nI_clamp (by omega)]; exact hgp) ⟨vp_in_nI hd (by decide), vp_in_nI hd (by decide), nm_r (e' := upd gp d (nI (ph + 1))) (by rw [nI_clamp (by omega), hgp, kx_ph (by omega)]) ?_⟩⟩⟩⟩)⟩
  subst hk2 hph
  refine br_f (by decide) (br_t rfl (br_t rfl ⟨vp_in_nI hs (by decide), ?_⟩))
  rw [nI_clamp (show s < 2 ^ 31 by omega), hx]
  refine hc _ ⟨vp_in_nI hd (by decide), nm_r (e' := upd gq d (nI (q + 1))) (by rw [nI_clamp (by omega), kx_short _ hq]) ⟨vp_in_nI hs (by decide), ?_⟩⟩
  rw [hy]
  exact ks_ent hd2 (by omega) hn
/-- IF, the end -/
theorem ks_ifE {l : Nat} (hd : d < 24) (hs : s < 40) (hgn : gn d = nI s) (hk : qk s = nI k) (hgp : gp d = nI ph) (hk2 : k = 3) (hph : (ph = 1 ∧ qz s < 0) ∨ ph = 2) (hl1 : l < 1024) (hgq : gq d = nI l) : sx_r (nc, sc, tc, lv, ce, tk, sz, ls, dp, nI (d + 1), ip, ng, zr, cy, ov, hl, st, pc, nk, nx, ny, nw, ek, ex, ey, ew, qk, qx, qy, qz, qw, fn, fs, fp, gn, gp, gs, gq, mm, rr, pl) (nc, sc, tc, lv, ce, tk, sz, ls, dp, nI d, ip, ng, zr, cy, ov, hl, st, pc, nk, nx, ny, nw, ek, ex, ey, ew, qk, qx, qy, qz, qw, fn, fs, fp, gn, upd gp d (nI (ph + 1)), gs, gq, upd mm l (mm l ||| (((ce - nI l) - 2) &&& 16777215)), rr, pl) := by
  intro post hp
  obtain ⟨n, hn⟩ := hp
  refine ⟨n + 1, br_f (nI_nle (by omega) (by omega)) (nm_r (nI_pred d) ⟨vp_in_nI hd (by decide), nm_r (e' := nI s) (by rw [nI_clamp (by omega)]; exact hgn) ⟨vp_in_nI hs (by decide), nm_r (e' := nI k) (by rw [nI_clamp (by omega)]; exact hk) ⟨vp_in_nI hd (by decide), nm_r (e' := nI ph) (by rw [nI_clamp (by omega)]; exact hgp) ⟨vp_in_nI hd (by decide), vp_in_nI hd (by decide), nm_r (e' := upd gp d (nI (ph + 1))) (by rw [nI_clamp (by omega), hgp, kx_ph (by omega)]) ?_⟩⟩⟩⟩)⟩
  subst hk2
  have K : wX_compileIf_88 (fun u => match u with | (nc, sc, tc, lv, ce, tk, sz, ls, dp, sd, ip, ng, zr, cy, ov, hl, st, pc, nk, nx, ny, nw, ek, ex, ey, ew, qk, qx, qy, qz, qw, fn, fs, fp, gn, gp, gs, gq, mm, rr, pl) => wX_compileState_10 post n nc sc tc lv ce tk sz ls dp sd ip ng zr cy ov hl st pc nk nx ny nw ek ex ey ew qk qx qy qz qw fn fs fp gn gp gs gq mm rr pl) (nI d) nc sc tc lv ce tk sz ls dp (nI (d + 1)) ip ng zr cy ov hl st pc nk nx ny nw ek ex ey ew qk qx qy qz qw fn fs fp gn (upd gp d (nI (ph + 1))) gs gq mm rr pl := by
    refine ⟨vp_in_nI hd (by decide), ?_⟩
    rw [nI_clamp (show d < 2 ^ 31 by omega), hgq]
    exact kx_land hl1 (nm_r (nI_pred d) hn)
  rcases hph with ⟨rfl, hz⟩ | rfl
  · refine br_f (by decide) (br_t rfl (br_f (by decide) (br_t rfl ⟨vp_in_nI hs (by decide), ?_⟩)))
    rw [nI_clamp (show s < 2 ^ 31 by omega)]
    exact br_t hz K
  · exact br_f (by decide) (br_t rfl (br_f (by decide) (br_f (by decide) K)))
/-- IF, between the branches -/
theorem ks_if1 {l c : Nat} (hd : d < 24) (hd2 : d + 1 < 24) (hs : s < 40) (hgn : gn d = nI s) (hk : qk s = nI k) (hgp : gp d = nI ph) (hk2 : k = 3) (hph : ph = 1) (hc : c < 40) (hz : qz s = nI c) (hl1 : l < 1024) (hlp : l < p) (hp : p < 1024) (hgq : gq d = nI l) : sx_r (nc, sc, tc, lv, nI p, tk, sz, ls, dp, nI (d + 1), ip, ng, zr, cy, ov, hl, st, pc, nk, nx, ny, nw, ek, ex, ey, ew, qk, qx, qy, qz, qw, fn, fs, fp, gn, gp, gs, gq, mm, rr, pl) (nc, sc, tc, lv, nI (p + 1), tk, sz, ls, dp, nI (d + 1 + 1), ip, ng, zr, cy, ov, hl, st, pc, nk, nx, ny, nw, ek, ex, ey, ew, qk, qx, qy, qz, qw, fn, fs, fp, upd gn (d + 1) (nI c), upd (upd gp d (nI (ph + 1))) (d + 1) 0, gs, upd gq d (nI p), upd (upd mm p (cx_f0 14)) l (mm l ||| (((nI (p + 1) - nI l) - 2) &&& 16777215)), rr, pl) := by
  have hp' := hp
  intro post hp
  obtain ⟨n, hn⟩ := hp
  refine ⟨n + 1, br_f (nI_nle (by omega) (by omega)) (nm_r (nI_pred d) ⟨vp_in_nI hd (by decide), nm_r (e' := nI s) (by rw [nI_clamp (by omega)]; exact hgn) ⟨vp_in_nI hs (by decide), nm_r (e' := nI k) (by rw [nI_clamp (by omega)]; exact hk) ⟨vp_in_nI hd (by decide), nm_r (e' := nI ph) (by rw [nI_clamp (by omega)]; exact hgp) ⟨vp_in_nI hd (by decide), vp_in_nI hd (by decide), nm_r (e' := upd gp d (nI (ph + 1))) (by rw [nI_clamp (by omega), hgp, kx_ph (by omega)]) ?_⟩⟩⟩⟩)⟩
  subst hk2 hph
  refine br_f (by decide) (br_t rfl (br_f (by decide) (br_t rfl ⟨vp_in_nI hs (by decide), ?_⟩)))
  rw [nI_clamp (show s < 2 ^ 31 by omega), hz]
  refine br_f (nI_pos (by omega)) (kx_fwd hp' ⟨vp_in_nI hd (by decide), ?_⟩)
  rw [nI_clamp (show d < 2 ^ 31 by omega), hgq]
  refine kx_land hl1 ⟨vp_in_nI hd (by decide), nm_r (e' := upd gq d (nI p)) (by rw [kx_short _ hp']) ⟨vp_in_nI hs (by decide), ?_⟩⟩
  rw [hz]
  refine ks_ent hd2 (by omega) ?_
  rw [show ((14 : Int32) <<< ((28 : Int32) &&& 31)) ||| 167772160 = cx_f0 14 from rfl, pk_un (by omega)]
  exact hn
end
end
section
/-! compileState: loops -/
section
variable {nc sc tc lv ce tk sz ls dp sd ip ng zr cy ov hl st pc : Int32} {nk nx ny nw ek ex ey ew qk qx qy qz qw fn fs fp gn gp gs gq mm rr pl : Nat → Int32} {d s ph k p : Nat}
/-- WHILE, first -/
theorem ks_wh0 {e a q : Nat} {fn' fs' fp' mm' : Nat → Int32} (hd : d < 24) (hd2 : d + 1 < 24) (hs : s < 40) (hgn : gn d = nI s) (hk : qk s = nI k) (hgp : gp d = nI ph) (hk2 : k = 4) (hph : ph = 0) (hp : p < 1024) (hq : q + 1 < 1024) (hx : qx s = nI e) (hy : qy s = nI a) (ha : a < 40) (hc : ∀ P : Int32 → SX → Prop, P (nI (q + 1)) (nc, sc, tc, lv, nI (q + 2), tk, sz, ls, nI 0, nI (d + 1), ip, ng, zr, cy, ov, hl, st, pc, nk, nx, ny, nw, ek, ex, ey, ew, qk, qx, qy, qz, qw, fn', fs', fp', gn, upd gp d (nI (ph + 1)), upd gs d (nI p), gq, mm', rr, pl) → wpX_compileTest P (nc, sc, tc, lv, nI p, tk, sz, ls, dp, nI (d + 1), ip, ng, zr, cy, ov, hl, st, pc, nk, nx, ny, nw, ek, ex, ey, ew, qk, qx, qy, qz, qw, fn, fs, fp, gn, upd gp d (nI (ph + 1)), upd gs d (nI p), gq, mm, rr, pl) (nI e)) : sx_r (nc, sc, tc, lv, nI p, tk, sz, ls, dp, nI (d + 1), ip, ng, zr, cy, ov, hl, st, pc, nk, nx, ny, nw, ek, ex, ey, ew, qk, qx, qy, qz, qw, fn, fs, fp, gn, gp, gs, gq, mm, rr, pl) (nc, sc, tc, lv, nI (q + 2), tk, sz, ls, nI 0, nI (d + 1 + 1), ip, ng, zr, cy, ov, hl, st, pc, nk, nx, ny, nw, ek, ex, ey, ew, qk, qx, qy, qz, qw, fn', fs', fp', upd gn (d + 1) (nI a), upd (upd gp d (nI (ph + 1))) (d + 1) 0, upd gs d (nI p), upd gq d (nI (q + 1)), mm', rr, pl) := by
  have hp' := hp
  intro post hp
  obtain ⟨n, hn⟩ := hp
  refine ⟨n + 1, br_f (nI_nle (by omega) (by omega)) (nm_r (nI_pred d) ⟨vp_in_nI hd (by decide), nm_r (e' := nI s) (by rw [nI_clamp (by omega)]; exact hgn) ⟨vp_in_nI hs (by decide), nm_r (e' := nI k) (by rw [nI_clamp (by omega)]; exact hk) ⟨vp_in_nI hd (by decide), nm_r (e' := nI ph) (by rw [nI_clamp (by omega)]; exact hgp) ⟨vp_in_nI hd (by decide), vp_in_nI hd (by decide), nm_r (e' := upd gp d (nI (ph + 1))) (by rw [nI_clamp (by omega), hgp, kx_ph (by omega)]) ?_⟩⟩⟩⟩)⟩
  subst hk2 hph
  refine br_f (by decide) (br_f (by decide) (br_t rfl (br_t (by decide) (br_t rfl ⟨vp_in_nI hd (by decide), nm_r (e' := upd gs d (nI p)) (by rw [nI_clamp (by omega), kx_short _ hp']) ⟨vp_in_nI hs (by decide), ?_⟩⟩))))
  rw [nI_clamp (show s < 2 ^ 31 by omega), hx]
  refine hc _ ⟨vp_in_nI hd (by decide), nm_r (e' := upd gq d (nI (q + 1))) (by rw [nI_clamp (by omega), kx_short _ hq]) ⟨vp_in_nI hs (by decide), ?_⟩⟩
  rw [hy]
  exact ks_ent hd2 (by omega) hn
/-- the end of a loop: WHILE -/
theorem ks_whE {l c : Nat} (hd : d < 24) (hs : s < 40) (hgn : gn d = nI s) (hk : qk s = nI k) (hgp : gp d = nI ph) (hk2 : k = 4) (hph : ph = 1) (hl1 : l < 1024) (hlp : l < p) (hp : p < 1024) (hgq : gq d = nI l) (hgs : gs d = nI c) : sx_r (nc, sc, tc, lv, nI p, tk, sz, ls, dp, nI (d + 1), ip, ng, zr, cy, ov, hl, st, pc, nk, nx, ny, nw, ek, ex, ey, ew, qk, qx, qy, qz, qw, fn, fs, fp, gn, gp, gs, gq, mm, rr, pl) (nc, sc, tc, lv, nI (p + 1), tk, sz, ls, dp, nI d, ip, ng, zr, cy, ov, hl, st, pc, nk, nx, ny, nw, ek, ex, ey, ew, qk, qx, qy, qz, qw, fn, fs, fp, gn, upd gp d (nI (ph + 1)), gs, gq, upd (upd mm p (cx_bw 14 0 (nI p) (nI c))) l (mm l ||| (((nI (p + 1) - nI l) - 2) &&& 16777215)), rr, pl) := by
  have hp' := hp
  intro post hp
  obtain ⟨n, hn⟩ := hp
  refine ⟨n + 1, br_f (nI_nle (by omega) (by omega)) (nm_r (nI_pred d) ⟨vp_in_nI hd (by decide), nm_r (e' := nI s) (by rw [nI_clamp (by omega)]; exact hgn) ⟨vp_in_nI hs (by decide), nm_r (e' := nI k) (by rw [nI_clamp (by omega)]; exact hk) ⟨vp_in_nI hd (by decide), nm_r (e' := nI ph) (by rw [nI_clamp (by omega)]; exact hgp) ⟨vp_in_nI hd (by decide), vp_in_nI hd (by decide), nm_r (e' := upd gp d (nI (ph + 1))) (by rw [nI_clamp (by omega), hgp, kx_ph (by omega)]) ?_⟩⟩⟩⟩)⟩
  subst hk2 hph
  refine br_f (by decide) (br_f (by decide) (br_t rfl (br_f (by decide) ⟨vp_in_nI hd (by decide), ?_⟩)))
  rw [nI_clamp (show d < 2 ^ 31 by omega), hgs]
  refine kx_branch hp' ⟨vp_in_nI hd (by decide), ?_⟩
  rw [hgq]
  refine kx_land hl1 (br_f (by decide) (nm_r (nI_pred d) ?_))
  rw [pk_un (show l ≠ p by omega)]
  exact hn
/-- the end of a loop: EACH -/
theorem ks_eaE {l c : Nat} (hd : d < 24) (hs : s < 40) (hgn : gn d = nI s) (hk : qk s = nI k) (hgp : gp d = nI ph) (hk2 : k = 5) (hph : ph = 1) (hl1 : l < 1024) (hlp : l < p) (hp : p + 1 < 1024) (hgq : gq d = nI l) (hgs : gs d = nI c) : sx_r (nc, sc, tc, lv, nI p, tk, sz, ls, dp, nI (d + 1), ip, ng, zr, cy, ov, hl, st, pc, nk, nx, ny, nw, ek, ex, ey, ew, qk, qx, qy, qz, qw, fn, fs, fp, gn, gp, gs, gq, mm, rr, pl) (nc, sc, tc, lv, nI (p + 1 + 1), tk, sz, ls, dp, nI d, ip, ng, zr, cy, ov, hl, st, pc, nk, nx, ny, nw, ek, ex, ey, ew, qk, qx, qy, qz, qw, fn, fs, fp, gn, upd gp d (nI (ph + 1)), gs, gq, upd (upd (upd mm p (cx_bw 14 0 (nI p) (nI c))) l (mm l ||| (((nI (p + 1) - nI l) - 2) &&& 16777215))) (p + 1) (cx_wd 14 4 0 13 13 33554436), rr, pl) := by
  have hp' := hp
  intro post hp
  obtain ⟨n, hn⟩ := hp
  refine ⟨n + 1, br_f (nI_nle (by omega) (by omega)) (nm_r (nI_pred d) ⟨vp_in_nI hd (by decide), nm_r (e' := nI s) (by rw [nI_clamp (by omega)]; exact hgn) ⟨vp_in_nI hs (by decide), nm_r (e' := nI k) (by rw [nI_clamp (by omega)]; exact hk) ⟨vp_in_nI hd (by decide), nm_r (e' := nI ph) (by rw [nI_clamp (by omega)]; exact hgp) ⟨vp_in_nI hd (by decide), vp_in_nI hd (by decide), nm_r (e' := upd gp d (nI (ph + 1))) (by rw [nI_clamp (by omega), hgp, kx_ph (by omega)]) ?_⟩⟩⟩⟩)⟩
  subst hk2 hph
  refine br_f (by decide) (br_f (by decide) (br_f (by decide) (br_t rfl (br_f (by decide) ⟨vp_in_nI hd (by decide), ?_⟩))))
  rw [nI_clamp (show d < 2 ^ 31 by omega), hgs]
  refine kx_branch (by omega) ⟨vp_in_nI hd (by decide), ?_⟩
  rw [hgq]
  refine kx_land hl1 (br_t rfl (kx_d0 hp' (Or.inl (by decide)) (nm_r (nI_pred d) ?_)))
  rw [pk_un (show l ≠ p by omega)]
  exact hn
/-- EACH: what stands behind the set's code, up to the body -/
def cx_ea (q x : Nat) : List Int32 := [mx_wpush, cx_bw 14 1 (nI (q + 1)) (nI 0), mx_wpeek 1 0, cx_wd 14 10 1 0 0 (33554432 ||| 0), cx_f0 0, cx_wd 14 2 0 1 0 33554433, cx_wd 14 0 0 1 1 0, mx_wpeek 0 1, cx_bw 14 1 (nI (q + 8)) (nI 13), cx_wd 14 13 0 (4 + nI x) 0 0]
theorem ks_ea0 {x e a q : Nat} {fn' fs' fp' mm' : Nat → Int32} (hd : d < 24) (hd2 : d + 1 < 24) (hs : s < 40) (hgn : gn d = nI s) (hk : qk s = nI k) (hgp : gp d = nI ph) (hk2 : k = 5) (hph : ph = 0) (hq : q + 12 < 1024) (hx : qx s = nI x) (hy : qy s = nI e) (hz : qz s = nI a) (ha : a < 40) (htk : tk = nI 0) (hls : ls = nI 13) (hc : ∀ post : SX → Prop, post (nc, sc, tc, lv, nI q, tk, sz, ls, nI 0, nI (d + 1), ip, ng, zr, cy, ov, hl, st, pc, nk, nx, ny, nw, ek, ex, ey, ew, qk, qx, qy, qz, qw, fn', fs', fp', gn, upd gp d (nI (ph + 1)), gs, gq, mm', rr, pl) → wpX_compileExpression post (nc, sc, tc, lv, nI p, tk, sz, ls, dp, nI (d + 1), ip, ng, zr, cy, ov, hl, st, pc, nk, nx, ny, nw, ek, ex, ey, ew, qk, qx, qy, qz, qw, fn, fs, fp, gn, upd gp d (nI (ph + 1)), gs, gq, mm, rr, pl) (nI e) 1) :
    sx_r (nc, sc, tc, lv, nI p, tk, sz, ls, dp, nI (d + 1), ip, ng, zr, cy, ov, hl, st, pc, nk, nx, ny, nw, ek, ex, ey, ew, qk, qx, qy, qz, qw, fn, fs, fp, gn, gp, gs, gq, mm, rr, pl) (nc, sc, tc, lv, nI (q + 10), tk, sz, ls, nI 0, nI (d + 1 + 1), ip, ng, zr, cy, ov, hl, st, pc, nk, nx, ny, nw, ek, ex, ey, ew, qk, qx, qy, qz, qw, fn', fs', fp', upd gn (d + 1) (nI a), upd (upd gp d (nI (ph + 1))) (d + 1) 0, upd gs d (nI (q + 1)), upd gq d (nI (q + 4)), cx_wr (cx_ea q x) mm' q, rr, pl) := by
  intro post hp
  obtain ⟨n, hn⟩ := hp
  refine ⟨n + 1, br_f (nI_nle (by omega) (by omega)) (nm_r (nI_pred d) ⟨vp_in_nI hd (by decide), nm_r (e' := nI s) (by rw [nI_clamp (by omega)]; exact hgn) ⟨vp_in_nI hs (by decide), nm_r (e' := nI k) (by rw [nI_clamp (by omega)]; exact hk) ⟨vp_in_nI hd (by decide), nm_r (e' := nI ph) (by rw [nI_clamp (by omega)]; exact hgp) ⟨vp_in_nI hd (by decide), vp_in_nI hd (by decide), nm_r (e' := upd gp d (nI (ph + 1))) (by rw [nI_clamp (by omega), hgp, kx_ph (by omega)]) ?_⟩⟩⟩⟩)⟩
  subst hk2 hph htk hls
  refine br_f (by decide) (br_f (by decide) (br_f (by decide) (br_t rfl (br_t (by decide) (br_f (by decide) ⟨vp_in_nI hs (by decide), ?_⟩)))))
  rw [nI_clamp (show s < 2 ^ 31 by omega), hy]
  refine hc _ (kx_push (by omega) ⟨vp_in_nI hd (by decide), nm_r (e' := upd gs d (nI (q + 1))) (by rw [nI_clamp (by omega), kx_short _ (by omega)]) ?_⟩)
  refine kx_call (by omega) (kx_peek (by omega) (kx_cw (by omega) (kx_fwd (by omega) ⟨vp_in_nI hd (by decide), nm_r (e' := upd gq d (nI (q + 4))) (by rw [nI_clamp (by omega), kx_short _ (by omega)]) ?_⟩)))
  refine kx_d0 (by omega) (Or.inl (by decide)) (kx_d0 (by omega) (Or.inl (by decide)) (kx_peek (by omega) (kx_call (by omega) ⟨vp_in_nI hs (by decide), ?_⟩)))
  rw [hx]
  refine kx_d0 (by omega) (Or.inr ⟨by decide, by decide⟩) ⟨vp_in_nI hs (by decide), ?_⟩
  rw [hz]
  exact ks_ent hd2 (by omega) hn
end
end
section
/-! compileState, whole: the code that it writes is right -/
/-- the tables of statements are well formed, and alike on both sides -/
def tz_wf (qk qx qy qz : Nat → Int32) (wt : Bool → Nat → Nat) (ws : Nat → Nat) (N S T : Nat) (v : SY) : Prop := T ≤ 40 ∧ ∀ s, s < T → 1 ≤ ws s ∧ ws s ≤ 20 ∧
  ((∃ x e, qk s = nI 0 ∧ ty_wk v s = nI 0 ∧ x < 4 ∧ e < N ∧ qx s = nI x ∧ qy s = nI e ∧ ty_wx v s = nI x ∧ ty_wy v s = nI e ∧ ws s = 1 + wt false e) ∨
   (∃ x e, qk s = nI 1 ∧ ty_wk v s = nI 1 ∧ x < 4 ∧ e < S ∧ qx s = nI x ∧ qy s = nI e ∧ ty_wx v s = nI x ∧ ty_wy v s = nI e ∧ ws s = 1 + wt true e) ∨
   (∃ a b, qk s = nI 2 ∧ ty_wk v s = nI 2 ∧ a < T ∧ b < T ∧ qx s = nI a ∧ qy s = nI b ∧ ty_wx v s = nI a ∧ ty_wy v s = nI b ∧ ws s = 1 + ws a + ws b) ∨
   (∃ e a, qk s = nI 3 ∧ ty_wk v s = nI 3 ∧ e < N ∧ a < T ∧ qx s = nI e ∧ qy s = nI a ∧ ty_wx v s = nI e ∧ ty_wy v s = nI a ∧ ((qz s < 0 ∧ ty_wz v s < 0 ∧ ws s = 1 + wt false e + ws a) ∨ ∃ c, c < T ∧ qz s = nI c ∧ ty_wz v s = nI c ∧ ws s = 1 + wt false e + ws a + ws c)) ∨
   (∃ e a, qk s = nI 4 ∧ ty_wk v s = nI 4 ∧ e < N ∧ a < T ∧ qx s = nI e ∧ qy s = nI a ∧ ty_wx v s = nI e ∧ ty_wy v s = nI a ∧ ws s = 1 + wt false e + ws a) ∨
   (∃ x e a, qk s = nI 5 ∧ ty_wk v s = nI 5 ∧ x < 4 ∧ e < S ∧ a < T ∧ qx s = nI x ∧ qy s = nI e ∧ qz s = nI a ∧ ty_wx v s = nI x ∧ ty_wy v s = nI e ∧ ty_wz v s = nI a ∧ ws s = 1 + wt true e + ws a) ∨
   (∃ e, qk s = nI 6 ∧ ty_wk v s = nI 6 ∧ e < N ∧ qx s = nI e ∧ ty_wx v s = nI e ∧ ws s = 1 + wt false e) ∨
   (qk s = nI 7 ∧ ty_wk v s = nI 7))
section
variable {nc sc tc lv ce tk sz ls dp sd ip ng zr cy ov hl st pc : Int32} {nk nx ny nw ek ex ey ew qk qx qy qz qw fn fs fp gn gp gs gq mm rr pl : Nat → Int32} {v : SY} {wt : Bool → Nat → Nat} {ws : Nat → Nat} {N S T : Nat} {ps : Bool → Nat → Nat}
theorem ks_main (hok : ty_ok v (kx_sel ek nk) (kx_sel ex nx) (kx_sel ey ny) wt N S ps) (hz : tz_wf qk qx qy qz wt ws N S T v) (htk : tk = nI 0) (hsz : sz = nI 5) (hls : ls = nI 13) : ∀ w s d p dp fn fs fp gn gp gs gq mm, s < T → ws s ≤ w → gn d = nI s → gp d = nI 0 → d + ws s ≤ 24 → 23 ≤ p → p + 14 * ws s ≤ 380 →
    ∃ q dp' fn' fs' fp' gn' gp' gs' gq' mm', sx_r (nc, sc, tc, lv, nI p, tk, sz, ls, dp, nI (d + 1), ip, ng, zr, cy, ov, hl, st, pc, nk, nx, ny, nw, ek, ex, ey, ew, qk, qx, qy, qz, qw, fn, fs, fp, gn, gp, gs, gq, mm, rr, pl) (nc, sc, tc, lv, nI q, tk, sz, ls, dp', nI d, ip, ng, zr, cy, ov, hl, st, pc, nk, nx, ny, nw, ek, ex, ey, ew, qk, qx, qy, qz, qw, fn', fs', fp', gn', gp', gs', gq', mm', rr, pl) ∧ (∀ j, j < d → gn' j = gn j ∧ gp' j = gp j ∧ gs' j = gs j ∧ gq' j = gq j) ∧ (∀ j, j < p ∨ q ≤ j → mm' j = mm j) ∧ st_sg v mm' p q s (ws s) := by
  have hwf := ty_wf hok
  have hN := hwf.1
  have hS := hwf.2.1
  have hT := hz.1
  intro w
  induction w with
  | zero =>
    intro s d p dp fn fs fp gn gp gs gq mm hs hw
    obtain ⟨h1, -⟩ := hz.2 s hs
    omega
  | succ w ih =>
    intro s d p dp fn fs fp gn gp gs gq mm hs hw hgn hgp hd hp1 hp2
    obtain ⟨hw1, hw20, hcase⟩ := hz.2 s hs
    have hs40 : s < 40 := by omega
    have ph0 : nI (0 + 1) = nI 1 := rfl
    rcases hcase with ⟨x, e, k1, k2, hx, he, x1, y1, x2, y2, hws⟩ | ⟨x, e, k1, k2, hx, he, x1, y1, x2, y2, hws⟩ | ⟨a, b, k1, k2, ha, hb, x1, y1, x2, y2, hws⟩ | ⟨e, a, k1, k2, he, ha, x1, y1, x2, y2, hzz⟩ | ⟨e, a, k1, k2, he, ha, x1, y1, x2, y2, hws⟩ | ⟨x, e, a, k1, k2, hx, he, ha, x1, y1, z1, x2, y2, z2, hws⟩ | ⟨e, k1, k2, he, x1, x2, hws⟩ | ⟨k1, k2⟩
    · -- PUT_NUMBER
      obtain ⟨q, fn', fs', fp', mm', hc, m1, m2, sg⟩ := ks_plainE (nc := nc) (sc := sc) (tc := tc) (lv := lv) (ip := ip) (ng := ng) (zr := zr) (cy := cy) (ov := ov) (hl := hl) (st := st) (pc := pc) (nw := nw) (ew := ew) (qk := qk) (qx := qx) (qy := qy) (qz := qz) (qw := qw) (rr := rr) (pl := pl) (dp := dp) (sd := nI d) (fn := fn) (fs := fs) (fp := fp) (gn := gn) (gp := upd gp d (nI (0 + 1))) (gs := gs) (gq := gq) (mm := mm) hwf htk hsz hls (b := false) (e := e) (p := p) he hp1 (by omega) (cx_wd 14 13 0 (4 + nI x) 0 0)
      have b1 := sg.2.1
      have b2 := sg.2.2.1
      refine ⟨_, _, _, _, _, _, _, _, _, _, ks_p0 (by omega) hs40 hgn k1 hgp rfl rfl (by omega) (by omega) x1 y1 htk hc, fun j hj => ⟨rfl, pk_un (by omega), rfl, rfl⟩, m1, ?_⟩
      rw [hws]
      exact st_0 hok hp1 hs40 k2 hx x2 he y2 m2 sg pk_us
    · -- PUT_SET
      obtain ⟨q, fn', fs', fp', mm', hc, m1, m2, sg⟩ := ks_plainE (nc := nc) (sc := sc) (tc := tc) (lv := lv) (ip := ip) (ng := ng) (zr := zr) (cy := cy) (ov := ov) (hl := hl) (st := st) (pc := pc) (nw := nw) (ew := ew) (qk := qk) (qx := qx) (qy := qy) (qz := qz) (qw := qw) (rr := rr) (pl := pl) (dp := dp) (sd := nI d) (fn := fn) (fs := fs) (fp := fp) (gn := gn) (gp := upd gp d (nI (0 + 1))) (gs := gs) (gq := gq) (mm := mm) hwf htk hsz hls (b := true) (e := e) (p := p) he hp1 (by omega) (cx_wd 14 13 0 (8 + nI x) 0 0)
      have b1 := sg.2.1
      have b2 := sg.2.2.1
      refine ⟨_, _, _, _, _, _, _, _, _, _, ks_p1 (by omega) hs40 hgn k1 hgp rfl rfl (by omega) (by omega) x1 y1 htk hc, fun j hj => ⟨rfl, pk_un (by omega), rfl, rfl⟩, m1, ?_⟩
      rw [hws]
      exact st_1 hok hp1 hs40 k2 hx x2 he y2 m2 sg pk_us
    · -- THEN
      obtain ⟨wa1, wa2, -⟩ := hz.2 a ha
      obtain ⟨wb1, wb2, -⟩ := hz.2 b hb
      obtain ⟨q1, dp1, fn1, fs1, fp1, gn1, gp1, gs1, gq1, mm1, r1, fr1, me1, sg1⟩ := ih a (d + 1) p dp fn fs fp (upd gn (d + 1) (nI a)) (upd (upd gp d (nI (0 + 1))) (d + 1) 0) gs gq mm ha (by omega) pk_us pk_us (by omega) hp1 (by omega)
      have c1 := sg1.2.1
      have c2 := sg1.2.2.1
      obtain ⟨f1, f2, f3, f4⟩ := fr1 d (by omega)
      have g1 : gn1 d = nI s := by rw [f1, pk_un (by omega)]; exact hgn
      have g2 : gp1 d = nI 1 := by rw [f2, pk_un (by omega), pk_us]
      obtain ⟨q2, dp2, fn2, fs2, fp2, gn2, gp2, gs2, gq2, mm2, r2, fr2, me2, sg2⟩ := ih b (d + 1) q1 dp1 fn1 fs1 fp1 (upd gn1 (d + 1) (nI b)) (upd (upd gp1 d (nI (1 + 1))) (d + 1) 0) gs1 gq1 mm1 hb (by omega) pk_us pk_us (by omega) (by omega) (by omega)
      have c3 := sg2.2.1
      obtain ⟨l1, l2, l3, l4⟩ := fr2 d (by omega)
      refine ⟨_, _, _, _, _, _, _, _, _, _, sx_tr (ks_th0 (by omega) (by omega) hs40 hgn k1 hgp rfl rfl x1 (by omega)) (sx_tr r1 (sx_tr (ks_th1 (by omega) (by omega) hs40 g1 k1 g2 rfl rfl y1 (by omega)) (sx_tr r2 (ks_th2 (by omega) hs40 (by rw [l1, pk_un (by omega)]; exact g1) k1 (show gp2 d = nI 2 by rw [l2, pk_un (by omega), pk_us]) rfl rfl)))), fun j hj => ?_, fun j hj => ?_, ?_⟩
      · obtain ⟨s1, s2, s3, s4⟩ := fr1 j (by omega)
        obtain ⟨t1, t2, t3, t4⟩ := fr2 j (by omega)
        exact ⟨by rw [t1, pk_un (by omega), s1, pk_un (by omega)], by rw [pk_un (by omega), t2, pk_un (by omega), pk_un (by omega), s2, pk_un (by omega), pk_un (by omega)], by rw [t3, s3], by rw [t4, s4]⟩
      · rw [me2 j (by omega), me1 j (by omega)]
      · rw [hws]
        exact st_2 hs40 k2 x2 y2 wa1 wb1 (st_fr sg1 (fun j h1 h2 => me2 j (by omega))) sg2
    · -- IF
      obtain ⟨wa1, wa2, -⟩ := hz.2 a ha
      have hlow : 1 + wt false e + ws a ≤ ws s := by
        rcases hzz with ⟨-, -, h⟩ | ⟨c, -, -, -, h⟩ <;> omega
      obtain ⟨q, fn', fs', fp', mm1, hc, m1, m2, sgE, m3, m4⟩ := ks_test (nc := nc) (sc := sc) (tc := tc) (lv := lv) (ip := ip) (ng := ng) (zr := zr) (cy := cy) (ov := ov) (hl := hl) (st := st) (pc := pc) (nw := nw) (ew := ew) (qk := qk) (qx := qx) (qy := qy) (qz := qz) (qw := qw) (rr := rr) (pl := pl) (dp := dp) (sd := nI (d + 1)) (fn := fn) (fs := fs) (fp := fp) (gn := gn) (gp := upd gp d (nI (0 + 1))) (gs := gs) (gq := gq) (mm := mm) hwf htk hsz hls (e := e) (p := p) he hp1 (by omega)
      have b1 := sgE.2.1
      have b2 := sgE.2.2.1
      obtain ⟨q2, dp2, fn2, fs2, fp2, gn2, gp2, gs2, gq2, mm2, r2, fr2, me2, sg2⟩ := ih a (d + 1) (q + 2) (nI 0) fn' fs' fp' (upd gn (d + 1) (nI a)) (upd (upd gp d (nI (0 + 1))) (d + 1) 0) gs (upd gq d (nI (q + 1))) mm1 ha (by omega) pk_us pk_us (by omega) (by omega) (by omega)
      have c1 := sg2.2.1
      have c2 := sg2.2.2.1
      obtain ⟨f1, f2, f3, f4⟩ := fr2 d (by omega)
      have g1 : gn2 d = nI s := by rw [f1, pk_un (by omega)]; exact hgn
      have g2 : gp2 d = nI 1 := by rw [f2, pk_un (by omega), pk_us]
      have g4 : gq2 d = nI (q + 1) := by rw [f4, pk_us]
      have mq : mm2 (q + 1) = cx_f0 0 := by rw [me2 (q + 1) (by omega), m4]
      have s1 := ks_if0 (nc := nc) (sc := sc) (tc := tc) (lv := lv) (ip := ip) (ng := ng) (zr := zr) (cy := cy) (ov := ov) (hl := hl) (st := st) (pc := pc) (nw := nw) (ew := ew) (qk := qk) (qx := qx) (qy := qy) (qz := qz) (qw := qw) (rr := rr) (pl := pl) (tk := tk) (sz := sz) (ls := ls) (dp := dp) (nk := nk) (nx := nx) (ny := ny) (ek := ek) (ex := ex) (ey := ey) (fn := fn) (fs := fs) (fp := fp) (gn := gn) (gp := gp) (gs := gs) (gq := gq) (mm := mm) (show d < 24 by omega) (by omega) hs40 hgn k1 hgp rfl rfl (by omega) x1 y1 (by omega) hc
      rcases hzz with ⟨z1, z2, hws⟩ | ⟨c, hcT, z1, z2, hws⟩
      · refine ⟨_, _, _, _, _, _, _, _, _, _, sx_tr s1 (sx_tr r2 (ks_ifE (l := q + 1) (by omega) hs40 g1 k1 g2 rfl (Or.inl ⟨rfl, z1⟩) (by omega) g4)), fun j hj => ?_, fun j hj => ?_, ?_⟩
        · obtain ⟨t1, t2, t3, t4⟩ := fr2 j (by omega)
          exact ⟨by rw [t1, pk_un (by omega)], by rw [pk_un (by omega), t2, pk_un (by omega), pk_un (by omega)], t3, by rw [t4, pk_un (by omega)]⟩
        · rw [pk_un (by omega), me2 j (by omega), m1 j (by omega)]
        · rw [hws, mq, cx_land0]
          refine st_3n hok hp1 hs40 k2 he x2 (by omega) y2 z2 wa1 ?_ (ex_fr sgE (fun j h1 h2 => ?_)) ?_ pk_us (st_fr sg2 (fun j h1 h2 => pk_un (by omega)))
          · rw [pk_un (by omega), me2 p (by omega), m2]
          · rw [pk_un (by omega), me2 j (by omega)]
          · rw [pk_un (by omega), me2 q (by omega), m3]
      · obtain ⟨wc1, wc2, -⟩ := hz.2 c hcT
        have s3 := ks_if1 (nc := nc) (sc := sc) (tc := tc) (lv := lv) (ip := ip) (ng := ng) (zr := zr) (cy := cy) (ov := ov) (hl := hl) (st := st) (pc := pc) (nw := nw) (ew := ew) (qk := qk) (qx := qx) (qy := qy) (qz := qz) (qw := qw) (rr := rr) (pl := pl) (tk := tk) (sz := sz) (ls := ls) (dp := dp2) (nk := nk) (nx := nx) (ny := ny) (ek := ek) (ex := ex) (ey := ey) (fn := fn2) (fs := fs2) (fp := fp2) (gn := gn2) (gp := gp2) (gs := gs2) (gq := gq2) (mm := mm2) (p := q2) (l := q + 1) (show d < 24 by omega) (by omega) hs40 g1 k1 g2 rfl rfl (show c < 40 by omega) z1 (by omega) (by omega) (by omega) g4
        rw [mq, cx_land0] at s3
        obtain ⟨q3, dp3, fn3, fs3, fp3, gn3, gp3, gs3, gq3, mm3, r3, fr3, me3, sg3⟩ := ih c (d + 1) (q2 + 1) dp2 fn2 fs2 fp2 (upd gn2 (d + 1) (nI c)) (upd (upd gp2 d (nI (1 + 1))) (d + 1) 0) gs2 (upd gq2 d (nI q2)) (upd (upd mm2 q2 (cx_f0 14)) (q + 1) (cx_bw 0 0 (nI (q + 1)) (nI (q2 + 1)))) hcT (by omega) pk_us pk_us (by omega) (by omega) (by omega)
        have c3 := sg3.2.1
        have c4 := sg3.2.2.1
        obtain ⟨h1, h2, h3, h4⟩ := fr3 d (by omega)
        have mq2 : mm3 q2 = cx_f0 14 := by rw [me3 q2 (by omega), pk_un (by omega), pk_us]
        refine ⟨_, _, _, _, _, _, _, _, _, _, sx_tr s1 (sx_tr r2 (sx_tr s3 (sx_tr r3 (ks_ifE (l := q2) (by omega) hs40 (by rw [h1, pk_un (by omega)]; exact g1) k1 (show gp3 d = nI 2 by rw [h2, pk_un (by omega), pk_us]) rfl (Or.inr rfl) (by omega) (by rw [h4, pk_us]))))), fun j hj => ?_, fun j hj => ?_, ?_⟩
        · obtain ⟨t1, t2, t3, t4⟩ := fr2 j (by omega)
          obtain ⟨w1, w2, w3, w4⟩ := fr3 j (by omega)
          exact ⟨by rw [w1, pk_un (by omega), t1, pk_un (by omega)], by rw [pk_un (by omega), w2, pk_un (by omega), pk_un (by omega), t2, pk_un (by omega), pk_un (by omega)], by rw [w3, t3], by rw [w4, pk_un (by omega), t4, pk_un (by omega)]⟩
        · rw [pk_un (by omega), me3 j (by omega), pk_un (by omega), pk_un (by omega), me2 j (by omega), m1 j (by omega)]
        · rw [hws, mq2, cx_land14]
          refine st_3e hok hp1 hs40 k2 he x2 (by omega) y2 (show c < 40 by omega) z2 wa1 wc1 ?_ (ex_fr sgE (fun j h1 h2 => ?_)) ?_ ?_ (st_fr sg2 (fun j h1 h2 => ?_)) pk_us (st_fr sg3 (fun j h1 h2 => pk_un (by omega)))
          · rw [pk_un (by omega), me3 p (by omega), pk_un (by omega), pk_un (by omega), me2 p (by omega), m2]
          · rw [pk_un (by omega), me3 j (by omega), pk_un (by omega), pk_un (by omega), me2 j (by omega)]
          · rw [pk_un (by omega), me3 q (by omega), pk_un (by omega), pk_un (by omega), me2 q (by omega), m3]
          · rw [pk_un (by omega), me3 (q + 1) (by omega), pk_us]
          · rw [pk_un (by omega), me3 j (by omega), pk_un (by omega), pk_un (by omega)]
    · -- WHILE
      obtain ⟨wa1, wa2, -⟩ := hz.2 a ha
      obtain ⟨q, fn', fs', fp', mm1, hc, m1, m2, sgE, m3, m4⟩ := ks_test (nc := nc) (sc := sc) (tc := tc) (lv := lv) (ip := ip) (ng := ng) (zr := zr) (cy := cy) (ov := ov) (hl := hl) (st := st) (pc := pc) (nw := nw) (ew := ew) (qk := qk) (qx := qx) (qy := qy) (qz := qz) (qw := qw) (rr := rr) (pl := pl) (dp := dp) (sd := nI (d + 1)) (fn := fn) (fs := fs) (fp := fp) (gn := gn) (gp := upd gp d (nI (0 + 1))) (gs := upd gs d (nI p)) (gq := gq) (mm := mm) hwf htk hsz hls (e := e) (p := p) he hp1 (by omega)
      have b1 := sgE.2.1
      have b2 := sgE.2.2.1
      obtain ⟨q2, dp2, fn2, fs2, fp2, gn2, gp2, gs2, gq2, mm2, r2, fr2, me2, sg2⟩ := ih a (d + 1) (q + 2) (nI 0) fn' fs' fp' (upd gn (d + 1) (nI a)) (upd (upd gp d (nI (0 + 1))) (d + 1) 0) (upd gs d (nI p)) (upd gq d (nI (q + 1))) mm1 ha (by omega) pk_us pk_us (by omega) (by omega) (by omega)
      have c1 := sg2.2.1
      have c2 := sg2.2.2.1
      obtain ⟨f1, f2, f3, f4⟩ := fr2 d (by omega)
      have g1 : gn2 d = nI s := by rw [f1, pk_un (by omega)]; exact hgn
      have g2 : gp2 d = nI 1 := by rw [f2, pk_un (by omega), pk_us]
      have g3 : gs2 d = nI p := by rw [f3, pk_us]
      have g4 : gq2 d = nI (q + 1) := by rw [f4, pk_us]
      have mq : mm2 (q + 1) = cx_f0 0 := by rw [me2 (q + 1) (by omega), m4]
      have s1 := ks_wh0 (nc := nc) (sc := sc) (tc := tc) (lv := lv) (ip := ip) (ng := ng) (zr := zr) (cy := cy) (ov := ov) (hl := hl) (st := st) (pc := pc) (nw := nw) (ew := ew) (qk := qk) (qx := qx) (qy := qy) (qz := qz) (qw := qw) (rr := rr) (pl := pl) (tk := tk) (sz := sz) (ls := ls) (dp := dp) (nk := nk) (nx := nx) (ny := ny) (ek := ek) (ex := ex) (ey := ey) (fn := fn) (fs := fs) (fp := fp) (gn := gn) (gp := gp) (gs := gs) (gq := gq) (mm := mm) (show d < 24 by omega) (by omega) hs40 hgn k1 hgp rfl rfl (show p < 1024 by omega) (by omega) x1 y1 (by omega) hc
      have s3 := ks_whE (nc := nc) (sc := sc) (tc := tc) (lv := lv) (ip := ip) (ng := ng) (zr := zr) (cy := cy) (ov := ov) (hl := hl) (st := st) (pc := pc) (nw := nw) (ew := ew) (qk := qk) (qx := qx) (qy := qy) (qz := qz) (qw := qw) (rr := rr) (pl := pl) (tk := tk) (sz := sz) (ls := ls) (dp := dp2) (nk := nk) (nx := nx) (ny := ny) (ek := ek) (ex := ex) (ey := ey) (fn := fn2) (fs := fs2) (fp := fp2) (gn := gn2) (gp := gp2) (gs := gs2) (gq := gq2) (mm := mm2) (p := q2) (l := q + 1) (c := p) (show d < 24 by omega) hs40 g1 k1 g2 rfl rfl (by omega) (by omega) (by omega) g4 g3
      rw [mq, cx_land0] at s3
      refine ⟨_, _, _, _, _, _, _, _, _, _, sx_tr s1 (sx_tr r2 s3), fun j hj => ?_, fun j hj => ?_, ?_⟩
      · obtain ⟨t1, t2, t3, t4⟩ := fr2 j (by omega)
        exact ⟨by rw [t1, pk_un (by omega)], by rw [pk_un (by omega), t2, pk_un (by omega), pk_un (by omega)], by rw [t3, pk_un (by omega)], by rw [t4, pk_un (by omega)]⟩
      · rw [pk_un (by omega), pk_un (by omega), me2 j (by omega), m1 j (by omega)]
      · rw [hws]
        refine st_4 hok hp1 hs40 k2 he x2 (by omega) y2 wa1 ?_ (ex_fr sgE (fun j h1 h2 => ?_)) ?_ pk_us (st_fr sg2 (fun j h1 h2 => ?_)) ?_
        · rw [pk_un (by omega), pk_un (by omega), me2 p (by omega), m2]
        · rw [pk_un (by omega), pk_un (by omega), me2 j (by omega)]
        · rw [pk_un (by omega), pk_un (by omega), me2 q (by omega), m3]
        · rw [pk_un (by omega), pk_un (by omega)]
        · rw [pk_un (by omega), pk_us]
    · -- EACH
      obtain ⟨wa1, wa2, -⟩ := hz.2 a ha
      obtain ⟨q, fn', fs', fp', mm1, hc, m1, sgE⟩ := ke_call (nc := nc) (sc := sc) (tc := tc) (lv := lv) (ip := ip) (ng := ng) (zr := zr) (cy := cy) (ov := ov) (hl := hl) (st := st) (pc := pc) (nw := nw) (ew := ew) (qk := qk) (qx := qx) (qy := qy) (qz := qz) (qw := qw) (rr := rr) (pl := pl) (tk := tk) (dp := dp) (sd := nI (d + 1)) (fn := fn) (fs := fs) (fp := fp) (gn := gn) (gp := upd gp d (nI (0 + 1))) (gs := gs) (gq := gq) (mm := mm) hwf hsz hls (b := true) (i := e) (p := p) he hp1 (by omega)
      have b1 := sgE.2.1
      have b2 := sgE.2.2.1
      have hlen : (cx_ea q x).length = 10 := rfl
      have hat := cx_at_wr (cx_ea q x) mm1 q
      obtain ⟨w0, w1, w2, w3, w4, w5, w6, w7, w8, w9, -⟩ := hat
      obtain ⟨q2, dp2, fn2, fs2, fp2, gn2, gp2, gs2, gq2, mm2, r2, fr2, me2, sg2⟩ := ih a (d + 1) (q + 10) (nI 0) fn' fs' fp' (upd gn (d + 1) (nI a)) (upd (upd gp d (nI (0 + 1))) (d + 1) 0) (upd gs d (nI (q + 1))) (upd gq d (nI (q + 4))) (cx_wr (cx_ea q x) mm1 q) ha (by omega) pk_us pk_us (by omega) (by omega) (by omega)
      have c1 := sg2.2.1
      have c2 := sg2.2.2.1
      obtain ⟨f1, f2, f3, f4⟩ := fr2 d (by omega)
      have g1 : gn2 d = nI s := by rw [f1, pk_un (by omega)]; exact hgn
      have g2 : gp2 d = nI 1 := by rw [f2, pk_un (by omega), pk_us]
      have g3 : gs2 d = nI (q + 1) := by rw [f3, pk_us]
      have g4 : gq2 d = nI (q + 4) := by rw [f4, pk_us]
      have mq : mm2 (q + 4) = cx_f0 0 := by rw [me2 (q + 4) (by omega)]; exact w4
      have s1 := ks_ea0 (nc := nc) (sc := sc) (tc := tc) (lv := lv) (ip := ip) (ng := ng) (zr := zr) (cy := cy) (ov := ov) (hl := hl) (st := st) (pc := pc) (nw := nw) (ew := ew) (qk := qk) (qx := qx) (qy := qy) (qz := qz) (qw := qw) (rr := rr) (pl := pl) (sz := sz) (dp := dp) (nk := nk) (nx := nx) (ny := ny) (ek := ek) (ex := ex) (ey := ey) (fn := fn) (fs := fs) (fp := fp) (gn := gn) (gp := gp) (gs := gs) (gq := gq) (mm := mm) (show d < 24 by omega) (by omega) hs40 hgn k1 hgp rfl rfl (by omega) x1 y1 z1 (by omega) htk hls hc
      have s3 := ks_eaE (nc := nc) (sc := sc) (tc := tc) (lv := lv) (ip := ip) (ng := ng) (zr := zr) (cy := cy) (ov := ov) (hl := hl) (st := st) (pc := pc) (nw := nw) (ew := ew) (qk := qk) (qx := qx) (qy := qy) (qz := qz) (qw := qw) (rr := rr) (pl := pl) (tk := tk) (sz := sz) (ls := ls) (dp := dp2) (nk := nk) (nx := nx) (ny := ny) (ek := ek) (ex := ex) (ey := ey) (fn := fn2) (fs := fs2) (fp := fp2) (gn := gn2) (gp := gp2) (gs := gs2) (gq := gq2) (mm := mm2) (p := q2) (l := q + 4) (c := q + 1) (show d < 24 by omega) hs40 g1 k1 g2 rfl rfl (by omega) (by omega) (by omega) g4 g3
      rw [mq, cx_land0] at s3
      have K : ∀ j, q ≤ j → j < q + 10 → j ≠ q + 4 → upd (upd (upd mm2 q2 (cx_bw 14 0 (nI q2) (nI (q + 1)))) (q + 4) (cx_bw 0 0 (nI (q + 4)) (nI (q2 + 1)))) (q2 + 1) (cx_wd 14 4 0 13 13 33554436) j = cx_wr (cx_ea q x) mm1 q j := by
        intro j h1 h2 h3
        rw [pk_un (by omega), pk_un (by omega), pk_un (by omega), me2 j (by omega)]
      refine ⟨_, _, _, _, _, _, _, _, _, _, sx_tr s1 (sx_tr r2 s3), fun j hj => ?_, fun j hj => ?_, ?_⟩
      · obtain ⟨t1, t2, t3, t4⟩ := fr2 j (by omega)
        exact ⟨by rw [t1, pk_un (by omega)], by rw [pk_un (by omega), t2, pk_un (by omega), pk_un (by omega)], by rw [t3, pk_un (by omega)], by rw [t4, pk_un (by omega)]⟩
      · rw [pk_un (by omega), pk_un (by omega), pk_un (by omega), me2 j (by omega)]
        rcases hj with hj | hj
        · rw [cx_wr_lo _ _ _ _ (by omega), m1 j (by omega)]
        · rw [cx_wr_hi _ _ _ _ (by omega), m1 j (by omega)]
      · rw [hws]
        refine st_5 (q1 := q) hok hs40 k2 hx x2 he y2 (show a < 40 by omega) z2 wa1 (ex_fr sgE (fun j h1 h2 => ?_)) ?_ ?_ ?_ ?_ ?_ ?_ ?_ ?_ ?_ ?_ (st_fr sg2 (fun j h1 h2 => ?_)) ?_ ?_
        · rw [pk_un (by omega), pk_un (by omega), pk_un (by omega), me2 j (by omega), cx_wr_lo _ _ _ _ (by omega)]
        · exact (K q (by omega) (by omega) (by omega)).trans w0
        · exact (K (q + 1) (by omega) (by omega) (by omega)).trans w1
        · exact (K (q + 2) (by omega) (by omega) (by omega)).trans w2
        · exact (K (q + 3) (by omega) (by omega) (by omega)).trans w3
        · rw [pk_un (by omega), pk_us]
        · exact (K (q + 5) (by omega) (by omega) (by omega)).trans w5
        · exact (K (q + 6) (by omega) (by omega) (by omega)).trans w6
        · exact (K (q + 7) (by omega) (by omega) (by omega)).trans w7
        · exact (K (q + 8) (by omega) (by omega) (by omega)).trans w8
        · exact (K (q + 9) (by omega) (by omega) (by omega)).trans w9
        · rw [pk_un (by omega), pk_un (by omega), pk_un (by omega)]
        · rw [pk_un (by omega), pk_un (by omega), pk_us]
        · rw [pk_us]
    · -- PRINT
      obtain ⟨q, fn', fs', fp', mm', hc, m1, m2, sg⟩ := ks_plainE (nc := nc) (sc := sc) (tc := tc) (lv := lv) (ip := ip) (ng := ng) (zr := zr) (cy := cy) (ov := ov) (hl := hl) (st := st) (pc := pc) (nw := nw) (ew := ew) (qk := qk) (qx := qx) (qy := qy) (qz := qz) (qw := qw) (rr := rr) (pl := pl) (dp := dp) (sd := nI d) (fn := fn) (fs := fs) (fp := fp) (gn := gn) (gp := upd gp d (nI (0 + 1))) (gs := gs) (gq := gq) (mm := mm) hwf htk hsz hls (b := false) (e := e) (p := p) he hp1 (by omega) (-285212671)
      have b1 := sg.2.1
      have b2 := sg.2.2.1
      refine ⟨_, _, _, _, _, _, _, _, _, _, ks_pr (by omega) hs40 hgn k1 hgp rfl rfl (by omega) (by omega) x1 htk hc, fun j hj => ⟨rfl, pk_un (by omega), rfl, rfl⟩, m1, ?_⟩
      rw [hws]
      exact st_6 hok hp1 hs40 k2 he x2 m2 sg pk_us
    · -- NOTHING
      exact ⟨p, dp, fn, fs, fp, gn, _, gs, gq, mm, ks_no (by omega) hs40 hgn k1 hgp rfl rfl, fun j hj => ⟨rfl, pk_un (by omega), rfl, rfl⟩, fun _ _ => rfl, st_7 hp1 hs40 k2 hw1⟩
end
end
section
/-! run -/
theorem rn_lc : cx_lc 0 0 = [cx_wd 14 13 0 0 0 33554432] := by decide +kernel
section
variable {u : SX} {v : SY}
/-- the two words at the end -/
theorem rn_end {mm rr pl : Nat → Int32} {ng zr cy ov : Int32} {yv zv nu va bg ag lf : Nat → Int32} {q t z : Nat} (hR : cx_at mm 0 cx_rt) (hq : q + 1 < 1024) (h0 : mm q = cx_wd 14 13 0 0 0 33554432) (h1 : mm (q + 1) = -285212672) (hrel : jx_rel rr nu va t) (hz : z ≤ t) : jx_G u v 0 (mx_c u (nI q) ng zr cy ov (nI z) mm rr pl) (yx_c v 0 (nI t) (nI z) yv zv nu va bg ag lf pl) := by
  have x1 := mx_alu (u := u) (ng := ng) (zr := zr) (cy := cy) (ov := ov) (pc := nI z) (pl := pl) (mm := mm) (rr := rr) q (by omega) h0 14 13 0 0 (by decide) (by decide) (by decide +kernel) (by decide) (by decide) (y := 0) (mx_opI (by decide +kernel)) trivial
  refine ⟨0, mx_h u (nI (q + 1 + 1)) ng zr cy ov (nI z) mm (upd rr 0 0) pl, yx_c v 0 (nI t) (nI z) yv zv nu va bg ag lf pl, fun post hp => x1 post ?_, fun post hp => ?_, nI (q + 1 + 1), ng, zr, cy, ov, 0, mm, upd rr 0 0, pl, yv, zv, nu, va, bg, ag, lf, t, z, rfl, rfl, ?_, hz, hR⟩
  · exact mx_swi0 (q + 1) hq h1 14 (by decide) (by decide +kernel) (by decide +kernel) (by decide +kernel) trivial post hp
  · obtain ⟨nn, ns, nt, td, sp, pr, yk, yx, yy, yw, yv, zk, zx, zy, zw, zv, od, wk, wx, wy, wz, ww, nu, va, bg, ag, lf, ou⟩ := v
    exact yx_end0 hp
  · obtain ⟨r1, r2, r3, r4⟩ := hrel
    exact ⟨by rw [pk_un (by decide)]; exact r1, fun i hi => by rw [pk_un (by omega)]; exact r2 i hi, fun i hi => by rw [pk_un (by omega)]; exact r3 i hi, r4⟩
end
section
variable {nc sc tc lv ce tk sz ls dp sd ip ng zr cy ov hl st pc : Int32} {nk nx ny nw ek ex ey ew qk qx qy qz qw fn fs fp gn gp gs gq mm rr pl : Nat → Int32} {v : SY} {wt : Bool → Nat → Nat} {ws : Nat → Nat} {N S T : Nat} {ps : Bool → Nat → Nat}
/-- compileState as it is called, and the two words behind it -/
theorem rn_comp (hok : ty_ok v (kx_sel ek nk) (kx_sel ex nx) (kx_sel ey ny) wt N S ps) (hz : tz_wf qk qx qy qz wt ws N S T v) (htk : tk = nI 0) (hsz : sz = nI 5) (hls : ls = nI 13) {s : Nat} (hs : s < T) : ∃ q dp' fn' fs' fp' gn' gp' gs' gq' mm', (∀ post : SX → Prop, post (nc, sc, tc, lv, nI q, tk, sz, ls, dp', nI 0, ip, ng, zr, cy, ov, hl, st, pc, nk, nx, ny, nw, ek, ex, ey, ew, qk, qx, qy, qz, qw, fn', fs', fp', gn', gp', gs', gq', mm', rr, pl) → wpX_compileState post (nc, sc, tc, lv, nI 23, tk, sz, ls, dp, sd, ip, ng, zr, cy, ov, hl, st, pc, nk, nx, ny, nw, ek, ex, ey, ew, qk, qx, qy, qz, qw, fn, fs, fp, gn, gp, gs, gq, mm, rr, pl) (nI s)) ∧ (∀ j, j < 23 → mm' j = mm j) ∧ st_sg v mm' 23 q s (ws s) := by
  obtain ⟨w1, w2, -⟩ := hz.2 s hs
  have hT := hz.1
  obtain ⟨q, dp', fn', fs', fp', gn', gp', gs', gq', mm', r, -, me, sg⟩ := ks_main (nc := nc) (sc := sc) (tc := tc) (lv := lv) (ip := ip) (ng := ng) (zr := zr) (cy := cy) (ov := ov) (hl := hl) (st := st) (pc := pc) (nw := nw) (ew := ew) (qw := qw) (rr := rr) (pl := pl) hok hz htk hsz hls 20 s 0 23 dp fn fs fp (upd gn 0 (nI s)) (upd gp 0 0) gs gq mm hs w2 pk_us pk_us (by omega) (by decide) (by omega)
  refine ⟨q, dp', fn', fs', fp', gn', gp', gs', gq', mm', fun post hp => ?_, fun j hj => me j (Or.inl hj), sg⟩
  unfold wpX_compileState
  refine ks_ent (d := 0) (by decide) (by omega) ?_
  exact r post ⟨1, br_t (by decide) hp⟩
/-- the run, on both sides -/
theorem rn_main (hok : ty_ok v (kx_sel ek nk) (kx_sel ex nx) (kx_sel ey ny) wt N S ps) (hz : tz_wf qk qx qy qz wt ws N S T v) (htk : tk = nI 0) (hsz : sz = nI 5) (hls : ls = nI 13) (hce : ce = nI 23) (htc : tc = nI T) (hR : cx_at mm 0 cx_rt) {s : Nat} (hs : s < T) {yv zv nu va bg ag lf : Nat → Int32} (hnu : ∀ i, i < 4 → rr (4 + i) = nu i) (hva : ∀ i, i < 4 → rr (8 + i) = va i) (hb : bg 0 = nI s) (ha : ag 0 = 0) :
    ∃ r a b dp' fn' fs' fp' gn' gp' gs' gq', (∀ post : Int32 → SX → Prop, post r a → wpX_run post (nc, sc, tc, lv, ce, tk, sz, ls, dp, sd, ip, ng, zr, cy, ov, hl, st, pc, nk, nx, ny, nw, ek, ex, ey, ew, qk, qx, qy, qz, qw, fn, fs, fp, gn, gp, gs, gq, mm, rr, pl) (nI s)) ∧ (∀ post : Int32 → SY → Prop, post r b → yx_R post (nI 1) (yx_c v 0 0 0 yv zv nu va bg ag lf pl)) ∧ jx_E (nc, sc, tc, lv, ce, tk, sz, ls, dp', nI 0, ip, ng, zr, cy, ov, hl, st, pc, nk, nx, ny, nw, ek, ex, ey, ew, qk, qx, qy, qz, qw, fn', fs', fp', gn', gp', gs', gq', mm, rr, pl) v a b := by
  subst hce
  have hT := hz.1
  obtain ⟨w1, w2, -⟩ := hz.2 s hs
  obtain ⟨q, dp', fn', fs', fp', gn', gp', gs', gq', mm', hc, me, sg⟩ := rn_comp (nc := nc) (sc := sc) (tc := tc) (lv := lv) (dp := dp) (sd := sd) (ip := ip) (ng := ng) (zr := zr) (cy := cy) (ov := ov) (hl := hl) (st := st) (pc := pc) (nw := nw) (ew := ew) (qw := qw) (fn := fn) (fs := fs) (fp := fp) (gn := gn) (gp := gp) (gs := gs) (gq := gq) (mm := mm) (rr := rr) (pl := pl) hok hz htk hsz hls hs
  have c1 := sg.2.1
  have c2 := sg.2.2.1
  have emm : ∀ j, j < q → upd (upd mm' q (cx_wd 14 13 0 0 0 33554432)) (q + 1) (-285212672) j = mm' j := fun j hj => by rw [pk_un (by omega), pk_un (by omega)]
  have hR2 : cx_at (upd (upd mm' q (cx_wd 14 13 0 0 0 33554432)) (q + 1) (-285212672)) 0 cx_rt := ex_rt (n := 23) (Nat.le_refl _) hR (fun j hj => (emm j (by omega)).trans (me j hj))
  have G := sg.2.2.2 (nc, sc, tc, lv, nI 23, tk, sz, ls, dp', nI 0, ip, ng, zr, cy, ov, hl, st, pc, nk, nx, ny, nw, ek, ex, ey, ew, qk, qx, qy, qz, qw, fn', fs', fp', gn', gp', gs', gq', mm, rr, pl) (upd (upd mm' q (cx_wd 14 13 0 0 0 33554432)) (q + 1) (-285212672)) (upd (upd rr 12 0) 13 4092) pl ng zr cy ov yv zv nu va bg ag lf 1023 0 0 0 (fun j h1 h2 => emm j h2) hR2 rfl (by omega) (by omega) (by decide) (by omega) hb ha ⟨rfl, fun i hi => by rw [pk_un (by omega), pk_un (by omega)]; exact hnu i hi, fun i hi => by rw [pk_un (by omega), pk_un (by omega)]; exact hva i hi, by decide⟩ (Nat.le_refl _) (by
    intro mm3 rr3 pl3 n3 z3 c3 v3 yv3 zv3 nu3 va3 bg3 ag3 lf3 t3 w3 d1 d2 d3 d4 d5 d6
    refine rn_end (ex_rt (n := 23) (Nat.le_refl _) hR2 (fun j hj => d1 j (by omega))) (by omega) ?_ ?_ d3 d4
    · rw [d1 q (by omega), pk_un (by omega), pk_us]
    · rw [d1 (q + 1) (by omega), pk_us])
  obtain ⟨r, a, b, hX, hY, hE⟩ := G
  refine ⟨r, a, b, dp', fn', fs', fp', gn', gp', gs', gq', fun post hp => ?_, hY, hE⟩
  unfold wpX_run
  refine br_f (nI_pos (by omega)) (br_f (by rw [htc]; exact nI_ge hs (by omega)) (br_f (by decide) (hc _ ?_)))
  refine kx_lc (by omega) ?_
  rw [rn_lc]
  refine kx_put (c := q + 1) (by omega) (nm_e (nm_e ?_))
  exact hX post hp
end
end
section
/-! one expression more, one statement more -/
def so_1 (k : Nat) : Nat := match k with
  | 1 => 1 | 2 => 2 | 3 => 2 | 4 => 2 | 5 => 2 | 6 => 2 | 7 => 3 | 8 => 3 | 9 => 2 | 10 => 3
  | 16 => 1 | 18 => 3 | 19 => 3 | 20 => 3 | 21 => 3 | 22 => 2 | 23 => 3 | 24 => 2 | _ => 0
def so_2 (k : Nat) : Nat := match k with
  | 2 => 2 | 3 => 2 | 4 => 2 | 5 => 2 | 6 => 2 | 9 => 3 | 10 => 3
  | 18 => 3 | 19 => 3 | 20 => 3 | 23 => 2 | 24 => 2 | _ => 0
def so_ok (N S : Nat) (so : Nat) (x : Int32) : Prop := match so with
  | 0 => True
  | 1 => ∃ j, j < 4 ∧ x = nI j
  | 2 => ∃ j, j < N ∧ x = nI j
  | _ => ∃ j, j < S ∧ x = nI j
def so_w (wt : Bool → Nat → Nat) (so : Nat) (x : Int32) : Nat := match so with
  | 2 => wt false x.toNatClampNeg
  | 3 => wt true x.toNatClampNeg
  | _ => 0
def so_kk (k : Nat) : Prop := k < 11 ∨ (16 ≤ k ∧ k < 25)
theorem so_c1 {k : Nat} (h : cx_kd k) : so_1 k = if ex_t1 k = true then 3 else 2 := by
  rcases h with rfl | rfl | rfl | rfl | rfl | rfl | rfl | rfl | rfl | rfl | rfl | rfl | rfl | rfl | rfl | rfl <;> rfl
theorem so_c2 {k : Nat} (h : cx_k2 k) : so_2 k = if ex_t2 k = true then 3 else 2 := by
  rcases h with rfl | rfl | rfl | rfl | rfl | rfl | rfl | rfl | rfl | rfl | rfl | rfl <;> rfl
theorem so_c20 {k : Nat} (h : cx_k1 k) : so_2 k = 0 := by
  rcases h with rfl | rfl | rfl | rfl <;> rfl
theorem so_s2 {k : Nat} (h : cx_sim k) : so_2 k = 0 ∧ (k = 1 ∨ k = 16 → so_1 k = 1) ∧ so_w (fun _ _ => 0) (so_1 k) 0 = 0 := by
  rcases h with rfl | rfl | rfl | rfl <;> exact ⟨rfl, fun _ => by first | rfl | omega, rfl⟩
theorem so_s1 {k : Nat} (h : cx_sim k) (wt : Bool → Nat → Nat) (x : Int32) : so_w wt (so_1 k) x = 0 := by
  rcases h with rfl | rfl | rfl | rfl <;> rfl
theorem so_all {k : Nat} (h : so_kk k) : cx_sim k ∨ cx_k1 k ∨ cx_k2 k := by
  unfold so_kk at h; unfold cx_sim cx_k1 cx_k2; omega
theorem so_op {N S : Nat} {t : Bool} {x : Int32} (h : so_ok N S (if t = true then 3 else 2) x) : ∃ a, a < ex_n N S t ∧ x = nI a := by
  cases t <;> exact h
theorem so_wv {wt : Bool → Nat → Nat} {t : Bool} {a : Nat} (ha : a < 1000) : so_w wt (if t = true then 3 else 2) (nI a) = wt t a := by
  cases t
  · show wt false (nI a).toNatClampNeg = _; rw [nI_clamp (by omega)]
  · show wt true (nI a).toNatClampNeg = _; rw [nI_clamp (by omega)]
section
variable {kd o1 o2 kd' o1' o2' : Bool → Nat → Int32} {wt wt' : Bool → Nat → Nat} {N S N' S' k : Nat} {b0 : Bool}
/-- all is as it was but at (b0, its next number) -/
def ad_D {α : Type} (N S : Nat) (b0 : Bool) (f f' : Bool → Nat → α) : Prop := ∀ b i, ¬ (b = b0 ∧ i = ex_n N S b0) → f' b i = f b i
def ad_N (N S N' S' : Nat) (b0 : Bool) : Prop := ∀ b, ex_n N' S' b = ex_n N S b + (if b = b0 then 1 else 0)
theorem ad_old {b : Bool} {i : Nat} (h : i < ex_n N S b) : ¬ (b = b0 ∧ i = ex_n N S b0) := by
  rintro ⟨rfl, e⟩; omega
theorem ad_lt (hN : ad_N N S N' S' b0) {b : Bool} {i : Nat} (h : i < ex_n N S b) : i < ex_n N' S' b := by
  rw [hN b]; omega
theorem ad_cs (hN : ad_N N S N' S' b0) {b : Bool} {i : Nat} (h : i < ex_n N' S' b) : i < ex_n N S b ∨ (b = b0 ∧ i = ex_n N S b0) := by
  rw [hN b] at h
  by_cases hb : b = b0
  · subst hb; rw [if_pos rfl] at h
    by_cases e : i = ex_n N S b
    · exact Or.inr ⟨rfl, e⟩
    · exact Or.inl (by omega)
  · rw [if_neg hb] at h; exact Or.inl (by omega)
theorem ad_wf (h : tx_wf kd o1 o2 wt N S) (hN' : N' ≤ 40) (hS' : S' ≤ 30) (hN : ad_N N S N' S' b0) (d1 : ad_D N S b0 kd kd') (d2 : ad_D N S b0 o1 o1') (d3 : ad_D N S b0 o2 o2') (d4 : ad_D N S b0 wt wt') (hk : so_kk k) (ek : kd' b0 (ex_n N S b0) = nI k) (h1 : so_ok N S (so_1 k) (o1' b0 (ex_n N S b0))) (h2 : so_ok N S (so_2 k) (o2' b0 (ex_n N S b0))) (hw : wt' b0 (ex_n N S b0) = 1 + so_w wt (so_1 k) (o1' b0 (ex_n N S b0)) + so_w wt (so_2 k) (o2' b0 (ex_n N S b0))) (hw20 : wt' b0 (ex_n N S b0) ≤ 20) : tx_wf kd' o1' o2' wt' N' S' := by
  have hN40 := h.1
  have hS30 := h.2.1
  refine ⟨hN', hS', fun b i hi => ?_⟩
  rcases ad_cs hN hi with hi' | ⟨rfl, rfl⟩
  · obtain ⟨k, e, k32, w1, w20, hc⟩ := h.2.2 b i hi'
    refine ⟨k, by rw [d1 b i (ad_old hi'), e], k32, by rw [d4 b i (ad_old hi')]; exact w1, by rw [d4 b i (ad_old hi')]; exact w20, ?_⟩
    rw [d2 b i (ad_old hi'), d3 b i (ad_old hi'), d4 b i (ad_old hi')]
    rcases hc with hc | ⟨hk1, a, ha, ea, ew⟩ | ⟨hk2, a, c, ha, hc, ea, ec, ew⟩
    · exact Or.inl hc
    · exact Or.inr (Or.inl ⟨hk1, a, ad_lt hN ha, ea, by rw [d4 _ a (ad_old ha)]; exact ew⟩)
    · exact Or.inr (Or.inr ⟨hk2, a, c, ad_lt hN ha, ad_lt hN hc, ea, ec, by rw [d4 _ a (ad_old ha), d4 _ c (ad_old hc)]; exact ew⟩)
  · refine ⟨k, ek, by unfold so_kk at hk; omega, by omega, hw20, ?_⟩
    rcases so_all hk with hs | hk1 | hk2
    · refine Or.inl ⟨hs, fun z => ?_⟩
      rw [(so_s2 hs).2.1 z] at h1
      exact h1
    · rw [so_c1 (cx_k1d hk1)] at h1 hw
      obtain ⟨a, ha, ea⟩ := so_op h1
      refine Or.inr (Or.inl ⟨hk1, a, ad_lt hN ha, ea, ?_⟩)
      have ha40 := (ex_nle hN40 hS30 ha).1
      rw [hw, ea, so_wv (by omega), so_c20 hk1, d4 _ a (ad_old ha)]
      rfl
    · rw [so_c1 (cx_k2d hk2)] at h1 hw
      rw [so_c2 hk2] at h2 hw
      obtain ⟨a, ha, ea⟩ := so_op h1
      obtain ⟨c, hc, ec⟩ := so_op h2
      have ha40 := (ex_nle hN40 hS30 ha).1
      have hc40 := (ex_nle hN40 hS30 hc).1
      refine Or.inr (Or.inr ⟨hk2, a, c, ad_lt hN ha, ad_lt hN hc, ea, ec, ?_⟩)
      rw [hw, ea, ec, so_wv (by omega), so_wv (by omega), d4 _ a (ad_old ha), d4 _ c (ad_old hc)]
theorem ad_ord {od od' : Nat → Int32} {ps ps' : Bool → Nat → Nat} (hwf : tx_wf kd o1 o2 wt N S) (h : ty_ord kd o1 o2 N S od ps) (hN : ad_N N S N' S' b0) (d1 : ad_D N S b0 kd kd') (d2 : ad_D N S b0 o1 o1') (d3 : ad_D N S b0 o2 o2') (d5 : ad_D N S b0 ps ps') (hNS : N' + S' = N + S + 1) (hp : ps' b0 (ex_n N S b0) = N + S) (ho : od' = upd od (N + S) (ty_code b0 (ex_n N S b0))) (hk : so_kk k) (ek : kd' b0 (ex_n N S b0) = nI k) (h1 : so_ok N S (so_1 k) (o1' b0 (ex_n N S b0))) (h2 : so_ok N S (so_2 k) (o2' b0 (ex_n N S b0))) : ty_ord kd' o1' o2' N' S' od' ps' := by
  have hN40 := hwf.1
  have hS30 := hwf.2.1
  refine ⟨fun b i hi => ?_, fun m hm => ?_⟩
  · rcases ad_cs hN hi with hi' | ⟨rfl, rfl⟩
    · obtain ⟨p1, p2, p3⟩ := h.1 b i hi'
      rw [d5 b i (ad_old hi'), d1 b i (ad_old hi'), d2 b i (ad_old hi'), d3 b i (ad_old hi')]
      refine ⟨by omega, by rw [ho, pk_un (by omega)]; exact p2, fun k' hk' e' => ?_⟩
      obtain ⟨q1, q2⟩ := p3 k' hk' e'
      obtain ⟨k'', e'', k32, -, -, hc⟩ := hwf.2.2 b i hi'
      have : k'' = k' := by rw [e'', nI_eq (by omega) (by omega)] at e'; exact e'
      subst this
      refine ⟨fun hd => ?_, fun hd => ?_⟩
      · have hq := q1 hd
        rcases hc with ⟨hs, -⟩ | ⟨-, a, ha, ea, -⟩ | ⟨-, a, c, ha, -, ea, -⟩
        · exact absurd hs (cx_kdn hd)
        · have ha40 := (ex_nle hN40 hS30 ha).1
          rw [ea, nI_clamp (by omega)] at hq ⊢
          rw [d5 _ a (ad_old ha)]; exact hq
        · have ha40 := (ex_nle hN40 hS30 ha).1
          rw [ea, nI_clamp (by omega)] at hq ⊢
          rw [d5 _ a (ad_old ha)]; exact hq
      · have hq := q2 hd
        rcases hc with ⟨hs, -⟩ | ⟨hk1, -⟩ | ⟨-, a, c, ha, hc, ea, ec, -⟩
        · exact absurd hs (cx_kdn (cx_k2d hd))
        · unfold cx_k1 at hk1; unfold cx_k2 at hd; omega
        · have hc40 := (ex_nle hN40 hS30 hc).1
          rw [ec, nI_clamp (by omega)] at hq ⊢
          rw [d5 _ c (ad_old hc)]; exact hq
    · rw [hp]
      refine ⟨by omega, by rw [ho, pk_us], fun k' hk' e' => ?_⟩
      have : k' = k := by unfold so_kk at hk; rw [ek, nI_eq (by omega) (by omega)] at e'; exact e'.symm
      subst this
      refine ⟨fun hd => ?_, fun hd => ?_⟩
      · rw [so_c1 hd] at h1
        obtain ⟨a, ha, ea⟩ := so_op h1
        have ha40 := (ex_nle hN40 hS30 ha).1
        rw [ea, nI_clamp (by omega), d5 _ a (ad_old ha)]
        exact (h.1 _ a ha).1
      · rw [so_c2 hd] at h2
        obtain ⟨a, ha, ea⟩ := so_op h2
        have ha40 := (ex_nle hN40 hS30 ha).1
        rw [ea, nI_clamp (by omega), d5 _ a (ad_old ha)]
        exact (h.1 _ a ha).1
  · by_cases e : m = N + S
    · subst e
      exact ⟨b0, ex_n N S b0, by rw [hN b0, if_pos rfl]; omega, hp⟩
    · obtain ⟨b, i, hi, hpm⟩ := h.2 m (by omega)
      exact ⟨b, i, ad_lt hN hi, by rw [d5 b i (ad_old hi)]; exact hpm⟩
/-- the statements' tables don't change -/
theorem ad_tz {qk qx qy qz : Nat → Int32} {ws : Nat → Nat} {T : Nat} {v v' : SY} (h : tz_wf qk qx qy qz wt ws N S T v) (hN : ad_N N S N' S' b0) (d4 : ad_D N S b0 wt wt') (e1 : ty_wk v' = ty_wk v) (e2 : ty_wx v' = ty_wx v) (e3 : ty_wy v' = ty_wy v) (e4 : ty_wz v' = ty_wz v) : tz_wf qk qx qy qz wt' ws N' S' T v' := by
  have mN : ∀ e, e < N → e < N' ∧ wt' false e = wt false e := fun e he => ⟨ad_lt (b := false) hN he, d4 false e (ad_old (b := false) he)⟩
  have mS : ∀ e, e < S → e < S' ∧ wt' true e = wt true e := fun e he => ⟨ad_lt (b := true) hN he, d4 true e (ad_old (b := true) he)⟩
  refine ⟨h.1, fun s hs => ?_⟩
  obtain ⟨w1, w2, hc⟩ := h.2 s hs
  refine ⟨w1, w2, ?_⟩
  rw [e1, e2, e3, e4]
  rcases hc with ⟨x, e, k1, k2, hx, he, r⟩ | ⟨x, e, k1, k2, hx, he, r⟩ | hc | ⟨e, a, k1, k2, he, ha, x1, y1, x2, y2, r⟩ | ⟨e, a, k1, k2, he, r⟩ | ⟨x, e, a, k1, k2, hx, he, r⟩ | ⟨e, k1, k2, he, r⟩ | hc
  · exact Or.inl ⟨x, e, k1, k2, hx, (mN e he).1, by rw [(mN e he).2]; exact r⟩
  · exact Or.inr (Or.inl ⟨x, e, k1, k2, hx, (mS e he).1, by rw [(mS e he).2]; exact r⟩)
  · exact Or.inr (Or.inr (Or.inl hc))
  · exact Or.inr (Or.inr (Or.inr (Or.inl ⟨e, a, k1, k2, (mN e he).1, ha, x1, y1, x2, y2, by rw [(mN e he).2]; exact r⟩)))
  · exact Or.inr (Or.inr (Or.inr (Or.inr (Or.inl ⟨e, a, k1, k2, (mN e he).1, by rw [(mN e he).2]; exact r⟩))))
  · exact Or.inr (Or.inr (Or.inr (Or.inr (Or.inr (Or.inl ⟨x, e, a, k1, k2, hx, (mS e he).1, by rw [(mS e he).2]; exact r⟩)))))
  · exact Or.inr (Or.inr (Or.inr (Or.inr (Or.inr (Or.inr (Or.inl ⟨e, k1, k2, (mN e he).1, by rw [(mN e he).2]; exact r⟩))))))
  · exact Or.inr (Or.inr (Or.inr (Or.inr (Or.inr (Or.inr (Or.inr hc))))))
end
end
section
/-! number and set, on both sides -/
theorem rq_c {A B : Prop} {n : Nat} {x : Int32} (hn : n < 1000) (h1 : (∃ j, j < n ∧ x = nI j) → B) (h0 : ¬ (∃ j, j < n ∧ x = nI j) → A) : (x < 0 → A) ∧ (¬ x < 0 → ((nI n ≤ x → A) ∧ (¬ nI n ≤ x → B))) := by
  refine br_c (fun z => h0 ?_) (fun z => ?_)
  · rintro ⟨j, hj, rfl⟩; exact nI_pos (by omega) z
  · obtain ⟨m, hm, rfl⟩ := nI_of z
    refine br_c (fun y => h0 ?_) (fun y => h1 ?_)
    · rintro ⟨j, hj, e⟩
      rw [nI_eq hm (by omega)] at e
      rw [nI_leI (by omega) hm] at y; omega
    · rw [nI_leI (by omega) hm] at y
      exact ⟨m, by omega, rfl⟩
theorem rq_l {A B : Prop} {n : Nat} {M x : Int32} (hn : n < 1000) (hM : M.toInt = (n : Int) - 1) (h1 : (∃ j, j < n ∧ x = nI j) → B) (h0 : ¬ (∃ j, j < n ∧ x = nI j) → A) : (x < 0 → A) ∧ (¬ x < 0 → ((M < x → A) ∧ (¬ M < x → B))) := by
  refine br_c (fun z => h0 ?_) (fun z => ?_)
  · rintro ⟨j, hj, rfl⟩; exact nI_pos (by omega) z
  · obtain ⟨m, hm, rfl⟩ := nI_of z
    refine br_c (fun y => h0 ?_) (fun y => h1 ?_)
    · rintro ⟨j, hj, e⟩
      rw [nI_eq hm (by omega)] at e
      rw [Int32.lt_iff_toInt_lt, hM, nI_toInt hm] at y; omega
    · rw [Int32.lt_iff_toInt_lt, hM, nI_toInt hm] at y
      exact ⟨m, by omega, rfl⟩
section
variable {nc sc tc lv ce tk sz ls dp sd ip ng zr cy ov hl st pc : Int32} {nk nx ny nw ek ex ey ew qk qx qy qz qw fn fs fp gn gp gs gq mm rr pl : Nat → Int32} {P : Int32 → Prop} {x : Int32} {N S T : Nat}
theorem xq_var (h1 : (∃ j, j < 4 ∧ x = nI j) → P 1) (h0 : ¬ (∃ j, j < 4 ∧ x = nI j) → P 0) : wpX_isVariable P (nc, sc, tc, lv, ce, tk, sz, ls, dp, sd, ip, ng, zr, cy, ov, hl, st, pc, nk, nx, ny, nw, ek, ex, ey, ew, qk, qx, qy, qz, qw, fn, fs, fp, gn, gp, gs, gq, mm, rr, pl) x := rq_l (n := 4) (by decide) (by decide) h1 h0
theorem xq_num (hN : N < 1000) (hnc : nc = nI N) (h1 : (∃ j, j < N ∧ x = nI j) → P 1) (h0 : ¬ (∃ j, j < N ∧ x = nI j) → P 0) : wpX_isNumber P (nc, sc, tc, lv, ce, tk, sz, ls, dp, sd, ip, ng, zr, cy, ov, hl, st, pc, nk, nx, ny, nw, ek, ex, ey, ew, qk, qx, qy, qz, qw, fn, fs, fp, gn, gp, gs, gq, mm, rr, pl) x := by
  subst hnc; exact rq_c hN h1 h0
theorem xq_set (hS : S < 1000) (hsc : sc = nI S) (h1 : (∃ j, j < S ∧ x = nI j) → P 1) (h0 : ¬ (∃ j, j < S ∧ x = nI j) → P 0) : wpX_isSet P (nc, sc, tc, lv, ce, tk, sz, ls, dp, sd, ip, ng, zr, cy, ov, hl, st, pc, nk, nx, ny, nw, ek, ex, ey, ew, qk, qx, qy, qz, qw, fn, fs, fp, gn, gp, gs, gq, mm, rr, pl) x := by
  subst hsc; exact rq_c hS h1 h0
theorem xq_sta (hT : T < 1000) (htc : tc = nI T) (h1 : (∃ j, j < T ∧ x = nI j) → P 1) (h0 : ¬ (∃ j, j < T ∧ x = nI j) → P 0) : wpX_isState P (nc, sc, tc, lv, ce, tk, sz, ls, dp, sd, ip, ng, zr, cy, ov, hl, st, pc, nk, nx, ny, nw, ek, ex, ey, ew, qk, qx, qy, qz, qw, fn, fs, fp, gn, gp, gs, gq, mm, rr, pl) x := by
  subst htc; exact rq_c hT h1 h0
end
section
variable {nn ns nt td sp pr : Int32} {yk yx yy yw yv zk zx zy zw zv od wk wx wy wz ww nu va bg ag lf ou : Nat → Int32} {P : Int32 → Prop} {x : Int32} {N S T : Nat}
theorem yq_m1 {n : Nat} (hn : n < 1000) : (nI n - 1).toInt = (n : Int) - 1 := by
  have := pk_sub_toInt (a := n) (b := 1) (by omega) (by decide)
  exact this
theorem yq_var (h1 : (∃ j, j < 4 ∧ x = nI j) → P 1) (h0 : ¬ (∃ j, j < 4 ∧ x = nI j) → P 0) : wpY_in P (nn, ns, nt, td, sp, pr, yk, yx, yy, yw, yv, zk, zx, zy, zw, zv, od, wk, wx, wy, wz, ww, nu, va, bg, ag, lf, ou) x 0 3 := rq_l (n := 4) (by decide) (by decide) h1 h0
theorem yq_num (hN : N < 1000) (hnn : nn = nI N) (h1 : (∃ j, j < N ∧ x = nI j) → P 1) (h0 : ¬ (∃ j, j < N ∧ x = nI j) → P 0) : wpY_isNumber P (nn, ns, nt, td, sp, pr, yk, yx, yy, yw, yv, zk, zx, zy, zw, zv, od, wk, wx, wy, wz, ww, nu, va, bg, ag, lf, ou) x := by
  subst hnn; unfold wpY_isNumber; exact rq_l hN (yq_m1 hN) (fun z => ⟨rfl, h1 z⟩) (fun z => ⟨rfl, h0 z⟩)
theorem yq_set (hS : S < 1000) (hns : ns = nI S) (h1 : (∃ j, j < S ∧ x = nI j) → P 1) (h0 : ¬ (∃ j, j < S ∧ x = nI j) → P 0) : wpY_isSet P (nn, ns, nt, td, sp, pr, yk, yx, yy, yw, yv, zk, zx, zy, zw, zv, od, wk, wx, wy, wz, ww, nu, va, bg, ag, lf, ou) x := by
  subst hns; unfold wpY_isSet; exact rq_l hS (yq_m1 hS) (fun z => ⟨rfl, h1 z⟩) (fun z => ⟨rfl, h0 z⟩)
theorem yq_sta (hT : T < 1000) (hnt : nt = nI T) (h1 : (∃ j, j < T ∧ x = nI j) → P 1) (h0 : ¬ (∃ j, j < T ∧ x = nI j) → P 0) : wpY_isStatement P (nn, ns, nt, td, sp, pr, yk, yx, yy, yw, yv, zk, zx, zy, zw, zv, od, wk, wx, wy, wz, ww, nu, va, bg, ag, lf, ou) x := by
  subst hnt; unfold wpY_isStatement; exact rq_l hT (yq_m1 hT) (fun z => ⟨rfl, h1 z⟩) (fun z => ⟨rfl, h0 z⟩)
/-- the sort of an operand -/
theorem yq_sn1 {k : Nat} (hk : k < 11) (h : P (nI (so_1 k))) : wpY_sort P (nn, ns, nt, td, sp, pr, yk, yx, yy, yw, yv, zk, zx, zy, zw, zv, od, wk, wx, wy, wz, ww, nu, va, bg, ag, lf, ou) 0 (nI k) 0 := by
  have hc : k = 0 ∨ k = 1 ∨ k = 2 ∨ k = 3 ∨ k = 4 ∨ k = 5 ∨ k = 6 ∨ k = 7 ∨ k = 8 ∨ k = 9 ∨ k = 10 := by omega
  rcases hc with rfl | rfl | rfl | rfl | rfl | rfl | rfl | rfl | rfl | rfl | rfl
  · exact br_t (by decide) (br_f (by decide) (br_t (by decide) (br_f (by decide) (br_f (by decide) (br_f (by decide) (br_f (by decide) (h)))))))
  · exact br_t (by decide) (br_t (by decide) (br_t (by decide) (h)))
  · exact br_t (by decide) (br_f (by decide) (br_f (by decide) (br_f (by decide) (h))))
  · exact br_t (by decide) (br_f (by decide) (br_f (by decide) (br_f (by decide) (h))))
  · exact br_t (by decide) (br_f (by decide) (br_f (by decide) (br_f (by decide) (h))))
  · exact br_t (by decide) (br_f (by decide) (br_f (by decide) (br_f (by decide) (h))))
  · exact br_t (by decide) (br_f (by decide) (br_f (by decide) (br_f (by decide) (h))))
  · exact br_t (by decide) (br_f (by decide) (br_f (by decide) (br_t (by decide) (br_t (by decide) (br_t (by decide) (h))))))
  · exact br_t (by decide) (br_f (by decide) (br_f (by decide) (br_t (by decide) (br_f (by decide) (br_t (by decide) (br_t (by decide) (h)))))))
  · exact br_t (by decide) (br_f (by decide) (br_f (by decide) (br_t (by decide) (br_f (by decide) (br_f (by decide) (br_t (by decide) (br_t (by decide) (h))))))))
  · exact br_t (by decide) (br_f (by decide) (br_f (by decide) (br_t (by decide) (br_f (by decide) (br_f (by decide) (br_f (by decide) (br_t (by decide) (h))))))))
theorem yq_ss1 {k : Nat} (hk : k < 9) (h : P (nI (so_1 (16 + k)))) : wpY_sort P (nn, ns, nt, td, sp, pr, yk, yx, yy, yw, yv, zk, zx, zy, zw, zv, od, wk, wx, wy, wz, ww, nu, va, bg, ag, lf, ou) 1 (nI k) 0 := by
  have hc : k = 0 ∨ k = 1 ∨ k = 2 ∨ k = 3 ∨ k = 4 ∨ k = 5 ∨ k = 6 ∨ k = 7 ∨ k = 8 := by omega
  rcases hc with rfl | rfl | rfl | rfl | rfl | rfl | rfl | rfl | rfl
  · exact br_f (by decide) (br_t (by decide) (br_t (by decide) (h)))
  · exact br_f (by decide) (br_f (by decide) (br_t (by decide) (br_f (by decide) (br_f (by decide) (br_f (by decide) (br_f (by decide) (h)))))))
  · exact br_f (by decide) (br_f (by decide) (br_f (by decide) (br_f (by decide) (h))))
  · exact br_f (by decide) (br_f (by decide) (br_f (by decide) (br_f (by decide) (h))))
  · exact br_f (by decide) (br_f (by decide) (br_f (by decide) (br_f (by decide) (h))))
  · exact br_f (by decide) (br_f (by decide) (br_f (by decide) (br_t (by decide) (br_t (by decide) (br_t (by decide) (h))))))
  · exact br_f (by decide) (br_f (by decide) (br_f (by decide) (br_t (by decide) (br_f (by decide) (br_t (by decide) (br_t (by decide) (h)))))))
  · exact br_f (by decide) (br_f (by decide) (br_f (by decide) (br_t (by decide) (br_f (by decide) (br_f (by decide) (br_t (by decide) (br_t (by decide) (h))))))))
  · exact br_f (by decide) (br_f (by decide) (br_f (by decide) (br_t (by decide) (br_f (by decide) (br_f (by decide) (br_f (by decide) (br_t (by decide) (h))))))))
theorem yq_sn2 {k : Nat} (hk : k < 11) (h : P (nI (so_2 k))) : wpY_sort P (nn, ns, nt, td, sp, pr, yk, yx, yy, yw, yv, zk, zx, zy, zw, zv, od, wk, wx, wy, wz, ww, nu, va, bg, ag, lf, ou) 0 (nI k) 1 := by
  have hc : k = 0 ∨ k = 1 ∨ k = 2 ∨ k = 3 ∨ k = 4 ∨ k = 5 ∨ k = 6 ∨ k = 7 ∨ k = 8 ∨ k = 9 ∨ k = 10 := by omega
  rcases hc with rfl | rfl | rfl | rfl | rfl | rfl | rfl | rfl | rfl | rfl | rfl
  · exact br_t (by decide) (br_f (by decide) (br_t (by decide) (br_f (by decide) (br_f (by decide) (br_f (by decide) (br_f (by decide) (h)))))))
  · exact br_t (by decide) (br_t (by decide) (br_f (by decide) (h)))
  · exact br_t (by decide) (br_f (by decide) (br_f (by decide) (br_f (by decide) (h))))
  · exact br_t (by decide) (br_f (by decide) (br_f (by decide) (br_f (by decide) (h))))
  · exact br_t (by decide) (br_f (by decide) (br_f (by decide) (br_f (by decide) (h))))
  · exact br_t (by decide) (br_f (by decide) (br_f (by decide) (br_f (by decide) (h))))
  · exact br_t (by decide) (br_f (by decide) (br_f (by decide) (br_f (by decide) (h))))
  · exact br_t (by decide) (br_f (by decide) (br_f (by decide) (br_t (by decide) (br_t (by decide) (br_f (by decide) (h))))))
  · exact br_t (by decide) (br_f (by decide) (br_f (by decide) (br_t (by decide) (br_f (by decide) (br_t (by decide) (br_f (by decide) (h)))))))
  · exact br_t (by decide) (br_f (by decide) (br_f (by decide) (br_t (by decide) (br_f (by decide) (br_f (by decide) (br_t (by decide) (br_f (by decide) (h))))))))
  · exact br_t (by decide) (br_f (by decide) (br_f (by decide) (br_t (by decide) (br_f (by decide) (br_f (by decide) (br_f (by decide) (br_t (by decide) (h))))))))
theorem yq_ss2 {k : Nat} (hk : k < 9) (h : P (nI (so_2 (16 + k)))) : wpY_sort P (nn, ns, nt, td, sp, pr, yk, yx, yy, yw, yv, zk, zx, zy, zw, zv, od, wk, wx, wy, wz, ww, nu, va, bg, ag, lf, ou) 1 (nI k) 1 := by
  have hc : k = 0 ∨ k = 1 ∨ k = 2 ∨ k = 3 ∨ k = 4 ∨ k = 5 ∨ k = 6 ∨ k = 7 ∨ k = 8 := by omega
  rcases hc with rfl | rfl | rfl | rfl | rfl | rfl | rfl | rfl | rfl
  · exact br_f (by decide) (br_t (by decide) (br_f (by decide) (h)))
  · exact br_f (by decide) (br_f (by decide) (br_t (by decide) (br_f (by decide) (br_f (by decide) (br_f (by decide) (br_f (by decide) (h)))))))
  · exact br_f (by decide) (br_f (by decide) (br_f (by decide) (br_f (by decide) (h))))
  · exact br_f (by decide) (br_f (by decide) (br_f (by decide) (br_f (by decide) (h))))
  · exact br_f (by decide) (br_f (by decide) (br_f (by decide) (br_f (by decide) (h))))
  · exact br_f (by decide) (br_f (by decide) (br_f (by decide) (br_t (by decide) (br_t (by decide) (br_f (by decide) (h))))))
  · exact br_f (by decide) (br_f (by decide) (br_f (by decide) (br_t (by decide) (br_f (by decide) (br_t (by decide) (br_f (by decide) (h)))))))
  · exact br_f (by decide) (br_f (by decide) (br_f (by decide) (br_t (by decide) (br_f (by decide) (br_f (by decide) (br_t (by decide) (br_f (by decide) (h))))))))
  · exact br_f (by decide) (br_f (by decide) (br_f (by decide) (br_t (by decide) (br_f (by decide) (br_f (by decide) (br_f (by decide) (br_t (by decide) (h))))))))
theorem so_r1 (k : Nat) : so_1 k < 4 := by unfold so_1; split <;> decide
theorem so_r2 (k : Nat) : so_2 k < 4 := by unfold so_2; split <;> decide
theorem yq_fits {so : Nat} (hN : N < 1000) (hS : S < 1000) (hnn : nn = nI N) (hns : ns = nI S) (hso : so < 4) (h1 : so_ok N S so x → P 1) (h0 : ¬ so_ok N S so x → P 0) : wpY_fits P (nn, ns, nt, td, sp, pr, yk, yx, yy, yw, yv, zk, zx, zy, zw, zv, od, wk, wx, wy, wz, ww, nu, va, bg, ag, lf, ou) (nI so) x := by
  have hc : so = 0 ∨ so = 1 ∨ so = 2 ∨ so = 3 := by omega
  rcases hc with rfl | rfl | rfl | rfl
  · exact br_t rfl (h1 trivial)
  · exact br_f (by decide) (br_t rfl (yq_var (fun z => br_f (by decide) (h1 z)) (fun z => br_t rfl (h0 z))))
  · exact br_f (by decide) (br_f (by decide) (br_t rfl (yq_num hN hnn (fun z => br_f (by decide) (h1 z)) (fun z => br_t rfl (h0 z)))))
  · exact br_f (by decide) (br_f (by decide) (br_f (by decide) (yq_set hS hns (fun z => br_f (by decide) (h1 z)) (fun z => br_t rfl (h0 z)))))
theorem yq_weigh {wt : Bool → Nat → Nat} {so : Nat} (hN : N ≤ 40) (hS : S ≤ 30) (hw : ∀ b i, i < ex_n N S b → kx_sel zw yw b i = nI (wt b i)) (hso : so < 4) (hok : so_ok N S so x) (h : P (nI (so_w wt so x))) : wpY_weigh P (nn, ns, nt, td, sp, pr, yk, yx, yy, yw, yv, zk, zx, zy, zw, zv, od, wk, wx, wy, wz, ww, nu, va, bg, ag, lf, ou) (nI so) x := by
  have hc : so = 0 ∨ so = 1 ∨ so = 2 ∨ so = 3 := by omega
  rcases hc with rfl | rfl | rfl | rfl
  · exact br_f (by decide) (br_f (by decide) h)
  · exact br_f (by decide) (br_f (by decide) h)
  · obtain ⟨j, hj, rfl⟩ := hok
    refine br_t rfl ⟨vp_in_nI (by omega) (by decide), ?_⟩
    have e : yw j = nI (wt false j) := hw false j hj
    have h' : P (nI (wt false (nI j).toNatClampNeg)) := h
    rw [nI_clamp (by omega)] at h' ⊢
    rw [e]; exact h'
  · obtain ⟨j, hj, rfl⟩ := hok
    refine br_f (by decide) (br_t rfl ⟨vp_in_nI (by omega) (by decide), ?_⟩)
    have e : zw j = nI (wt true j) := hw true j hj
    have h' : P (nI (wt true (nI j).toNatClampNeg)) := h
    rw [nI_clamp (by omega)] at h' ⊢
    rw [e]; exact h'
theorem so_w20 {wt : Bool → Nat → Nat} {so : Nat} (hw20 : ∀ b i, i < ex_n N S b → wt b i ≤ 20) (hN : N ≤ 40) (hS : S ≤ 30) (hso : so < 4) (hok : so_ok N S so x) : so_w wt so x ≤ 20 := by
  have hc : so = 0 ∨ so = 1 ∨ so = 2 ∨ so = 3 := by omega
  rcases hc with rfl | rfl | rfl | rfl
  · exact Nat.zero_le _
  · exact Nat.zero_le _
  · obtain ⟨j, hj, rfl⟩ := hok
    show wt false (nI j).toNatClampNeg ≤ 20
    rw [nI_clamp (by omega)]; exact hw20 false j hj
  · obtain ⟨j, hj, rfl⟩ := hok
    show wt true (nI j).toNatClampNeg ≤ 20
    rw [nI_clamp (by omega)]; exact hw20 true j hj
theorem so_dec (so : Nat) (N S : Nat) (x : Int32) : so_ok N S so x ∨ ¬ so_ok N S so x := Classical.em _
end
section
variable {nn ns nt td sp pr : Int32} {yk yx yy yw yv zk zx zy zw zv od wk wx wy wz ww nu va bg ag lf ou : Nat → Int32} {post : Int32 → SY → Prop} {x y : Int32} {N S k : Nat} {wt : Bool → Nat → Nat}
theorem yn_number (hN : N ≤ 40) (hS : S ≤ 30) (hlt : N < 40) (hnn : nn = nI N) (hns : ns = nI S) (hk : k < 11) (hw : ∀ b i, i < ex_n N S b → kx_sel zw yw b i = nI (wt b i)) (hw20 : ∀ b i, i < ex_n N S b → wt b i ≤ 20) (h0 : ¬ (so_ok N S (so_1 k) x ∧ so_ok N S (so_2 k) y) → post (-1) (nn, ns, nt, td, sp, pr, yk, yx, yy, yw, yv, zk, zx, zy, zw, zv, od, wk, wx, wy, wz, ww, nu, va, bg, ag, lf, ou)) (h1 : so_ok N S (so_1 k) x ∧ so_ok N S (so_2 k) y → 20 < 1 + so_w wt (so_1 k) x + so_w wt (so_2 k) y → post (-2) (nn, ns, nt, td, sp, pr, yk, yx, yy, yw, yv, zk, zx, zy, zw, zv, od, wk, wx, wy, wz, ww, nu, va, bg, ag, lf, ou)) (h2 : so_ok N S (so_1 k) x ∧ so_ok N S (so_2 k) y → 1 + so_w wt (so_1 k) x + so_w wt (so_2 k) y ≤ 20 → post (nI N) (nI (N + 1), ns, nt, td, sp, pr, upd yk N (nI k), upd yx N x, upd yy N y, upd yw N (nI (1 + so_w wt (so_1 k) x + so_w wt (so_2 k) y)), yv, zk, zx, zy, zw, zv, upd od (N + S) (nI N), wk, wx, wy, wz, ww, nu, va, bg, ag, lf, ou)) : wpY_number post (nn, ns, nt, td, sp, pr, yk, yx, yy, yw, yv, zk, zx, zy, zw, zv, od, wk, wx, wy, wz, ww, nu, va, bg, ag, lf, ou) (nI k) x y := by
  subst hnn hns
  have r1 := so_r1 k
  have r2 := so_r2 k
  refine br_f (kx_ne (b := 40) (by omega) (by omega) (by omega)) (rq_l (n := 11) (by decide) (by decide) (fun _ => br_f (by decide) (yq_sn1 hk (yq_sn2 hk ?_))) (fun z => absurd ⟨k, hk, rfl⟩ z))
  refine yq_fits (by omega) (by omega) rfl rfl r1 (fun o1 => br_f (by decide) ?_) (fun o1 => br_t rfl (h0 (fun q => o1 q.1)))
  refine yq_fits (by omega) (by omega) rfl rfl r2 (fun o2 => br_f (by decide) ?_) (fun o2 => br_t rfl (h0 (fun q => o2 q.2)))
  have w1 := so_w20 hw20 hN hS r1 o1
  have w2 := so_w20 hw20 hN hS r2 o2
  refine yq_weigh hN hS hw r1 o1 (yq_weigh hN hS hw r2 o2 (nm_r (e' := nI (1 + so_w wt (so_1 k) x + so_w wt (so_2 k) y)) (by rw [show (1 : Int32) = nI 1 from rfl, nI_add, nI_add]) ?_))
  refine pk_le _ 20 (fun hle => ?_) (fun hgt => h1 ⟨o1, o2⟩ hgt)
  refine ⟨by rw [nI_add]; exact vp_in_nI (by omega) (by decide), nm_r (e' := upd od (N + S) (nI N)) (by rw [nI_add, nI_clamp (by omega)]) ⟨vp_in_nI hlt (by decide), nm_r (e' := upd yk N (nI k)) (by rw [nI_clamp (by omega)]) ⟨vp_in_nI hlt (by decide), nm_r (e' := upd yx N x) (by rw [nI_clamp (by omega)]) ⟨vp_in_nI hlt (by decide), nm_r (e' := upd yy N y) (by rw [nI_clamp (by omega)]) ⟨vp_in_nI hlt (by decide), nm_r (e' := upd yw N (nI (1 + so_w wt (so_1 k) x + so_w wt (so_2 k) y))) (by rw [nI_clamp (by omega)]) (nm_r (nI_1 N) ?_)⟩⟩⟩⟩⟩
  rw [nI_pred]
  exact h2 ⟨o1, o2⟩ hle
end
section
variable {nn ns nt td sp pr : Int32} {yk yx yy yw yv zk zx zy zw zv od wk wx wy wz ww nu va bg ag lf ou : Nat → Int32} {post : Int32 → SY → Prop} {x y : Int32} {N S k : Nat} {wt : Bool → Nat → Nat}
theorem yn_set (hN : N ≤ 40) (hS : S ≤ 30) (hlt : S < 30) (hnn : nn = nI N) (hns : ns = nI S) (hk : k < 9) (hw : ∀ b i, i < ex_n N S b → kx_sel zw yw b i = nI (wt b i)) (hw20 : ∀ b i, i < ex_n N S b → wt b i ≤ 20) (h0 : ¬ (so_ok N S (so_1 (16 + k)) x ∧ so_ok N S (so_2 (16 + k)) y) → post (-1) (nn, ns, nt, td, sp, pr, yk, yx, yy, yw, yv, zk, zx, zy, zw, zv, od, wk, wx, wy, wz, ww, nu, va, bg, ag, lf, ou)) (h1 : so_ok N S (so_1 (16 + k)) x ∧ so_ok N S (so_2 (16 + k)) y → 20 < 1 + so_w wt (so_1 (16 + k)) x + so_w wt (so_2 (16 + k)) y → post (-2) (nn, ns, nt, td, sp, pr, yk, yx, yy, yw, yv, zk, zx, zy, zw, zv, od, wk, wx, wy, wz, ww, nu, va, bg, ag, lf, ou)) (h2 : so_ok N S (so_1 (16 + k)) x ∧ so_ok N S (so_2 (16 + k)) y → 1 + so_w wt (so_1 (16 + k)) x + so_w wt (so_2 (16 + k)) y ≤ 20 → post (nI S) (nn, nI (S + 1), nt, td, sp, pr, yk, yx, yy, yw, yv, upd zk S (nI k), upd zx S x, upd zy S y, upd zw S (nI (1 + so_w wt (so_1 (16 + k)) x + so_w wt (so_2 (16 + k)) y)), zv, upd od (N + S) (nI (100 + S)), wk, wx, wy, wz, ww, nu, va, bg, ag, lf, ou)) : wpY_set post (nn, ns, nt, td, sp, pr, yk, yx, yy, yw, yv, zk, zx, zy, zw, zv, od, wk, wx, wy, wz, ww, nu, va, bg, ag, lf, ou) (nI k) x y := by
  subst hnn hns
  have r1 := so_r1 (16 + k)
  have r2 := so_r2 (16 + k)
  refine br_f (kx_ne (b := 30) (by omega) (by omega) (by omega)) (rq_l (n := 9) (by decide) (by decide) (fun _ => br_f (by decide) (yq_ss1 hk (yq_ss2 hk ?_))) (fun z => absurd ⟨k, hk, rfl⟩ z))
  refine yq_fits (by omega) (by omega) rfl rfl r1 (fun o1 => br_f (by decide) ?_) (fun o1 => br_t rfl (h0 (fun q => o1 q.1)))
  refine yq_fits (by omega) (by omega) rfl rfl r2 (fun o2 => br_f (by decide) ?_) (fun o2 => br_t rfl (h0 (fun q => o2 q.2)))
  have w1 := so_w20 hw20 hN hS r1 o1
  have w2 := so_w20 hw20 hN hS r2 o2
  refine yq_weigh hN hS hw r1 o1 (yq_weigh hN hS hw r2 o2 (nm_r (e' := nI (1 + so_w wt (so_1 (16 + k)) x + so_w wt (so_2 (16 + k)) y)) (by rw [show (1 : Int32) = nI 1 from rfl, nI_add, nI_add]) ?_))
  refine pk_le _ 20 (fun hle => ?_) (fun hgt => h1 ⟨o1, o2⟩ hgt)
  refine ⟨by rw [nI_add]; exact vp_in_nI (by omega) (by decide), nm_r (e' := upd od (N + S) (nI (100 + S))) (by rw [nI_add, nI_clamp (by omega), show (100 : Int32) = nI 100 from rfl, nI_add]) ⟨vp_in_nI hlt (by decide), nm_r (e' := upd zk S (nI k)) (by rw [nI_clamp (by omega)]) ⟨vp_in_nI hlt (by decide), nm_r (e' := upd zx S x) (by rw [nI_clamp (by omega)]) ⟨vp_in_nI hlt (by decide), nm_r (e' := upd zy S y) (by rw [nI_clamp (by omega)]) ⟨vp_in_nI hlt (by decide), nm_r (e' := upd zw S (nI (1 + so_w wt (so_1 (16 + k)) x + so_w wt (so_2 (16 + k)) y))) (by rw [nI_clamp (by omega)]) (nm_r (nI_1 S) ?_)⟩⟩⟩⟩⟩
  rw [nI_pred]
  exact h2 ⟨o1, o2⟩ hle
end
section
variable {nc sc tc lv ce tk sz ls dp sd ip ng zr cy ov hl st pc : Int32} {nk nx ny nw ek ex ey ew qk qx qy qz qw fn fs fp gn gp gs gq mm rr pl : Nat → Int32} {P : Int32 → Prop} {x y : Int32} {N S k : Nat}
theorem xn_fits (hN : N < 1000) (hS : S < 1000) (hnc : nc = nI N) (hsc : sc = nI S) (hk : k < 11) (h1 : so_ok N S (so_1 k) x ∧ so_ok N S (so_2 k) y → P 1) (h0 : ¬ (so_ok N S (so_1 k) x ∧ so_ok N S (so_2 k) y) → P 0) : wpX_numberFits P (nc, sc, tc, lv, ce, tk, sz, ls, dp, sd, ip, ng, zr, cy, ov, hl, st, pc, nk, nx, ny, nw, ek, ex, ey, ew, qk, qx, qy, qz, qw, fn, fs, fp, gn, gp, gs, gq, mm, rr, pl) (nI k) x y := by
  have hc : k = 0 ∨ k = 1 ∨ k = 2 ∨ k = 3 ∨ k = 4 ∨ k = 5 ∨ k = 6 ∨ k = 7 ∨ k = 8 ∨ k = 9 ∨ k = 10 := by omega
  rcases hc with rfl | rfl | rfl | rfl | rfl | rfl | rfl | rfl | rfl | rfl | rfl
  · exact br_t rfl (h1 ⟨trivial, trivial⟩)
  · exact br_f (by decide) (br_t rfl (xq_var (fun a => ⟨rfl, h1 ⟨a, trivial⟩⟩) (fun a => ⟨rfl, h0 (fun q => a q.1)⟩)))
  · exact br_f (by decide) (br_f (by decide) (br_f (by decide) (xq_num hN hnc (fun a => br_f (by decide) (xq_num hN hnc (fun b => br_f (by decide) (h1 ⟨a, b⟩)) (fun b => br_t rfl (h0 (fun q => b q.2))))) (fun a => br_t rfl (h0 (fun q => a q.1))))))
  · exact br_f (by decide) (br_f (by decide) (br_f (by decide) (xq_num hN hnc (fun a => br_f (by decide) (xq_num hN hnc (fun b => br_f (by decide) (h1 ⟨a, b⟩)) (fun b => br_t rfl (h0 (fun q => b q.2))))) (fun a => br_t rfl (h0 (fun q => a q.1))))))
  · exact br_f (by decide) (br_f (by decide) (br_f (by decide) (xq_num hN hnc (fun a => br_f (by decide) (xq_num hN hnc (fun b => br_f (by decide) (h1 ⟨a, b⟩)) (fun b => br_t rfl (h0 (fun q => b q.2))))) (fun a => br_t rfl (h0 (fun q => a q.1))))))
  · exact br_f (by decide) (br_f (by decide) (br_f (by decide) (xq_num hN hnc (fun a => br_f (by decide) (xq_num hN hnc (fun b => br_f (by decide) (h1 ⟨a, b⟩)) (fun b => br_t rfl (h0 (fun q => b q.2))))) (fun a => br_t rfl (h0 (fun q => a q.1))))))
  · exact br_f (by decide) (br_f (by decide) (br_f (by decide) (xq_num hN hnc (fun a => br_f (by decide) (xq_num hN hnc (fun b => br_f (by decide) (h1 ⟨a, b⟩)) (fun b => br_t rfl (h0 (fun q => b q.2))))) (fun a => br_t rfl (h0 (fun q => a q.1))))))
  · exact br_f (by decide) (br_f (by decide) (br_t (by decide) (br_t rfl (xq_set hS hsc (fun a => ⟨rfl, h1 ⟨a, trivial⟩⟩) (fun a => ⟨rfl, h0 (fun q => a q.1)⟩)))))
  · exact br_f (by decide) (br_f (by decide) (br_t (by decide) (br_f (by decide) (br_t rfl (xq_set hS hsc (fun a => ⟨rfl, h1 ⟨a, trivial⟩⟩) (fun a => ⟨rfl, h0 (fun q => a q.1)⟩))))))
  · exact br_f (by decide) (br_f (by decide) (br_t (by decide) (br_f (by decide) (br_f (by decide) (br_t rfl (xq_num hN hnc (fun a => br_f (by decide) (xq_set hS hsc (fun b => br_f (by decide) (h1 ⟨a, b⟩)) (fun b => br_t rfl (h0 (fun q => b q.2))))) (fun a => br_t rfl (h0 (fun q => a q.1)))))))))
  · exact br_f (by decide) (br_f (by decide) (br_t (by decide) (br_f (by decide) (br_f (by decide) (br_f (by decide) (xq_set hS hsc (fun a => br_f (by decide) (xq_set hS hsc (fun b => br_f (by decide) (h1 ⟨a, b⟩)) (fun b => br_t rfl (h0 (fun q => b q.2))))) (fun a => br_t rfl (h0 (fun q => a q.1)))))))))
theorem xs_fits (hN : N < 1000) (hS : S < 1000) (hnc : nc = nI N) (hsc : sc = nI S) (hk : k < 9) (h1 : so_ok N S (so_1 (16 + k)) x ∧ so_ok N S (so_2 (16 + k)) y → P 1) (h0 : ¬ (so_ok N S (so_1 (16 + k)) x ∧ so_ok N S (so_2 (16 + k)) y) → P 0) : wpX_setFits P (nc, sc, tc, lv, ce, tk, sz, ls, dp, sd, ip, ng, zr, cy, ov, hl, st, pc, nk, nx, ny, nw, ek, ex, ey, ew, qk, qx, qy, qz, qw, fn, fs, fp, gn, gp, gs, gq, mm, rr, pl) (nI (16 + k)) x y := by
  have hc : k = 0 ∨ k = 1 ∨ k = 2 ∨ k = 3 ∨ k = 4 ∨ k = 5 ∨ k = 6 ∨ k = 7 ∨ k = 8 := by omega
  rcases hc with rfl | rfl | rfl | rfl | rfl | rfl | rfl | rfl | rfl
  · exact br_t rfl (xq_var (fun a => ⟨rfl, h1 ⟨a, trivial⟩⟩) (fun a => ⟨rfl, h0 (fun q => a q.1)⟩))
  · exact br_f (by decide) (br_t rfl (h1 ⟨trivial, trivial⟩))
  · exact br_f (by decide) (br_f (by decide) (br_f (by decide) (xq_set hS hsc (fun a => br_f (by decide) (xq_set hS hsc (fun b => br_f (by decide) (h1 ⟨a, b⟩)) (fun b => br_t rfl (h0 (fun q => b q.2))))) (fun a => br_t rfl (h0 (fun q => a q.1))))))
  · exact br_f (by decide) (br_f (by decide) (br_f (by decide) (xq_set hS hsc (fun a => br_f (by decide) (xq_set hS hsc (fun b => br_f (by decide) (h1 ⟨a, b⟩)) (fun b => br_t rfl (h0 (fun q => b q.2))))) (fun a => br_t rfl (h0 (fun q => a q.1))))))
  · exact br_f (by decide) (br_f (by decide) (br_f (by decide) (xq_set hS hsc (fun a => br_f (by decide) (xq_set hS hsc (fun b => br_f (by decide) (h1 ⟨a, b⟩)) (fun b => br_t rfl (h0 (fun q => b q.2))))) (fun a => br_t rfl (h0 (fun q => a q.1))))))
  · exact br_f (by decide) (br_f (by decide) (br_t (by decide) (br_t rfl (xq_set hS hsc (fun a => ⟨rfl, h1 ⟨a, trivial⟩⟩) (fun a => ⟨rfl, h0 (fun q => a q.1)⟩)))))
  · exact br_f (by decide) (br_f (by decide) (br_t (by decide) (br_f (by decide) (br_t rfl (xq_num hN hnc (fun a => ⟨rfl, h1 ⟨a, trivial⟩⟩) (fun a => ⟨rfl, h0 (fun q => a q.1)⟩))))))
  · exact br_f (by decide) (br_f (by decide) (br_t (by decide) (br_f (by decide) (br_f (by decide) (br_t rfl (xq_set hS hsc (fun a => br_f (by decide) (xq_num hN hnc (fun b => br_f (by decide) (h1 ⟨a, b⟩)) (fun b => br_t rfl (h0 (fun q => b q.2))))) (fun a => br_t rfl (h0 (fun q => a q.1)))))))))
  · exact br_f (by decide) (br_f (by decide) (br_t (by decide) (br_f (by decide) (br_f (by decide) (br_f (by decide) (xq_num hN hnc (fun a => br_f (by decide) (xq_num hN hnc (fun b => br_f (by decide) (h1 ⟨a, b⟩)) (fun b => br_t rfl (h0 (fun q => b q.2))))) (fun a => br_t rfl (h0 (fun q => a q.1)))))))))
end
end
section
/-! number and set: the component -/
section
variable {nc sc tc lv ce tk sz ls dp sd ip ng zr cy ov hl st pc : Int32} {nk nx ny nw ek ex ey ew qk qx qy qz qw fn fs fp gn gp gs gq mm rr pl : Nat → Int32} {post : Int32 → SX → Prop} {x y : Int32} {N S k W : Nat} {wt : Bool → Nat → Nat}
theorem xn_137 (hN : N < 40) (hk : k < 11) (hW : W < 1000) (h1 : 20 < W → post (-2) (nI N, sc, tc, lv, ce, tk, sz, ls, dp, sd, ip, ng, zr, cy, ov, hl, st, pc, nk, nx, ny, nw, ek, ex, ey, ew, qk, qx, qy, qz, qw, fn, fs, fp, gn, gp, gs, gq, mm, rr, pl)) (h2 : W ≤ 20 → post (nI N) (nI (N + 1), sc, tc, lv, ce, tk, sz, ls, dp, sd, ip, ng, zr, cy, ov, hl, st, pc, upd nk N (nI k), upd nx N x, upd ny N y.toInt8.toInt32, upd nw N (nI W), ek, ex, ey, ew, qk, qx, qy, qz, qw, fn, fs, fp, gn, gp, gs, gq, mm, rr, pl)) : wX_number_137 post (nI k) x y (nI W) (nI N) sc tc lv ce tk sz ls dp sd ip ng zr cy ov hl st pc nk nx ny nw ek ex ey ew qk qx qy qz qw fn fs fp gn gp gs gq mm rr pl := by
  refine pk_le W 20 (fun hle => ?_) (fun hgt => h1 hgt)
  exact nm_r (nI_1 N) ⟨vp_in_nI hN (by decide), nm_r (e' := upd nk N (nI k)) (by rw [nI_clamp (by omega), kx_byte k (by omega)]) ⟨vp_in_nI hN (by decide), nm_r (e' := upd nx N x) (by rw [nI_clamp (by omega)]) ⟨vp_in_nI hN (by decide), nm_r (e' := upd ny N y.toInt8.toInt32) (by rw [nI_clamp (by omega), pk_vb]) ⟨vp_in_nI hN (by decide), nm_r (e' := upd nw N (nI W)) (by rw [nI_clamp (by omega), kx_byte W (by omega)]) (h2 hle)⟩⟩⟩⟩
theorem xs_162 (hS : S < 30) (hk : k < 9) (hW : W < 1000) (h1 : 20 < W → post (-2) (nc, nI S, tc, lv, ce, tk, sz, ls, dp, sd, ip, ng, zr, cy, ov, hl, st, pc, nk, nx, ny, nw, ek, ex, ey, ew, qk, qx, qy, qz, qw, fn, fs, fp, gn, gp, gs, gq, mm, rr, pl)) (h2 : W ≤ 20 → post (nI S) (nc, nI (S + 1), tc, lv, ce, tk, sz, ls, dp, sd, ip, ng, zr, cy, ov, hl, st, pc, nk, nx, ny, nw, upd ek S (nI (16 + k)), upd ex S x, upd ey S y.toInt8.toInt32, upd ew S (nI W), qk, qx, qy, qz, qw, fn, fs, fp, gn, gp, gs, gq, mm, rr, pl)) : wX_set_162 post x y (nI (16 + k)) (nI W) nc (nI S) tc lv ce tk sz ls dp sd ip ng zr cy ov hl st pc nk nx ny nw ek ex ey ew qk qx qy qz qw fn fs fp gn gp gs gq mm rr pl := by
  refine pk_le W 20 (fun hle => ?_) (fun hgt => h1 hgt)
  exact nm_r (nI_1 S) ⟨vp_in_nI hS (by decide), nm_r (e' := upd ek S (nI (16 + k))) (by rw [nI_clamp (by omega), kx_byte (16 + k) (by omega)]) ⟨vp_in_nI hS (by decide), nm_r (e' := upd ex S x) (by rw [nI_clamp (by omega)]) ⟨vp_in_nI hS (by decide), nm_r (e' := upd ey S y.toInt8.toInt32) (by rw [nI_clamp (by omega), pk_vb]) ⟨vp_in_nI hS (by decide), nm_r (e' := upd ew S (nI W)) (by rw [nI_clamp (by omega), kx_byte W (by omega)]) (h2 hle)⟩⟩⟩⟩

theorem xn_number (hN : N ≤ 40) (hS : S ≤ 30) (hlt : N < 40) (hnc : nc = nI N) (hsc : sc = nI S) (hk : k < 11) (hw : ∀ b i, i < ex_n N S b → kx_sel ew nw b i = nI (wt b i)) (hw20 : ∀ b i, i < ex_n N S b → wt b i ≤ 20) (h0 : ¬ (so_ok N S (so_1 k) x ∧ so_ok N S (so_2 k) y) → post (-1) (nc, sc, tc, lv, ce, tk, sz, ls, dp, sd, ip, ng, zr, cy, ov, hl, st, pc, nk, nx, ny, nw, ek, ex, ey, ew, qk, qx, qy, qz, qw, fn, fs, fp, gn, gp, gs, gq, mm, rr, pl)) (h1 : so_ok N S (so_1 k) x ∧ so_ok N S (so_2 k) y → 20 < 1 + so_w wt (so_1 k) x + so_w wt (so_2 k) y → post (-2) (nc, sc, tc, lv, ce, tk, sz, ls, dp, sd, ip, ng, zr, cy, ov, hl, st, pc, nk, nx, ny, nw, ek, ex, ey, ew, qk, qx, qy, qz, qw, fn, fs, fp, gn, gp, gs, gq, mm, rr, pl)) (h2 : so_ok N S (so_1 k) x ∧ so_ok N S (so_2 k) y → 1 + so_w wt (so_1 k) x + so_w wt (so_2 k) y ≤ 20 → post (nI N) (nI (N + 1), sc, tc, lv, ce, tk, sz, ls, dp, sd, ip, ng, zr, cy, ov, hl, st, pc, upd nk N (nI k), upd nx N x, upd ny N y.toInt8.toInt32, upd nw N (nI (1 + so_w wt (so_1 k) x + so_w wt (so_2 k) y)), ek, ex, ey, ew, qk, qx, qy, qz, qw, fn, fs, fp, gn, gp, gs, gq, mm, rr, pl)) : wpX_number post (nc, sc, tc, lv, ce, tk, sz, ls, dp, sd, ip, ng, zr, cy, ov, hl, st, pc, nk, nx, ny, nw, ek, ex, ey, ew, qk, qx, qy, qz, qw, fn, fs, fp, gn, gp, gs, gq, mm, rr, pl) (nI k) x y := by
  subst hnc
  refine br_t (nI_lt (b := 40) hlt (by decide)) (br_f (nI_pos (by omega)) (br_f (nI_nlt (b := k) (a := 10) (by omega) (by decide)) ?_))
  refine xn_fits (by omega) (by omega) rfl hsc hk (fun o => br_f (by decide) ?_) (fun o => br_t rfl (h0 o))
  have w1 := so_w20 hw20 hN hS (so_r1 k) o.1
  have w2 := so_w20 hw20 hN hS (so_r2 k) o.2
  have K := xn_137 (sc := sc) (tc := tc) (lv := lv) (ce := ce) (tk := tk) (sz := sz) (ls := ls) (dp := dp) (sd := sd) (ip := ip) (ng := ng) (zr := zr) (cy := cy) (ov := ov) (hl := hl) (st := st) (pc := pc) (nk := nk) (nx := nx) (ny := ny) (nw := nw) (ek := ek) (ex := ex) (ey := ey) (ew := ew) (qk := qk) (qx := qx) (qy := qy) (qz := qz) (qw := qw) (fn := fn) (fs := fs) (fp := fp) (gn := gn) (gp := gp) (gs := gs) (gq := gq) (mm := mm) (rr := rr) (pl := pl) hlt hk (show 1 + so_w wt (so_1 k) x + so_w wt (so_2 k) y < 1000 by omega) (h1 o) (h2 o)
  clear h0 h1 h2 w1 w2
  have hc : k = 0 ∨ k = 1 ∨ k = 2 ∨ k = 3 ∨ k = 4 ∨ k = 5 ∨ k = 6 ∨ k = 7 ∨ k = 8 ∨ k = 9 ∨ k = 10 := by omega
  rcases hc with rfl | rfl | rfl | rfl | rfl | rfl | rfl | rfl | rfl | rfl | rfl
  · exact br_t (by decide) (br_f (by decide) (br_f (by decide) (br_f (by decide) (br_f (by decide) (K)))))
  · exact br_t (by decide) (br_f (by decide) (br_f (by decide) (br_f (by decide) (br_f (by decide) (K)))))
  · obtain ⟨a, ha, rfl⟩ := o.1
    obtain ⟨c, hc, rfl⟩ := o.2
    have ea : nw a = nI (wt false a) := hw false a ha
    have la : a < 40 := by have : a < N := ha; omega
    have ec : nw c = nI (wt false c) := hw false c hc
    have lc : c < 40 := by have : c < N := hc; omega
    have eW : nI (1 + so_w wt (so_1 2) (nI a) + so_w wt (so_2 2) (nI c)) = nI (1 + (wt false a + wt false c)) := congrArg nI (by show 1 + wt false (nI a).toNatClampNeg + wt false (nI c).toNatClampNeg = _; rw [nI_clamp (show a < 2 ^ 31 by omega), nI_clamp (show c < 2 ^ 31 by omega)]; omega)
    exact br_f (by decide) (br_f (by decide) (⟨vp_in_nI la (by decide), vp_in_nI lc (by decide), nm_r (e' := nI (1 + so_w wt (so_1 2) (nI a) + so_w wt (so_2 2) (nI c))) (by rw [eW, nI_clamp (show a < 2 ^ 31 by omega), nI_clamp (show c < 2 ^ 31 by omega), ea, ec, show (1 : Int32) = nI 1 from rfl, nI_add, nI_add]) (br_f (by decide) (br_f (by decide) (br_f (by decide) (br_f (by decide) (K)))))⟩))
  · obtain ⟨a, ha, rfl⟩ := o.1
    obtain ⟨c, hc, rfl⟩ := o.2
    have ea : nw a = nI (wt false a) := hw false a ha
    have la : a < 40 := by have : a < N := ha; omega
    have ec : nw c = nI (wt false c) := hw false c hc
    have lc : c < 40 := by have : c < N := hc; omega
    have eW : nI (1 + so_w wt (so_1 3) (nI a) + so_w wt (so_2 3) (nI c)) = nI (1 + (wt false a + wt false c)) := congrArg nI (by show 1 + wt false (nI a).toNatClampNeg + wt false (nI c).toNatClampNeg = _; rw [nI_clamp (show a < 2 ^ 31 by omega), nI_clamp (show c < 2 ^ 31 by omega)]; omega)
    exact br_f (by decide) (br_f (by decide) (⟨vp_in_nI la (by decide), vp_in_nI lc (by decide), nm_r (e' := nI (1 + so_w wt (so_1 3) (nI a) + so_w wt (so_2 3) (nI c))) (by rw [eW, nI_clamp (show a < 2 ^ 31 by omega), nI_clamp (show c < 2 ^ 31 by omega), ea, ec, show (1 : Int32) = nI 1 from rfl, nI_add, nI_add]) (br_f (by decide) (br_f (by decide) (br_f (by decide) (br_f (by decide) (K)))))⟩))
  · obtain ⟨a, ha, rfl⟩ := o.1
    obtain ⟨c, hc, rfl⟩ := o.2
    have ea : nw a = nI (wt false a) := hw false a ha
    have la : a < 40 := by have : a < N := ha; omega
    have ec : nw c = nI (wt false c) := hw false c hc
    have lc : c < 40 := by have : c < N := hc; omega
    have eW : nI (1 + so_w wt (so_1 4) (nI a) + so_w wt (so_2 4) (nI c)) = nI (1 + (wt false a + wt false c)) := congrArg nI (by show 1 + wt false (nI a).toNatClampNeg + wt false (nI c).toNatClampNeg = _; rw [nI_clamp (show a < 2 ^ 31 by omega), nI_clamp (show c < 2 ^ 31 by omega)]; omega)
    exact br_f (by decide) (br_f (by decide) (⟨vp_in_nI la (by decide), vp_in_nI lc (by decide), nm_r (e' := nI (1 + so_w wt (so_1 4) (nI a) + so_w wt (so_2 4) (nI c))) (by rw [eW, nI_clamp (show a < 2 ^ 31 by omega), nI_clamp (show c < 2 ^ 31 by omega), ea, ec, show (1 : Int32) = nI 1 from rfl, nI_add, nI_add]) (br_f (by decide) (br_f (by decide) (br_f (by decide) (br_f (by decide) (K)))))⟩))
  · obtain ⟨a, ha, rfl⟩ := o.1
    obtain ⟨c, hc, rfl⟩ := o.2
    have ea : nw a = nI (wt false a) := hw false a ha
    have la : a < 40 := by have : a < N := ha; omega
    have ec : nw c = nI (wt false c) := hw false c hc
    have lc : c < 40 := by have : c < N := hc; omega
    have eW : nI (1 + so_w wt (so_1 5) (nI a) + so_w wt (so_2 5) (nI c)) = nI (1 + (wt false a + wt false c)) := congrArg nI (by show 1 + wt false (nI a).toNatClampNeg + wt false (nI c).toNatClampNeg = _; rw [nI_clamp (show a < 2 ^ 31 by omega), nI_clamp (show c < 2 ^ 31 by omega)]; omega)
    exact br_f (by decide) (br_f (by decide) (⟨vp_in_nI la (by decide), vp_in_nI lc (by decide), nm_r (e' := nI (1 + so_w wt (so_1 5) (nI a) + so_w wt (so_2 5) (nI c))) (by rw [eW, nI_clamp (show a < 2 ^ 31 by omega), nI_clamp (show c < 2 ^ 31 by omega), ea, ec, show (1 : Int32) = nI 1 from rfl, nI_add, nI_add]) (br_f (by decide) (br_f (by decide) (br_f (by decide) (br_f (by decide) (K)))))⟩))
  · obtain ⟨a, ha, rfl⟩ := o.1
    obtain ⟨c, hc, rfl⟩ := o.2
    have ea : nw a = nI (wt false a) := hw false a ha
    have la : a < 40 := by have : a < N := ha; omega
    have ec : nw c = nI (wt false c) := hw false c hc
    have lc : c < 40 := by have : c < N := hc; omega
    have eW : nI (1 + so_w wt (so_1 6) (nI a) + so_w wt (so_2 6) (nI c)) = nI (1 + (wt false a + wt false c)) := congrArg nI (by show 1 + wt false (nI a).toNatClampNeg + wt false (nI c).toNatClampNeg = _; rw [nI_clamp (show a < 2 ^ 31 by omega), nI_clamp (show c < 2 ^ 31 by omega)]; omega)
    exact br_f (by decide) (br_f (by decide) (⟨vp_in_nI la (by decide), vp_in_nI lc (by decide), nm_r (e' := nI (1 + so_w wt (so_1 6) (nI a) + so_w wt (so_2 6) (nI c))) (by rw [eW, nI_clamp (show a < 2 ^ 31 by omega), nI_clamp (show c < 2 ^ 31 by omega), ea, ec, show (1 : Int32) = nI 1 from rfl, nI_add, nI_add]) (br_f (by decide) (br_f (by decide) (br_f (by decide) (br_f (by decide) (K)))))⟩))
  · obtain ⟨a, ha, rfl⟩ := o.1
    have ea : ew a = nI (wt true a) := hw true a ha
    have la : a < 30 := by have : a < S := ha; omega
    have eW : nI (1 + so_w wt (so_1 7) (nI a) + so_w wt (so_2 7) y) = nI (1 + wt true a) := congrArg nI (by show 1 + wt true (nI a).toNatClampNeg + 0 = _; rw [nI_clamp (show a < 2 ^ 31 by omega)]; rfl)
    exact br_f (by decide) (br_t (by decide) (br_t (by decide) (⟨vp_in_nI la (by decide), nm_r (e' := nI (1 + so_w wt (so_1 7) (nI a) + so_w wt (so_2 7) y)) (by rw [eW, nI_clamp (show a < 2 ^ 31 by omega), ea, show (1 : Int32) = nI 1 from rfl, nI_add]) (br_f (by decide) (br_f (by decide) (K)))⟩)))
  · obtain ⟨a, ha, rfl⟩ := o.1
    have ea : ew a = nI (wt true a) := hw true a ha
    have la : a < 30 := by have : a < S := ha; omega
    have eW : nI (1 + so_w wt (so_1 8) (nI a) + so_w wt (so_2 8) y) = nI (1 + wt true a) := congrArg nI (by show 1 + wt true (nI a).toNatClampNeg + 0 = _; rw [nI_clamp (show a < 2 ^ 31 by omega)]; rfl)
    exact br_f (by decide) (br_t (by decide) (br_f (by decide) (br_t (by decide) (⟨vp_in_nI la (by decide), nm_r (e' := nI (1 + so_w wt (so_1 8) (nI a) + so_w wt (so_2 8) y)) (by rw [eW, nI_clamp (show a < 2 ^ 31 by omega), ea, show (1 : Int32) = nI 1 from rfl, nI_add]) (br_f (by decide) (br_f (by decide) (K)))⟩))))
  · obtain ⟨a, ha, rfl⟩ := o.1
    obtain ⟨c, hc, rfl⟩ := o.2
    have ea : nw a = nI (wt false a) := hw false a ha
    have la : a < 40 := by have : a < N := ha; omega
    have ec : ew c = nI (wt true c) := hw true c hc
    have lc : c < 30 := by have : c < S := hc; omega
    have eW : nI (1 + so_w wt (so_1 9) (nI a) + so_w wt (so_2 9) (nI c)) = nI (1 + (wt false a + wt true c)) := congrArg nI (by show 1 + wt false (nI a).toNatClampNeg + wt true (nI c).toNatClampNeg = _; rw [nI_clamp (show a < 2 ^ 31 by omega), nI_clamp (show c < 2 ^ 31 by omega)]; omega)
    exact br_f (by decide) (br_t (by decide) (br_f (by decide) (br_f (by decide) (br_t (by decide) (⟨vp_in_nI la (by decide), vp_in_nI lc (by decide), nm_r (e' := nI (1 + so_w wt (so_1 9) (nI a) + so_w wt (so_2 9) (nI c))) (by rw [eW, nI_clamp (show a < 2 ^ 31 by omega), nI_clamp (show c < 2 ^ 31 by omega), ea, ec, show (1 : Int32) = nI 1 from rfl, nI_add, nI_add]) (br_f (by decide) (K))⟩)))))
  · obtain ⟨a, ha, rfl⟩ := o.1
    obtain ⟨c, hc, rfl⟩ := o.2
    have ea : ew a = nI (wt true a) := hw true a ha
    have la : a < 30 := by have : a < S := ha; omega
    have ec : ew c = nI (wt true c) := hw true c hc
    have lc : c < 30 := by have : c < S := hc; omega
    have eW : nI (1 + so_w wt (so_1 10) (nI a) + so_w wt (so_2 10) (nI c)) = nI (1 + (wt true a + wt true c)) := congrArg nI (by show 1 + wt true (nI a).toNatClampNeg + wt true (nI c).toNatClampNeg = _; rw [nI_clamp (show a < 2 ^ 31 by omega), nI_clamp (show c < 2 ^ 31 by omega)]; omega)
    exact br_f (by decide) (br_t (by decide) (br_f (by decide) (br_f (by decide) (br_f (by decide) (br_t (by decide) (⟨vp_in_nI la (by decide), vp_in_nI lc (by decide), nm_r (e' := nI (1 + so_w wt (so_1 10) (nI a) + so_w wt (so_2 10) (nI c))) (by rw [eW, nI_clamp (show a < 2 ^ 31 by omega), nI_clamp (show c < 2 ^ 31 by omega), ea, ec, show (1 : Int32) = nI 1 from rfl, nI_add, nI_add]) (K)⟩))))))
theorem xn_set (hN : N ≤ 40) (hS : S ≤ 30) (hlt : S < 30) (hnc : nc = nI N) (hsc : sc = nI S) (hk : k < 9) (hw : ∀ b i, i < ex_n N S b → kx_sel ew nw b i = nI (wt b i)) (hw20 : ∀ b i, i < ex_n N S b → wt b i ≤ 20) (h0 : ¬ (so_ok N S (so_1 (16 + k)) x ∧ so_ok N S (so_2 (16 + k)) y) → post (-1) (nc, sc, tc, lv, ce, tk, sz, ls, dp, sd, ip, ng, zr, cy, ov, hl, st, pc, nk, nx, ny, nw, ek, ex, ey, ew, qk, qx, qy, qz, qw, fn, fs, fp, gn, gp, gs, gq, mm, rr, pl)) (h1 : so_ok N S (so_1 (16 + k)) x ∧ so_ok N S (so_2 (16 + k)) y → 20 < 1 + so_w wt (so_1 (16 + k)) x + so_w wt (so_2 (16 + k)) y → post (-2) (nc, sc, tc, lv, ce, tk, sz, ls, dp, sd, ip, ng, zr, cy, ov, hl, st, pc, nk, nx, ny, nw, ek, ex, ey, ew, qk, qx, qy, qz, qw, fn, fs, fp, gn, gp, gs, gq, mm, rr, pl)) (h2 : so_ok N S (so_1 (16 + k)) x ∧ so_ok N S (so_2 (16 + k)) y → 1 + so_w wt (so_1 (16 + k)) x + so_w wt (so_2 (16 + k)) y ≤ 20 → post (nI S) (nc, nI (S + 1), tc, lv, ce, tk, sz, ls, dp, sd, ip, ng, zr, cy, ov, hl, st, pc, nk, nx, ny, nw, upd ek S (nI (16 + k)), upd ex S x, upd ey S y.toInt8.toInt32, upd ew S (nI (1 + so_w wt (so_1 (16 + k)) x + so_w wt (so_2 (16 + k)) y)), qk, qx, qy, qz, qw, fn, fs, fp, gn, gp, gs, gq, mm, rr, pl)) : wpX_set post (nc, sc, tc, lv, ce, tk, sz, ls, dp, sd, ip, ng, zr, cy, ov, hl, st, pc, nk, nx, ny, nw, ek, ex, ey, ew, qk, qx, qy, qz, qw, fn, fs, fp, gn, gp, gs, gq, mm, rr, pl) (nI k) x y := by
  subst hsc
  refine br_t (nI_lt (b := 30) hlt (by decide)) (nm_r (e' := nI (16 + k)) (by rw [show (16 : Int32) = nI 16 from rfl, nI_add]) (br_f (nI_pos (by omega)) (br_f (nI_nlt (b := k) (a := 8) (by omega) (by decide)) ?_)))
  refine xs_fits (by omega) (by omega) hnc rfl hk (fun o => br_f (by decide) ?_) (fun o => br_t rfl (h0 o))
  have w1 := so_w20 hw20 hN hS (so_r1 (16 + k)) o.1
  have w2 := so_w20 hw20 hN hS (so_r2 (16 + k)) o.2
  have K := xs_162 (nc := nc) (tc := tc) (lv := lv) (ce := ce) (tk := tk) (sz := sz) (ls := ls) (dp := dp) (sd := sd) (ip := ip) (ng := ng) (zr := zr) (cy := cy) (ov := ov) (hl := hl) (st := st) (pc := pc) (nk := nk) (nx := nx) (ny := ny) (nw := nw) (ek := ek) (ex := ex) (ey := ey) (ew := ew) (qk := qk) (qx := qx) (qy := qy) (qz := qz) (qw := qw) (fn := fn) (fs := fs) (fp := fp) (gn := gn) (gp := gp) (gs := gs) (gq := gq) (mm := mm) (rr := rr) (pl := pl) hlt hk (show 1 + so_w wt (so_1 (16 + k)) x + so_w wt (so_2 (16 + k)) y < 1000 by omega) (h1 o) (h2 o)
  clear h0 h1 h2 w1 w2
  have hc : k = 0 ∨ k = 1 ∨ k = 2 ∨ k = 3 ∨ k = 4 ∨ k = 5 ∨ k = 6 ∨ k = 7 ∨ k = 8 := by omega
  rcases hc with rfl | rfl | rfl | rfl | rfl | rfl | rfl | rfl | rfl
  · exact br_t (by decide) (br_f (by decide) (br_f (by decide) (br_f (by decide) (br_f (by decide) (K)))))
  · exact br_t (by decide) (br_f (by decide) (br_f (by decide) (br_f (by decide) (br_f (by decide) (K)))))
  · obtain ⟨a, ha, rfl⟩ := o.1
    obtain ⟨c, hc, rfl⟩ := o.2
    have ea : ew a = nI (wt true a) := hw true a ha
    have la : a < 30 := by have : a < S := ha; omega
    have ec : ew c = nI (wt true c) := hw true c hc
    have lc : c < 30 := by have : c < S := hc; omega
    have eW : nI (1 + so_w wt (so_1 (16 + 2)) (nI a) + so_w wt (so_2 (16 + 2)) (nI c)) = nI (1 + (wt true a + wt true c)) := congrArg nI (by show 1 + wt true (nI a).toNatClampNeg + wt true (nI c).toNatClampNeg = _; rw [nI_clamp (show a < 2 ^ 31 by omega), nI_clamp (show c < 2 ^ 31 by omega)]; omega)
    exact br_f (by decide) (br_f (by decide) (⟨vp_in_nI la (by decide), vp_in_nI lc (by decide), nm_r (e' := nI (1 + so_w wt (so_1 (16 + 2)) (nI a) + so_w wt (so_2 (16 + 2)) (nI c))) (by rw [eW, nI_clamp (show a < 2 ^ 31 by omega), nI_clamp (show c < 2 ^ 31 by omega), ea, ec, show (1 : Int32) = nI 1 from rfl, nI_add, nI_add]) (br_f (by decide) (br_f (by decide) (br_f (by decide) (br_f (by decide) (K)))))⟩))
  · obtain ⟨a, ha, rfl⟩ := o.1
    obtain ⟨c, hc, rfl⟩ := o.2
    have ea : ew a = nI (wt true a) := hw true a ha
    have la : a < 30 := by have : a < S := ha; omega
    have ec : ew c = nI (wt true c) := hw true c hc
    have lc : c < 30 := by have : c < S := hc; omega
    have eW : nI (1 + so_w wt (so_1 (16 + 3)) (nI a) + so_w wt (so_2 (16 + 3)) (nI c)) = nI (1 + (wt true a + wt true c)) := congrArg nI (by show 1 + wt true (nI a).toNatClampNeg + wt true (nI c).toNatClampNeg = _; rw [nI_clamp (show a < 2 ^ 31 by omega), nI_clamp (show c < 2 ^ 31 by omega)]; omega)
    exact br_f (by decide) (br_f (by decide) (⟨vp_in_nI la (by decide), vp_in_nI lc (by decide), nm_r (e' := nI (1 + so_w wt (so_1 (16 + 3)) (nI a) + so_w wt (so_2 (16 + 3)) (nI c))) (by rw [eW, nI_clamp (show a < 2 ^ 31 by omega), nI_clamp (show c < 2 ^ 31 by omega), ea, ec, show (1 : Int32) = nI 1 from rfl, nI_add, nI_add]) (br_f (by decide) (br_f (by decide) (br_f (by decide) (br_f (by decide) (K)))))⟩))
  · obtain ⟨a, ha, rfl⟩ := o.1
    obtain ⟨c, hc, rfl⟩ := o.2
    have ea : ew a = nI (wt true a) := hw true a ha
    have la : a < 30 := by have : a < S := ha; omega
    have ec : ew c = nI (wt true c) := hw true c hc
    have lc : c < 30 := by have : c < S := hc; omega
    have eW : nI (1 + so_w wt (so_1 (16 + 4)) (nI a) + so_w wt (so_2 (16 + 4)) (nI c)) = nI (1 + (wt true a + wt true c)) := congrArg nI (by show 1 + wt true (nI a).toNatClampNeg + wt true (nI c).toNatClampNeg = _; rw [nI_clamp (show a < 2 ^ 31 by omega), nI_clamp (show c < 2 ^ 31 by omega)]; omega)
    exact br_f (by decide) (br_f (by decide) (⟨vp_in_nI la (by decide), vp_in_nI lc (by decide), nm_r (e' := nI (1 + so_w wt (so_1 (16 + 4)) (nI a) + so_w wt (so_2 (16 + 4)) (nI c))) (by rw [eW, nI_clamp (show a < 2 ^ 31 by omega), nI_clamp (show c < 2 ^ 31 by omega), ea, ec, show (1 : Int32) = nI 1 from rfl, nI_add, nI_add]) (br_f (by decide) (br_f (by decide) (br_f (by decide) (br_f (by decide) (K)))))⟩))
  · obtain ⟨a, ha, rfl⟩ := o.1
    have ea : ew a = nI (wt true a) := hw true a ha
    have la : a < 30 := by have : a < S := ha; omega
    have eW : nI (1 + so_w wt (so_1 (16 + 5)) (nI a) + so_w wt (so_2 (16 + 5)) y) = nI (1 + wt true a) := congrArg nI (by show 1 + wt true (nI a).toNatClampNeg + 0 = _; rw [nI_clamp (show a < 2 ^ 31 by omega)]; rfl)
    exact br_f (by decide) (br_t (by decide) (br_t (by decide) (⟨vp_in_nI la (by decide), nm_r (e' := nI (1 + so_w wt (so_1 (16 + 5)) (nI a) + so_w wt (so_2 (16 + 5)) y)) (by rw [eW, nI_clamp (show a < 2 ^ 31 by omega), ea, show (1 : Int32) = nI 1 from rfl, nI_add]) (br_f (by decide) (br_f (by decide) (br_f (by decide) (K))))⟩)))
  · obtain ⟨a, ha, rfl⟩ := o.1
    have ea : nw a = nI (wt false a) := hw false a ha
    have la : a < 40 := by have : a < N := ha; omega
    have eW : nI (1 + so_w wt (so_1 (16 + 6)) (nI a) + so_w wt (so_2 (16 + 6)) y) = nI (1 + wt false a) := congrArg nI (by show 1 + wt false (nI a).toNatClampNeg + 0 = _; rw [nI_clamp (show a < 2 ^ 31 by omega)]; rfl)
    exact br_f (by decide) (br_t (by decide) (br_f (by decide) (br_t (by decide) (⟨vp_in_nI la (by decide), nm_r (e' := nI (1 + so_w wt (so_1 (16 + 6)) (nI a) + so_w wt (so_2 (16 + 6)) y)) (by rw [eW, nI_clamp (show a < 2 ^ 31 by omega), ea, show (1 : Int32) = nI 1 from rfl, nI_add]) (br_f (by decide) (br_f (by decide) (K)))⟩))))
  · obtain ⟨a, ha, rfl⟩ := o.1
    obtain ⟨c, hc, rfl⟩ := o.2
    have ea : ew a = nI (wt true a) := hw true a ha
    have la : a < 30 := by have : a < S := ha; omega
    have ec : nw c = nI (wt false c) := hw false c hc
    have lc : c < 40 := by have : c < N := hc; omega
    have eW : nI (1 + so_w wt (so_1 (16 + 7)) (nI a) + so_w wt (so_2 (16 + 7)) (nI c)) = nI (1 + (wt true a + wt false c)) := congrArg nI (by show 1 + wt true (nI a).toNatClampNeg + wt false (nI c).toNatClampNeg = _; rw [nI_clamp (show a < 2 ^ 31 by omega), nI_clamp (show c < 2 ^ 31 by omega)]; omega)
    exact br_f (by decide) (br_t (by decide) (br_f (by decide) (br_f (by decide) (br_t (by decide) (⟨vp_in_nI la (by decide), vp_in_nI lc (by decide), nm_r (e' := nI (1 + so_w wt (so_1 (16 + 7)) (nI a) + so_w wt (so_2 (16 + 7)) (nI c))) (by rw [eW, nI_clamp (show a < 2 ^ 31 by omega), nI_clamp (show c < 2 ^ 31 by omega), ea, ec, show (1 : Int32) = nI 1 from rfl, nI_add, nI_add]) (br_f (by decide) (K))⟩)))))
  · obtain ⟨a, ha, rfl⟩ := o.1
    obtain ⟨c, hc, rfl⟩ := o.2
    have ea : nw a = nI (wt false a) := hw false a ha
    have la : a < 40 := by have : a < N := ha; omega
    have ec : nw c = nI (wt false c) := hw false c hc
    have lc : c < 40 := by have : c < N := hc; omega
    have eW : nI (1 + so_w wt (so_1 (16 + 8)) (nI a) + so_w wt (so_2 (16 + 8)) (nI c)) = nI (1 + (wt false a + wt false c)) := congrArg nI (by show 1 + wt false (nI a).toNatClampNeg + wt false (nI c).toNatClampNeg = _; rw [nI_clamp (show a < 2 ^ 31 by omega), nI_clamp (show c < 2 ^ 31 by omega)]; omega)
    exact br_f (by decide) (br_t (by decide) (br_f (by decide) (br_f (by decide) (br_f (by decide) (br_t (by decide) (⟨vp_in_nI la (by decide), vp_in_nI lc (by decide), nm_r (e' := nI (1 + so_w wt (so_1 (16 + 8)) (nI a) + so_w wt (so_2 (16 + 8)) (nI c))) (by rw [eW, nI_clamp (show a < 2 ^ 31 by omega), nI_clamp (show c < 2 ^ 31 by omega), ea, ec, show (1 : Int32) = nI 1 from rfl, nI_add, nI_add]) (K)⟩))))))
end
end
section
/-! state, on both sides -/
def sk_n (n : Nat) (x : Int32) : Prop := ∃ j, j < n ∧ x = nI j
def sk_ok (N S T k : Nat) (x y z : Int32) : Prop := match k with
  | 0 => sk_n 4 x ∧ sk_n N y
  | 1 => sk_n 4 x ∧ sk_n S y
  | 2 => sk_n T x ∧ sk_n T y
  | 3 => sk_n N x ∧ sk_n T y ∧ (z = -1 ∨ sk_n T z)
  | 4 => sk_n N x ∧ sk_n T y
  | 5 => sk_n 4 x ∧ sk_n S y ∧ sk_n T z
  | 6 => sk_n N x
  | _ => True
def sk_w (wt : Bool → Nat → Nat) (ws : Nat → Nat) (k : Nat) (x y z : Int32) : Nat := match k with
  | 0 => 1 + wt false y.toNatClampNeg
  | 1 => 1 + wt true y.toNatClampNeg
  | 2 => 1 + ws x.toNatClampNeg + ws y.toNatClampNeg
  | 3 => 1 + wt false x.toNatClampNeg + ws y.toNatClampNeg + (if z < 0 then 0 else ws z.toNatClampNeg)
  | 4 => 1 + wt false x.toNatClampNeg + ws y.toNatClampNeg
  | 5 => 1 + wt true y.toNatClampNeg + ws z.toNatClampNeg
  | 6 => 1 + wt false x.toNatClampNeg
  | _ => 1
theorem sk_c {k : Nat} (h : k < 8) : k = 0 ∨ k = 1 ∨ k = 2 ∨ k = 3 ∨ k = 4 ∨ k = 5 ∨ k = 6 ∨ k = 7 := by omega
section
variable {nc sc tc lv ce tk sz ls dp sd ip ng zr cy ov hl st pc : Int32} {nk nx ny nw ek ex ey ew qk qx qy qz qw fn fs fp gn gp gs gq mm rr pl : Nat → Int32} {P : Int32 → Prop} {x y z : Int32} {N S T k : Nat}
theorem xt_fits (hN : N < 1000) (hS : S < 1000) (hT : T < 1000) (hnc : nc = nI N) (hsc : sc = nI S) (htc : tc = nI T) (hk : k < 8) (h1 : sk_ok N S T k x y z → P 1) (h0 : ¬ sk_ok N S T k x y z → P 0) : wpX_stateFits P (nc, sc, tc, lv, ce, tk, sz, ls, dp, sd, ip, ng, zr, cy, ov, hl, st, pc, nk, nx, ny, nw, ek, ex, ey, ew, qk, qx, qy, qz, qw, fn, fs, fp, gn, gp, gs, gq, mm, rr, pl) (nI k) x y z := by
  rcases sk_c hk with rfl | rfl | rfl | rfl | rfl | rfl | rfl | rfl
  · exact br_f (by decide) (br_t rfl (xq_var (fun a => br_f (by decide) (xq_num hN hnc (fun b => br_f (by decide) (h1 ⟨a, b⟩)) (fun b => br_t rfl (h0 (fun q => b q.2))))) (fun a => br_t rfl (h0 (fun q => a q.1)))))
  · exact br_f (by decide) (br_f (by decide) (br_t rfl (xq_var (fun a => br_f (by decide) (xq_set hS hsc (fun b => br_f (by decide) (h1 ⟨a, b⟩)) (fun b => br_t rfl (h0 (fun q => b q.2))))) (fun a => br_t rfl (h0 (fun q => a q.1))))))
  · exact br_f (by decide) (br_f (by decide) (br_f (by decide) (br_t rfl (xq_sta hT htc (fun a => br_f (by decide) (xq_sta hT htc (fun b => br_f (by decide) (h1 ⟨a, b⟩)) (fun b => br_t rfl (h0 (fun q => b q.2))))) (fun a => br_t rfl (h0 (fun q => a q.1)))))))
  · exact br_f (by decide) (br_f (by decide) (br_f (by decide) (br_f (by decide) (br_f (by decide) (xq_num hN hnc (fun a => br_f (by decide) (br_f (by decide) (xq_sta hT htc (fun b => br_f (by decide) (br_f (by decide) (br_c (fun c => h1 ⟨a, b, Or.inl c⟩) (fun c => xq_sta hT htc (fun d => br_f (by decide) (h1 ⟨a, b, Or.inr d⟩)) (fun d => br_t rfl (h0 (fun q => q.2.2.elim c d))))))) (fun b => br_t rfl (h0 (fun q => b q.2.1)))))) (fun a => br_t rfl (h0 (fun q => a q.1))))))))
  · exact br_f (by decide) (br_f (by decide) (br_f (by decide) (br_f (by decide) (br_f (by decide) (xq_num hN hnc (fun a => br_f (by decide) (br_f (by decide) (xq_sta hT htc (fun b => br_f (by decide) (br_t rfl (h1 ⟨a, b⟩))) (fun b => br_t rfl (h0 (fun q => b q.2)))))) (fun a => br_t rfl (h0 (fun q => a q.1))))))))
  · exact br_f (by decide) (br_f (by decide) (br_f (by decide) (br_f (by decide) (br_t rfl (xq_var (fun a => br_f (by decide) (xq_set hS hsc (fun b => br_f (by decide) (xq_sta hT htc (fun c => br_f (by decide) (h1 ⟨a, b, c⟩)) (fun c => br_t rfl (h0 (fun q => c q.2.2))))) (fun b => br_t rfl (h0 (fun q => b q.2.1))))) (fun a => br_t rfl (h0 (fun q => a q.1))))))))
  · exact br_f (by decide) (br_f (by decide) (br_f (by decide) (br_f (by decide) (br_f (by decide) (xq_num hN hnc (fun a => br_f (by decide) (br_t rfl (h1 a))) (fun a => br_t rfl (h0 a)))))))
  · exact br_t rfl (h1 trivial)
end
section
variable {nc sc tc lv ce tk sz ls dp sd ip ng zr cy ov hl st pc : Int32} {nk nx ny nw ek ex ey ew qk qx qy qz qw fn fs fp gn gp gs gq mm rr pl : Nat → Int32} {post : Int32 → SX → Prop} {x y z : Int32} {N S T k W : Nat} {wt : Bool → Nat → Nat} {ws : Nat → Nat}
theorem xt_185 (hT : T < 40) (hk : k < 8) (hW : W < 1000) (h1 : 20 < W → post (-2) (nc, sc, nI T, lv, ce, tk, sz, ls, dp, sd, ip, ng, zr, cy, ov, hl, st, pc, nk, nx, ny, nw, ek, ex, ey, ew, qk, qx, qy, qz, qw, fn, fs, fp, gn, gp, gs, gq, mm, rr, pl)) (h2 : W ≤ 20 → post (nI T) (nc, sc, nI (T + 1), lv, ce, tk, sz, ls, dp, sd, ip, ng, zr, cy, ov, hl, st, pc, nk, nx, ny, nw, ek, ex, ey, ew, upd qk T (nI k), upd qx T x.toInt8.toInt32, upd qy T y.toInt8.toInt32, upd qz T z.toInt8.toInt32, upd qw T (nI W), fn, fs, fp, gn, gp, gs, gq, mm, rr, pl)) : wX_state_185 post (nI k) x y z (nI W) nc sc (nI T) lv ce tk sz ls dp sd ip ng zr cy ov hl st pc nk nx ny nw ek ex ey ew qk qx qy qz qw fn fs fp gn gp gs gq mm rr pl := by
  refine pk_le W 20 (fun hle => ?_) (fun hgt => h1 hgt)
  exact nm_r (nI_1 T) ⟨vp_in_nI hT (by decide), nm_r (e' := upd qk T (nI k)) (by rw [nI_clamp (by omega), kx_byte k (by omega)]) ⟨vp_in_nI hT (by decide), nm_r (e' := upd qx T x.toInt8.toInt32) (by rw [nI_clamp (by omega), pk_vb]) ⟨vp_in_nI hT (by decide), nm_r (e' := upd qy T y.toInt8.toInt32) (by rw [nI_clamp (by omega), pk_vb]) ⟨vp_in_nI hT (by decide), nm_r (e' := upd qz T z.toInt8.toInt32) (by rw [nI_clamp (by omega), pk_vb]) ⟨vp_in_nI hT (by decide), nm_r (e' := upd qw T (nI W)) (by rw [nI_clamp (by omega), kx_byte W (by omega)]) (h2 hle)⟩⟩⟩⟩⟩
theorem sk_w1 (a : Nat) : (1 : Int32) + nI a = nI (1 + a) := by rw [show (1 : Int32) = nI 1 from rfl, nI_add]
theorem sk_w2 (a b : Nat) : (1 : Int32) + (nI a + nI b) = nI (1 + a + b) := by rw [nI_add, sk_w1, Nat.add_assoc]
theorem sk_w3 (a b : Nat) : (1 : Int32) + nI a + nI b = nI (1 + a + b) := by rw [sk_w1, nI_add]
theorem xt_state (hN : N ≤ 40) (hS : S ≤ 30) (hT : T ≤ 40) (hlt : T < 40) (hnc : nc = nI N) (hsc : sc = nI S) (htc : tc = nI T) (hk : k < 8) (hw : ∀ b i, i < ex_n N S b → kx_sel ew nw b i = nI (wt b i)) (hw20 : ∀ b i, i < ex_n N S b → wt b i ≤ 20) (hv : ∀ s, s < T → qw s = nI (ws s)) (hv20 : ∀ s, s < T → ws s ≤ 20) (h0 : ¬ sk_ok N S T k x y z → post (-1) (nc, sc, tc, lv, ce, tk, sz, ls, dp, sd, ip, ng, zr, cy, ov, hl, st, pc, nk, nx, ny, nw, ek, ex, ey, ew, qk, qx, qy, qz, qw, fn, fs, fp, gn, gp, gs, gq, mm, rr, pl)) (h1 : sk_ok N S T k x y z → 20 < sk_w wt ws k x y z → post (-2) (nc, sc, tc, lv, ce, tk, sz, ls, dp, sd, ip, ng, zr, cy, ov, hl, st, pc, nk, nx, ny, nw, ek, ex, ey, ew, qk, qx, qy, qz, qw, fn, fs, fp, gn, gp, gs, gq, mm, rr, pl)) (h2 : sk_ok N S T k x y z → sk_w wt ws k x y z ≤ 20 → post (nI T) (nc, sc, nI (T + 1), lv, ce, tk, sz, ls, dp, sd, ip, ng, zr, cy, ov, hl, st, pc, nk, nx, ny, nw, ek, ex, ey, ew, upd qk T (nI k), upd qx T x.toInt8.toInt32, upd qy T y.toInt8.toInt32, upd qz T z.toInt8.toInt32, upd qw T (nI (sk_w wt ws k x y z)), fn, fs, fp, gn, gp, gs, gq, mm, rr, pl)) : wpX_state post (nc, sc, tc, lv, ce, tk, sz, ls, dp, sd, ip, ng, zr, cy, ov, hl, st, pc, nk, nx, ny, nw, ek, ex, ey, ew, qk, qx, qy, qz, qw, fn, fs, fp, gn, gp, gs, gq, mm, rr, pl) (nI k) x y z := by
  subst htc
  have wN : ∀ i, i < N → nw i = nI (wt false i) ∧ wt false i ≤ 20 ∧ i < 40 := fun i hi => ⟨hw false i hi, hw20 false i hi, by omega⟩
  have wS : ∀ i, i < S → ew i = nI (wt true i) ∧ wt true i ≤ 20 ∧ i < 30 := fun i hi => ⟨hw true i hi, hw20 true i hi, by omega⟩
  have wT : ∀ i, i < T → qw i = nI (ws i) ∧ ws i ≤ 20 ∧ i < 40 := fun i hi => ⟨hv i hi, hv20 i hi, by omega⟩
  refine br_t (nI_lt (b := 40) hlt (by decide)) (br_f (nI_pos (by omega)) (br_f (nI_nlt (b := k) (a := 7) (by omega) (by decide)) ?_))
  refine xt_fits (by omega) (by omega) (by omega) hnc hsc rfl hk (fun o => br_f (by decide) ?_) (fun o => br_t rfl (h0 o))
  have H := fun (hW : sk_w wt ws k x y z < 1000) => xt_185 (nc := nc) (sc := sc) (lv := lv) (ce := ce) (tk := tk) (sz := sz) (ls := ls) (dp := dp) (sd := sd) (ip := ip) (ng := ng) (zr := zr) (cy := cy) (ov := ov) (hl := hl) (st := st) (pc := pc) (nk := nk) (nx := nx) (ny := ny) (nw := nw) (ek := ek) (ex := ex) (ey := ey) (ew := ew) (qk := qk) (qx := qx) (qy := qy) (qz := qz) (qw := qw) (fn := fn) (fs := fs) (fp := fp) (gn := gn) (gp := gp) (gs := gs) (gq := gq) (mm := mm) (rr := rr) (pl := pl) hlt hk hW (h1 o) (h2 o)
  clear h0 h1 h2
  rcases sk_c hk with rfl | rfl | rfl | rfl | rfl | rfl | rfl | rfl
  · obtain ⟨-, c, hc, rfl⟩ := o
    obtain ⟨e, l, hc40⟩ := wN c hc
    have eW : sk_w wt ws 0 x (nI c) z = 1 + wt false c := by show 1 + wt false (nI c).toNatClampNeg = _; rw [nI_clamp (by omega)]
    rw [eW] at H
    exact br_t rfl ⟨vp_in_nI hc40 (by decide), nm_r (e' := nI (1 + wt false c)) (by rw [nI_clamp (by omega), e, sk_w1]) (H (by omega))⟩
  · obtain ⟨-, c, hc, rfl⟩ := o
    obtain ⟨e, l, hc40⟩ := wS c hc
    have eW : sk_w wt ws 1 x (nI c) z = 1 + wt true c := by show 1 + wt true (nI c).toNatClampNeg = _; rw [nI_clamp (by omega)]
    rw [eW] at H
    exact br_f (by decide) (br_t rfl ⟨vp_in_nI hc40 (by decide), nm_r (e' := nI (1 + wt true c)) (by rw [nI_clamp (by omega), e, sk_w1]) (H (by omega))⟩)
  · obtain ⟨⟨a, ha, rfl⟩, c, hc, rfl⟩ := o
    obtain ⟨e1, l1, ha40⟩ := wT a ha
    obtain ⟨e2, l2, hc40⟩ := wT c hc
    have eW : sk_w wt ws 2 (nI a) (nI c) z = 1 + ws a + ws c := by show 1 + ws (nI a).toNatClampNeg + ws (nI c).toNatClampNeg = _; rw [nI_clamp (by omega), nI_clamp (by omega)]
    rw [eW] at H
    exact br_f (by decide) (br_f (by decide) (br_t rfl ⟨vp_in_nI ha40 (by decide), vp_in_nI hc40 (by decide), nm_r (e' := nI (1 + ws a + ws c)) (by rw [nI_clamp (show a < 2 ^ 31 by omega), nI_clamp (show c < 2 ^ 31 by omega), e1, e2, sk_w2]) (H (by omega))⟩))
  · obtain ⟨⟨a, ha, rfl⟩, ⟨c, hc, rfl⟩, hz⟩ := o
    obtain ⟨e1, l1, ha40⟩ := wN a ha
    obtain ⟨e2, l2, hc40⟩ := wT c hc
    refine br_f (by decide) (br_f (by decide) (br_f (by decide) (br_f (by decide) (br_f (by decide) ⟨vp_in_nI ha40 (by decide), nm_r (e' := nI (1 + wt false a)) (by rw [nI_clamp (by omega), e1, sk_w1]) (br_f (by decide) ⟨vp_in_nI hc40 (by decide), nm_r (e' := nI (1 + wt false a + ws c)) (by rw [nI_clamp (by omega), e2, nI_add]) (br_t rfl ?_)⟩)⟩))))
    rcases hz with rfl | ⟨d, hd, rfl⟩
    · have eW : sk_w wt ws 3 (nI a) (nI c) (-1) = 1 + wt false a + ws c := by show 1 + wt false (nI a).toNatClampNeg + ws (nI c).toNatClampNeg + (if (-1 : Int32) < 0 then 0 else ws (-1 : Int32).toNatClampNeg) = _; rw [nI_clamp (by omega), nI_clamp (by omega), if_pos (by decide)]; rfl
      rw [eW] at H
      exact br_t (by decide) (H (by omega))
    · obtain ⟨e3, l3, hd40⟩ := wT d hd
      have eW : sk_w wt ws 3 (nI a) (nI c) (nI d) = 1 + wt false a + ws c + ws d := by show 1 + wt false (nI a).toNatClampNeg + ws (nI c).toNatClampNeg + (if nI d < 0 then 0 else ws (nI d).toNatClampNeg) = _; rw [nI_clamp (by omega), nI_clamp (by omega), nI_clamp (by omega), if_neg (nI_pos (by omega))]
      rw [eW] at H
      exact br_f (nI_pos (by omega)) ⟨vp_in_nI hd40 (by decide), nm_r (e' := nI (1 + wt false a + ws c + ws d)) (by rw [nI_clamp (by omega), e3, nI_add]) (H (by omega))⟩
  · obtain ⟨⟨a, ha, rfl⟩, c, hc, rfl⟩ := o
    obtain ⟨e1, l1, ha40⟩ := wN a ha
    obtain ⟨e2, l2, hc40⟩ := wT c hc
    have eW : sk_w wt ws 4 (nI a) (nI c) z = 1 + wt false a + ws c := by show 1 + wt false (nI a).toNatClampNeg + ws (nI c).toNatClampNeg = _; rw [nI_clamp (by omega), nI_clamp (by omega)]
    rw [eW] at H
    exact br_f (by decide) (br_f (by decide) (br_f (by decide) (br_f (by decide) (br_f (by decide) ⟨vp_in_nI ha40 (by decide), nm_r (e' := nI (1 + wt false a)) (by rw [nI_clamp (by omega), e1, sk_w1]) (br_f (by decide) ⟨vp_in_nI hc40 (by decide), nm_r (e' := nI (1 + wt false a + ws c)) (by rw [nI_clamp (by omega), e2, nI_add]) (br_f (by decide) (H (by omega)))⟩)⟩))))
  · obtain ⟨-, ⟨c, hc, rfl⟩, d, hd, rfl⟩ := o
    obtain ⟨e1, l1, hc40⟩ := wS c hc
    obtain ⟨e2, l2, hd40⟩ := wT d hd
    have eW : sk_w wt ws 5 x (nI c) (nI d) = 1 + wt true c + ws d := by show 1 + wt true (nI c).toNatClampNeg + ws (nI d).toNatClampNeg = _; rw [nI_clamp (by omega), nI_clamp (by omega)]
    rw [eW] at H
    exact br_f (by decide) (br_f (by decide) (br_f (by decide) (br_t rfl ⟨vp_in_nI hc40 (by decide), vp_in_nI hd40 (by decide), nm_r (e' := nI (1 + wt true c + ws d)) (by rw [nI_clamp (show c < 2 ^ 31 by omega), nI_clamp (show d < 2 ^ 31 by omega), e1, e2, sk_w2]) (H (by omega))⟩)))
  · obtain ⟨a, ha, rfl⟩ := o
    obtain ⟨e1, l1, ha40⟩ := wN a ha
    have eW : sk_w wt ws 6 (nI a) y z = 1 + wt false a := by show 1 + wt false (nI a).toNatClampNeg = _; rw [nI_clamp (by omega)]
    rw [eW] at H
    exact br_f (by decide) (br_f (by decide) (br_f (by decide) (br_f (by decide) (br_f (by decide) ⟨vp_in_nI ha40 (by decide), nm_r (e' := nI (1 + wt false a)) (by rw [nI_clamp (by omega), e1, sk_w1]) (br_t rfl (br_f (by decide) (H (by omega))))⟩))))
  · exact br_f (by decide) (br_f (by decide) (br_f (by decide) (br_f (by decide) (br_t rfl (H (show 1 < 1000 by decide))))))
end
section
variable {nn ns nt td sp pr : Int32} {yk yx yy yw yv zk zx zy zw zv od wk wx wy wz ww nu va bg ag lf ou : Nat → Int32} {P : Int32 → Prop} {x y z : Int32} {N S T k : Nat} {wt : Bool → Nat → Nat} {ws : Nat → Nat}
theorem yt_bad {q : Int32} (hq : ∀ j, j < 8 → ¬ q = nI j) (h : P (-1)) : wpY_weighStatement P (nn, ns, nt, td, sp, pr, yk, yx, yy, yw, yv, zk, zx, zy, zw, zv, od, wk, wx, wy, wz, ww, nu, va, bg, ag, lf, ou) q x y z :=
  br_f (hq 0 (by decide)) (br_f (hq 1 (by decide)) (br_f (hq 2 (by decide)) (br_f (hq 3 (by decide)) (br_f (hq 4 (by decide)) (br_f (hq 5 (by decide)) (br_f (hq 6 (by decide)) (br_f (hq 7 (by decide)) h)))))))
theorem yt_w (hN : N ≤ 40) (hS : S ≤ 30) (hT : T ≤ 40) (hnn : nn = nI N) (hns : ns = nI S) (hnt : nt = nI T) (hk : k < 8) (hw : ∀ b i, i < ex_n N S b → kx_sel zw yw b i = nI (wt b i)) (hv : ∀ s, s < T → ww s = nI (ws s)) (h1 : sk_ok N S T k x y z → P (nI (sk_w wt ws k x y z))) (h0 : ¬ sk_ok N S T k x y z → P (-1)) : wpY_weighStatement P (nn, ns, nt, td, sp, pr, yk, yx, yy, yw, yv, zk, zx, zy, zw, zv, od, wk, wx, wy, wz, ww, nu, va, bg, ag, lf, ou) (nI k) x y z := by
  have wN : ∀ i, i < N → yw i = nI (wt false i) ∧ i < 40 := fun i hi => ⟨hw false i hi, by omega⟩
  have wS : ∀ i, i < S → zw i = nI (wt true i) ∧ i < 30 := fun i hi => ⟨hw true i hi, by omega⟩
  have wT : ∀ i, i < T → ww i = nI (ws i) ∧ i < 40 := fun i hi => ⟨hv i hi, by omega⟩
  have qN : N < 1000 := by omega
  have qS : S < 1000 := by omega
  have qT : T < 1000 := by omega
  rcases sk_c hk with rfl | rfl | rfl | rfl | rfl | rfl | rfl | rfl
  · refine br_t rfl (yq_var (fun a => br_f (by decide) (yq_num qN hnn (fun b => br_f (by decide) ?_) (fun b => br_t rfl (h0 (fun q => b q.2))))) (fun a => br_t rfl (h0 (fun q => a q.1))))
    obtain ⟨c, hc, rfl⟩ := b
    obtain ⟨e, hc40⟩ := wN c hc
    have H : P (nI (1 + wt false (nI c).toNatClampNeg)) := h1 ⟨a, c, hc, rfl⟩
    rw [nI_clamp (by omega)] at H ⊢
    exact ⟨vp_in_nI hc40 (by decide), by rw [e, sk_w1]; exact H⟩
  · refine br_f (by decide) (br_t rfl (yq_var (fun a => br_f (by decide) (yq_set qS hns (fun b => br_f (by decide) ?_) (fun b => br_t rfl (h0 (fun q => b q.2))))) (fun a => br_t rfl (h0 (fun q => a q.1)))))
    obtain ⟨c, hc, rfl⟩ := b
    obtain ⟨e, hc40⟩ := wS c hc
    have H : P (nI (1 + wt true (nI c).toNatClampNeg)) := h1 ⟨a, c, hc, rfl⟩
    rw [nI_clamp (by omega)] at H ⊢
    exact ⟨vp_in_nI hc40 (by decide), by rw [e, sk_w1]; exact H⟩
  · refine br_f (by decide) (br_f (by decide) (br_t rfl (yq_sta qT hnt (fun a => br_f (by decide) (yq_sta qT hnt (fun b => br_f (by decide) ?_) (fun b => br_t rfl (h0 (fun q => b q.2))))) (fun a => br_t rfl (h0 (fun q => a q.1))))))
    obtain ⟨c, hc, rfl⟩ := a
    obtain ⟨d, hd, rfl⟩ := b
    obtain ⟨e1, hc40⟩ := wT c hc
    obtain ⟨e2, hd40⟩ := wT d hd
    have H : P (nI (1 + ws (nI c).toNatClampNeg + ws (nI d).toNatClampNeg)) := h1 ⟨⟨c, hc, rfl⟩, d, hd, rfl⟩
    rw [nI_clamp (show c < 2 ^ 31 by omega), nI_clamp (show d < 2 ^ 31 by omega)] at H ⊢
    exact ⟨vp_in_nI hc40 (by decide), vp_in_nI hd40 (by decide), by rw [e1, e2, sk_w3]; exact H⟩
  · refine br_f (by decide) (br_f (by decide) (br_f (by decide) (br_t rfl (yq_num qN hnn (fun a => br_f (by decide) (yq_sta qT hnt (fun b => br_f (by decide) ?_) (fun b => br_t rfl (h0 (fun q => b q.2.1))))) (fun a => br_t rfl (h0 (fun q => a q.1)))))))
    have K : (z = -1 ∨ sk_n T z) → wY_weighStatement_150 P x y z nn ns nt td sp pr yk yx yy yw yv zk zx zy zw zv od wk wx wy wz ww nu va bg ag lf ou := by
      intro hz
      have hok : sk_ok N S T 3 x y z := ⟨a, b, hz⟩
      have H := h1 hok
      obtain ⟨c, hc, rfl⟩ := a
      obtain ⟨d, hd, rfl⟩ := b
      obtain ⟨e1, hc40⟩ := wN c hc
      obtain ⟨e2, hd40⟩ := wT d hd
      refine ⟨vp_in_nI hc40 (by decide), vp_in_nI hd40 (by decide), ?_⟩
      rcases hz with rfl | ⟨f, hf, rfl⟩
      · have eW : sk_w wt ws 3 (nI c) (nI d) (-1) = 1 + wt false c + ws d := by show 1 + wt false (nI c).toNatClampNeg + ws (nI d).toNatClampNeg + (if (-1 : Int32) < 0 then 0 else ws (-1 : Int32).toNatClampNeg) = _; rw [nI_clamp (by omega), nI_clamp (by omega), if_pos (by decide)]; rfl
        rw [eW] at H
        refine br_f (by decide) ?_
        rw [nI_clamp (show c < 2 ^ 31 by omega), nI_clamp (show d < 2 ^ 31 by omega), e1, e2, sk_w3, Int32.add_zero]
        exact H
      · obtain ⟨e3, hf40⟩ := wT f hf
        have eW : sk_w wt ws 3 (nI c) (nI d) (nI f) = 1 + wt false c + ws d + ws f := by show 1 + wt false (nI c).toNatClampNeg + ws (nI d).toNatClampNeg + (if nI f < 0 then 0 else ws (nI f).toNatClampNeg) = _; rw [nI_clamp (by omega), nI_clamp (by omega), nI_clamp (by omega), if_neg (nI_pos (by omega))]
        rw [eW] at H
        refine br_t (nI_pos' (by omega)) ⟨vp_in_nI hf40 (by decide), ?_⟩
        rw [nI_clamp (show c < 2 ^ 31 by omega), nI_clamp (show d < 2 ^ 31 by omega), nI_clamp (show f < 2 ^ 31 by omega), e1, e2, e3, sk_w3, nI_add]
        exact H
    exact br_c (fun c => K (Or.inl c)) (fun c => yq_sta qT hnt (fun d => br_f (by decide) (K (Or.inr d))) (fun d => br_t rfl (h0 (fun q => q.2.2.elim c d))))
  · refine br_f (by decide) (br_f (by decide) (br_f (by decide) (br_f (by decide) (br_t rfl (yq_num qN hnn (fun a => br_f (by decide) (yq_sta qT hnt (fun b => br_f (by decide) ?_) (fun b => br_t rfl (h0 (fun q => b q.2))))) (fun a => br_t rfl (h0 (fun q => a q.1))))))))
    obtain ⟨c, hc, rfl⟩ := a
    obtain ⟨d, hd, rfl⟩ := b
    obtain ⟨e1, hc40⟩ := wN c hc
    obtain ⟨e2, hd40⟩ := wT d hd
    have H : P (nI (1 + wt false (nI c).toNatClampNeg + ws (nI d).toNatClampNeg)) := h1 ⟨⟨c, hc, rfl⟩, d, hd, rfl⟩
    rw [nI_clamp (show c < 2 ^ 31 by omega), nI_clamp (show d < 2 ^ 31 by omega)] at H ⊢
    exact ⟨vp_in_nI hc40 (by decide), vp_in_nI hd40 (by decide), by rw [e1, e2, sk_w3]; exact H⟩
  · refine br_f (by decide) (br_f (by decide) (br_f (by decide) (br_f (by decide) (br_f (by decide) (br_t rfl (yq_var (fun a => br_f (by decide) (yq_set qS hns (fun b => br_f (by decide) (yq_sta qT hnt (fun c => br_f (by decide) ?_) (fun c => br_t rfl (h0 (fun q => c q.2.2))))) (fun b => br_t rfl (h0 (fun q => b q.2.1))))) (fun a => br_t rfl (h0 (fun q => a q.1)))))))))
    obtain ⟨f, hf, rfl⟩ := b
    obtain ⟨d, hd, rfl⟩ := c
    obtain ⟨e1, hc40⟩ := wS f hf
    obtain ⟨e2, hd40⟩ := wT d hd
    have H : P (nI (1 + wt true (nI f).toNatClampNeg + ws (nI d).toNatClampNeg)) := h1 ⟨a, ⟨f, hf, rfl⟩, d, hd, rfl⟩
    rw [nI_clamp (show f < 2 ^ 31 by omega), nI_clamp (show d < 2 ^ 31 by omega)] at H ⊢
    exact ⟨vp_in_nI hc40 (by decide), vp_in_nI hd40 (by decide), by rw [e1, e2, sk_w3]; exact H⟩
  · refine br_f (by decide) (br_f (by decide) (br_f (by decide) (br_f (by decide) (br_f (by decide) (br_f (by decide) (br_t rfl (yq_num qN hnn (fun a => br_f (by decide) ?_) (fun a => br_t rfl (h0 a)))))))))
    obtain ⟨c, hc, rfl⟩ := a
    obtain ⟨e1, hc40⟩ := wN c hc
    have H : P (nI (1 + wt false (nI c).toNatClampNeg)) := h1 ⟨c, hc, rfl⟩
    rw [nI_clamp (show c < 2 ^ 31 by omega)] at H ⊢
    exact ⟨vp_in_nI hc40 (by decide), by rw [e1, sk_w1]; exact H⟩
  · exact br_f (by decide) (br_f (by decide) (br_f (by decide) (br_f (by decide) (br_f (by decide) (br_f (by decide) (br_f (by decide) (br_t rfl (h1 trivial))))))))
end
section
variable {nn ns nt td sp pr : Int32} {yk yx yy yw yv zk zx zy zw zv od wk wx wy wz ww nu va bg ag lf ou : Nat → Int32} {post : Int32 → SY → Prop} {x y z : Int32} {N S T k : Nat} {wt : Bool → Nat → Nat} {ws : Nat → Nat}
theorem yt_state (hN : N ≤ 40) (hS : S ≤ 30) (hT : T ≤ 40) (hlt : T < 40) (hnn : nn = nI N) (hns : ns = nI S) (hnt : nt = nI T) (hk : k < 8) (hw : ∀ b i, i < ex_n N S b → kx_sel zw yw b i = nI (wt b i)) (hv : ∀ s, s < T → ww s = nI (ws s)) (hW : sk_ok N S T k x y z → sk_w wt ws k x y z < 1000) (h0 : ¬ sk_ok N S T k x y z → post (-1) (nn, ns, nt, td, sp, pr, yk, yx, yy, yw, yv, zk, zx, zy, zw, zv, od, wk, wx, wy, wz, ww, nu, va, bg, ag, lf, ou)) (h1 : sk_ok N S T k x y z → 20 < sk_w wt ws k x y z → post (-2) (nn, ns, nt, td, sp, pr, yk, yx, yy, yw, yv, zk, zx, zy, zw, zv, od, wk, wx, wy, wz, ww, nu, va, bg, ag, lf, ou)) (h2 : sk_ok N S T k x y z → sk_w wt ws k x y z ≤ 20 → post (nI T) (nn, ns, nI (T + 1), td, sp, pr, yk, yx, yy, yw, yv, zk, zx, zy, zw, zv, od, upd wk T (nI k), upd wx T x, upd wy T y, upd wz T z, upd ww T (nI (sk_w wt ws k x y z)), nu, va, bg, ag, lf, ou)) : wpY_state post (nn, ns, nt, td, sp, pr, yk, yx, yy, yw, yv, zk, zx, zy, zw, zv, od, wk, wx, wy, wz, ww, nu, va, bg, ag, lf, ou) (nI k) x y z := by
  subst hnt
  refine br_f (kx_ne (b := 40) (by omega) (by omega) (by omega)) (yt_w hN hS hT hnn hns rfl hk hw hv (fun o => ?_) (fun o => br_f (by decide) (h0 o)))
  have hW' := hW o
  refine br_t (nI_pos' (by omega)) (pk_le _ 20 (fun hle => ?_) (fun hgt => h1 o hgt))
  refine ⟨vp_in_nI hlt (by decide), nm_r (e' := upd wk T (nI k)) (by rw [nI_clamp (by omega)]) ⟨vp_in_nI hlt (by decide), nm_r (e' := upd wx T x) (by rw [nI_clamp (by omega)]) ⟨vp_in_nI hlt (by decide), nm_r (e' := upd wy T y) (by rw [nI_clamp (by omega)]) ⟨vp_in_nI hlt (by decide), nm_r (e' := upd wz T z) (by rw [nI_clamp (by omega)]) ⟨vp_in_nI hlt (by decide), nm_r (e' := upd ww T (nI (sk_w wt ws k x y z))) (by rw [nI_clamp (by omega)]) (nm_r (nI_1 T) ?_)⟩⟩⟩⟩⟩
  rw [nI_pred]
  exact h2 o hle
end
end
section
/-! one statement more -/
theorem by_8 {j : Nat} (h : j < 128) : (nI j).toInt8.toInt32 = nI j := (by decide +kernel : ∀ j, j < 128 → (nI j).toInt8.toInt32 = nI j) j h
def sk_ws (ws : Nat → Nat) (T W : Nat) : Nat → Nat := fun s => if s = T then W else ws s
theorem sk_wsN {ws : Nat → Nat} {T W : Nat} : sk_ws ws T W T = W := if_pos rfl
theorem sk_wsO {ws : Nat → Nat} {T W a : Nat} (h : a < T) : sk_ws ws T W a = ws a := if_neg (by omega)
theorem ad_st {qk qx qy qz : Nat → Int32} {wt : Bool → Nat → Nat} {ws : Nat → Nat} {N S T k : Nat} {v v' : SY} {x y z : Int32} (h : tz_wf qk qx qy qz wt ws N S T v) (hN : N ≤ 40) (hS : S ≤ 30) (hT : T < 40) (hk : k < 8) (ok : sk_ok N S T k x y z) (hW : sk_w wt ws k x y z ≤ 20) (e1 : ty_wk v' = upd (ty_wk v) T (nI k)) (e2 : ty_wx v' = upd (ty_wx v) T x) (e3 : ty_wy v' = upd (ty_wy v) T y) (e4 : ty_wz v' = upd (ty_wz v) T z) : tz_wf (upd qk T (nI k)) (upd qx T x.toInt8.toInt32) (upd qy T y.toInt8.toInt32) (upd qz T z.toInt8.toInt32) wt (sk_ws ws T (sk_w wt ws k x y z)) N S (T + 1) v' := by
  refine ⟨by omega, fun s hs => ?_⟩
  by_cases hsT : s = T
  · subst hsT
    rw [sk_wsN, e1, e2, e3, e4, pk_us, pk_us, pk_us, pk_us, pk_us, pk_us, pk_us, pk_us]
    rcases sk_c hk with rfl | rfl | rfl | rfl | rfl | rfl | rfl | rfl
    · obtain ⟨⟨a, ha, rfl⟩, c, hc, rfl⟩ := ok
      have eW : sk_w wt ws 0 (nI a) (nI c) z = 1 + wt false c := by show 1 + wt false (nI c).toNatClampNeg = _; rw [nI_clamp (by omega)]
      rw [eW] at hW ⊢
      exact ⟨by omega, hW, Or.inl ⟨a, c, rfl, rfl, ha, hc, by_8 (by omega), by_8 (by omega), rfl, rfl, rfl⟩⟩
    · obtain ⟨⟨a, ha, rfl⟩, c, hc, rfl⟩ := ok
      have eW : sk_w wt ws 1 (nI a) (nI c) z = 1 + wt true c := by show 1 + wt true (nI c).toNatClampNeg = _; rw [nI_clamp (by omega)]
      rw [eW] at hW ⊢
      exact ⟨by omega, hW, Or.inr (Or.inl ⟨a, c, rfl, rfl, ha, hc, by_8 (by omega), by_8 (by omega), rfl, rfl, rfl⟩)⟩
    · obtain ⟨⟨a, ha, rfl⟩, c, hc, rfl⟩ := ok
      have eW : sk_w wt ws 2 (nI a) (nI c) z = 1 + ws a + ws c := by show 1 + ws (nI a).toNatClampNeg + ws (nI c).toNatClampNeg = _; rw [nI_clamp (by omega), nI_clamp (by omega)]
      rw [eW] at hW ⊢
      exact ⟨by omega, hW, Or.inr (Or.inr (Or.inl ⟨a, c, rfl, rfl, by omega, by omega, by_8 (by omega), by_8 (by omega), rfl, rfl, by rw [sk_wsO ha, sk_wsO hc]⟩))⟩
    · obtain ⟨⟨a, ha, rfl⟩, ⟨c, hc, rfl⟩, hz⟩ := ok
      rcases hz with rfl | ⟨d, hd, rfl⟩
      · have eW : sk_w wt ws 3 (nI a) (nI c) (-1) = 1 + wt false a + ws c := by show 1 + wt false (nI a).toNatClampNeg + ws (nI c).toNatClampNeg + (if (-1 : Int32) < 0 then 0 else ws (-1 : Int32).toNatClampNeg) = _; rw [nI_clamp (by omega), nI_clamp (by omega), if_pos (by decide)]; rfl
        rw [eW] at hW ⊢
        exact ⟨by omega, hW, Or.inr (Or.inr (Or.inr (Or.inl ⟨a, c, rfl, rfl, ha, by omega, by_8 (by omega), by_8 (by omega), rfl, rfl, Or.inl ⟨by decide, by decide, by rw [sk_wsO hc]⟩⟩)))⟩
      · have eW : sk_w wt ws 3 (nI a) (nI c) (nI d) = 1 + wt false a + ws c + ws d := by show 1 + wt false (nI a).toNatClampNeg + ws (nI c).toNatClampNeg + (if nI d < 0 then 0 else ws (nI d).toNatClampNeg) = _; rw [nI_clamp (by omega), nI_clamp (by omega), nI_clamp (by omega), if_neg (nI_pos (by omega))]
        rw [eW] at hW ⊢
        exact ⟨by omega, hW, Or.inr (Or.inr (Or.inr (Or.inl ⟨a, c, rfl, rfl, ha, by omega, by_8 (by omega), by_8 (by omega), rfl, rfl, Or.inr ⟨d, by omega, by_8 (by omega), rfl, by rw [sk_wsO hc, sk_wsO hd]⟩⟩)))⟩
    · obtain ⟨⟨a, ha, rfl⟩, c, hc, rfl⟩ := ok
      have eW : sk_w wt ws 4 (nI a) (nI c) z = 1 + wt false a + ws c := by show 1 + wt false (nI a).toNatClampNeg + ws (nI c).toNatClampNeg = _; rw [nI_clamp (by omega), nI_clamp (by omega)]
      rw [eW] at hW ⊢
      exact ⟨by omega, hW, Or.inr (Or.inr (Or.inr (Or.inr (Or.inl ⟨a, c, rfl, rfl, ha, by omega, by_8 (by omega), by_8 (by omega), rfl, rfl, by rw [sk_wsO hc]⟩))))⟩
    · obtain ⟨⟨a, ha, rfl⟩, ⟨c, hc, rfl⟩, d, hd, rfl⟩ := ok
      have eW : sk_w wt ws 5 (nI a) (nI c) (nI d) = 1 + wt true c + ws d := by show 1 + wt true (nI c).toNatClampNeg + ws (nI d).toNatClampNeg = _; rw [nI_clamp (by omega), nI_clamp (by omega)]
      rw [eW] at hW ⊢
      exact ⟨by omega, hW, Or.inr (Or.inr (Or.inr (Or.inr (Or.inr (Or.inl ⟨a, c, d, rfl, rfl, ha, hc, by omega, by_8 (by omega), by_8 (by omega), by_8 (by omega), rfl, rfl, rfl, by rw [sk_wsO hd]⟩)))))⟩
    · obtain ⟨a, ha, rfl⟩ := ok
      have eW : sk_w wt ws 6 (nI a) y z = 1 + wt false a := by show 1 + wt false (nI a).toNatClampNeg = _; rw [nI_clamp (by omega)]
      rw [eW] at hW ⊢
      exact ⟨by omega, hW, Or.inr (Or.inr (Or.inr (Or.inr (Or.inr (Or.inr (Or.inl ⟨a, rfl, rfl, ha, by_8 (by omega), rfl, rfl⟩))))))⟩
    · exact ⟨Nat.le_refl 1, hW, Or.inr (Or.inr (Or.inr (Or.inr (Or.inr (Or.inr (Or.inr ⟨rfl, rfl⟩))))))⟩
  · have hs' : s < T := by omega
    obtain ⟨w1, w2, hc⟩ := h.2 s hs'
    rw [sk_wsO hs', e1, e2, e3, e4, pk_un hsT, pk_un hsT, pk_un hsT, pk_un hsT, pk_un hsT, pk_un hsT, pk_un hsT, pk_un hsT]
    refine ⟨w1, w2, ?_⟩
    rcases hc with hc | hc | ⟨a, b, k1, k2, ha, hb, x1, y1, x2, y2, hws⟩ | ⟨e, a, k1, k2, he, ha, x1, y1, x2, y2, hzz⟩ | ⟨e, a, k1, k2, he, ha, x1, y1, x2, y2, hws⟩ | ⟨x, e, a, k1, k2, hx, he, ha, x1, y1, z1, x2, y2, z2, hws⟩ | hc | hc
    · exact Or.inl hc
    · exact Or.inr (Or.inl hc)
    · exact Or.inr (Or.inr (Or.inl ⟨a, b, k1, k2, by omega, by omega, x1, y1, x2, y2, by rw [sk_wsO ha, sk_wsO hb]; exact hws⟩))
    · refine Or.inr (Or.inr (Or.inr (Or.inl ⟨e, a, k1, k2, he, by omega, x1, y1, x2, y2, ?_⟩)))
      rw [sk_wsO ha]
      rcases hzz with hzz | ⟨c, hc, c1, c2, c3⟩
      · exact Or.inl hzz
      · exact Or.inr ⟨c, by omega, c1, c2, by rw [sk_wsO hc]; exact c3⟩
    · exact Or.inr (Or.inr (Or.inr (Or.inr (Or.inl ⟨e, a, k1, k2, he, by omega, x1, y1, x2, y2, by rw [sk_wsO ha]; exact hws⟩))))
    · exact Or.inr (Or.inr (Or.inr (Or.inr (Or.inr (Or.inl ⟨x, e, a, k1, k2, hx, he, by omega, x1, y1, z1, x2, y2, z2, by rw [sk_wsO ha]; exact hws⟩)))))
    · exact Or.inr (Or.inr (Or.inr (Or.inr (Or.inr (Or.inr (Or.inl hc))))))
    · exact Or.inr (Or.inr (Or.inr (Or.inr (Or.inr (Or.inr (Or.inr hc))))))
theorem sk_w80 {wt : Bool → Nat → Nat} {ws : Nat → Nat} {N S T k : Nat} {x y z : Int32} (hN : N ≤ 40) (hS : S ≤ 30) (hT : T ≤ 40) (hk : k < 8) (h1 : ∀ b i, i < ex_n N S b → wt b i ≤ 20) (h2 : ∀ s, s < T → ws s ≤ 20) (ok : sk_ok N S T k x y z) : sk_w wt ws k x y z < 1000 := by
  have wN : ∀ i, i < N → wt false i ≤ 20 := fun i hi => h1 false i hi
  have wS : ∀ i, i < S → wt true i ≤ 20 := fun i hi => h1 true i hi
  rcases sk_c hk with rfl | rfl | rfl | rfl | rfl | rfl | rfl | rfl
  · obtain ⟨-, c, hc, rfl⟩ := ok
    show 1 + wt false (nI c).toNatClampNeg < 1000
    rw [nI_clamp (by omega)]; have := wN c hc; omega
  · obtain ⟨-, c, hc, rfl⟩ := ok
    show 1 + wt true (nI c).toNatClampNeg < 1000
    rw [nI_clamp (by omega)]; have := wS c hc; omega
  · obtain ⟨⟨a, ha, rfl⟩, c, hc, rfl⟩ := ok
    show 1 + ws (nI a).toNatClampNeg + ws (nI c).toNatClampNeg < 1000
    rw [nI_clamp (by omega), nI_clamp (by omega)]; have := h2 a ha; have := h2 c hc; omega
  · obtain ⟨⟨a, ha, rfl⟩, ⟨c, hc, rfl⟩, hz⟩ := ok
    show 1 + wt false (nI a).toNatClampNeg + ws (nI c).toNatClampNeg + (if z < 0 then 0 else ws z.toNatClampNeg) < 1000
    have := wN a ha; have := h2 c hc
    rw [nI_clamp (by omega), nI_clamp (by omega)]
    rcases hz with rfl | ⟨d, hd, rfl⟩
    · rw [if_pos (by decide)]; omega
    · have := h2 d hd
      rw [if_neg (nI_pos (by omega)), nI_clamp (by omega)]; omega
  · obtain ⟨⟨a, ha, rfl⟩, c, hc, rfl⟩ := ok
    show 1 + wt false (nI a).toNatClampNeg + ws (nI c).toNatClampNeg < 1000
    rw [nI_clamp (by omega), nI_clamp (by omega)]; have := wN a ha; have := h2 c hc; omega
  · obtain ⟨-, ⟨c, hc, rfl⟩, d, hd, rfl⟩ := ok
    show 1 + wt true (nI c).toNatClampNeg + ws (nI d).toNatClampNeg < 1000
    rw [nI_clamp (by omega), nI_clamp (by omega)]; have := wS c hc; have := h2 d hd; omega
  · obtain ⟨a, ha, rfl⟩ := ok
    show 1 + wt false (nI a).toNatClampNeg < 1000
    rw [nI_clamp (by omega)]; have := wN a ha; omega
  · show 1 < 1000; decide
end
section
/-! the relation -/
def rl_t (nc sc tc : Int32) (nk nx ny nw ek ex ey ew qk qx qy qz qw : Nat → Int32) (nn ns nt : Int32) (yk yx yy yw zk zx zy zw od wk wx wy wz ww : Nat → Int32) : Prop :=
  ∃ (N S T : Nat) (wt : Bool → Nat → Nat) (ws : Nat → Nat) (ps : Bool → Nat → Nat), nc = nI N ∧ sc = nI S ∧ tc = nI T ∧ nn = nI N ∧ ns = nI S ∧ nt = nI T ∧ tx_wf (kx_sel ek nk) (kx_sel ex nx) (kx_sel ey ny) wt N S ∧ ty_tab (kx_sel ek nk) (kx_sel ex nx) (kx_sel ey ny) N S yk yx yy zk zx zy ∧ ty_ord (kx_sel ek nk) (kx_sel ex nx) (kx_sel ey ny) N S od ps ∧ (∀ v : SY, ty_wk v = wk → ty_wx v = wx → ty_wy v = wy → ty_wz v = wz → tz_wf qk qx qy qz wt ws N S T v) ∧ (∀ b i, i < ex_n N S b → kx_sel ew nw b i = nI (wt b i) ∧ kx_sel zw yw b i = nI (wt b i)) ∧ (∀ s, s < T → qw s = nI (ws s) ∧ ww s = nI (ws s))
def rl_m (ce tk sz ls st pc : Int32) (mm rr pl : Nat → Int32) (sp pr : Int32) (nu va ou : Nat → Int32) : Prop :=
  ∃ t z : Nat, ce = nI 23 ∧ tk = nI 0 ∧ sz = nI 5 ∧ ls = nI 13 ∧ cx_at mm 0 cx_rt ∧ st = nI t ∧ sp = nI t ∧ pc = nI z ∧ pr = nI z ∧ z ≤ t ∧ t ≤ 400 ∧ ou = pl ∧ (∀ i, i < 4 → rr (4 + i) = nu i) ∧ (∀ i, i < 4 → rr (8 + i) = va i)
/-- the relation: the tables, and what is seen of the machine -/
def i_Rel (_ : Nat) (u : SX) (v : SY) : Prop := match u, v with
  | (nc, sc, tc, lv, ce, tk, sz, ls, dp, sd, ip, ng, zr, cy, ov, hl, st, pc, nk, nx, ny, nw, ek, ex, ey, ew, qk, qx, qy, qz, qw, fn, fs, fp, gn, gp, gs, gq, mm, rr, pl), (nn, ns, nt, td, sp, pr, yk, yx, yy, yw, yv, zk, zx, zy, zw, zv, od, wk, wx, wy, wz, ww, nu, va, bg, ag, lf, ou) => rl_t nc sc tc nk nx ny nw ek ex ey ew qk qx qy qz qw nn ns nt yk yx yy yw zk zx zy zw od wk wx wy wz ww ∧ rl_m ce tk sz ls st pc mm rr pl sp pr nu va ou
theorem i_up {k : Nat} {u : SX} {v : SY} (h : i_Rel k u v) : i_Rel (k + 5) u v := h
section
variable {nc sc tc lv ce tk sz ls dp sd ip ng zr cy ov hl st pc : Int32} {nk nx ny nw ek ex ey ew qk qx qy qz qw fn fs fp gn gp gs gq mm rr pl : Nat → Int32} {post : SX → Prop}
theorem rl_wr (h : post (nc, sc, tc, lv, nI 23, nI 0, nI 5, nI 13, dp, sd, ip, ng, zr, cy, ov, hl, st, pc, nk, nx, ny, nw, ek, ex, ey, ew, qk, qx, qy, qz, qw, fn, fs, fp, gn, gp, gs, gq, cx_wr cx_rt mm 0, rr, pl)) : wpX_writeRoutines post (nc, sc, tc, lv, nI 0, tk, sz, ls, dp, sd, ip, ng, zr, cy, ov, hl, st, pc, nk, nx, ny, nw, ek, ex, ey, ew, qk, qx, qy, qz, qw, fn, fs, fp, gn, gp, gs, gq, mm, rr, pl) := by
  unfold wpX_writeRoutines
  exact kx_d1 (by decide) ⟨by decide, by decide⟩ (kx_w0 (by decide) (Or.inr ⟨by decide, by decide⟩) (kx_put (by decide) (kx_d0 (by decide) (Or.inl (by decide)) (kx_back (by decide)
    (kx_d0 (by decide) (Or.inr ⟨by decide, by decide⟩) (kx_cw (by decide) (kx_w0 (by decide) (Or.inr ⟨by decide, by decide⟩) (kx_back (by decide) (kx_d0 (by decide) (Or.inl (by decide)) (kx_d0 (by decide) (Or.inl (by decide)) (kx_d0 (by decide) (Or.inl (by decide)) (kx_branch (by decide)
    (kx_cw (by decide) (kx_w0 (by decide) (Or.inr ⟨by decide, by decide⟩) (kx_back (by decide) (kx_d0 (by decide) (Or.inr ⟨by decide, by decide⟩) (kx_d1 (by decide) ⟨by decide, by decide⟩ (kx_w0 (by decide) (Or.inr ⟨by decide, by decide⟩) (kx_back (by decide) (kx_d0 (by decide) (Or.inr ⟨by decide, by decide⟩) (kx_d0 (by decide) (Or.inl (by decide)) (kx_branch (by decide) h))))))))))))))))))))))
end
theorem rl_0 : ∀ b, ex_n 0 0 b = 0 := by intro b; cases b <;> rfl
theorem i_vc0 : wpX_init (fun u => wpY_init (fun v => i_Rel 0 u v)) := by
  unfold wpX_init
  refine rl_wr (nc := 0) (sc := 0) (tc := 0) (lv := 1) (tk := 0) (sz := 0) (ls := 0) (dp := 0) (sd := 0) (ip := 0) (ng := 0) (zr := 0) (cy := 0) (ov := 0) (hl := 0) (st := 0) (pc := 0) ?_
  refine And.intro ⟨0, 0, 0, fun _ _ => 0, fun _ => 0, fun _ _ => 0, rfl, rfl, rfl, rfl, rfl, rfl, ⟨by decide, by decide, fun b i hi => ?_⟩, ⟨fun i hi => ?_, fun i hi => ?_⟩, ⟨fun b i hi => ?_, fun m hm => ?_⟩, fun v _ _ _ _ => ⟨by decide, fun s hs => ?_⟩, fun b i hi => ?_, fun s hs => ?_⟩ ⟨0, 0, rfl, rfl, rfl, rfl, cx_at_wr cx_rt (fun _ => 0) 0, rfl, rfl, rfl, rfl, Nat.le_refl _, by decide, rfl, fun i hi => rfl, fun i hi => rfl⟩
  · rw [rl_0] at hi; omega
  · omega
  · omega
  · rw [rl_0] at hi; omega
  · omega
  · omega
  · rw [rl_0] at hi; omega
  · omega
end
section
/-! the small methods -/
theorem i_vc_drop {k : Nat} {u : SX} {v : SY} (I : i_Rel k u v) (hk : k + 5 ≤ 2560) : wpX_drop (fun r u' => wpY_drop (fun r' v' => r' = r ∧ i_Rel (k + 5) u' v') v) u := by
  have I0 := I
  obtain ⟨nc, sc, tc, lv, ce, tk, sz, ls, dp, sd, ip, ng, zr, cy, ov, hl, st, pc, nk, nx, ny, nw, ek, ex, ey, ew, qk, qx, qy, qz, qw, fn, fs, fp, gn, gp, gs, gq, mm, rr, pl⟩ := u
  obtain ⟨nn, ns, nt, td, sp, pr, yk, yx, yy, yw, yv, zk, zx, zy, zw, zv, od, wk, wx, wy, wz, ww, nu, va, bg, ag, lf, ou⟩ := v
  obtain ⟨hT, t, z, m1, m2, m3, m4, m5, m6, m7, m8, m9, m10, m11, m12, m13, m14⟩ := I
  obtain ⟨N, S, T, wt, ws, ps, a1, a2, a3, a4, a5, a6, -⟩ := hT
  refine And.intro (a6.trans a3.symm) (And.intro ⟨0, 0, 0, fun _ _ => 0, fun _ => 0, fun _ _ => 0, rfl, rfl, rfl, rfl, rfl, rfl, ⟨by decide, by decide, fun b i hi => ?_⟩, ⟨fun i hi => ?_, fun i hi => ?_⟩, ⟨fun b i hi => ?_, fun m hm => ?_⟩, fun v _ _ _ _ => ⟨by decide, fun s hs => ?_⟩, fun b i hi => ?_, fun s hs => ?_⟩ ⟨t, z, m1, m2, m3, m4, m5, m6, m7, m8, m9, m10, m11, m12, m13, m14⟩)
  · rw [rl_0] at hi; omega
  · omega
  · omega
  · rw [rl_0] at hi; omega
  · omega
  · omega
  · rw [rl_0] at hi; omega
  · omega
theorem i_vc_steps {k : Nat} {u : SX} {v : SY} (I : i_Rel k u v) (hk : k + 5 ≤ 2560) : wpX_steps (fun r => wpY_steps (fun r' => r' = r ∧ i_Rel (k + 5) u v) v) u := by
  have I0 := I
  obtain ⟨nc, sc, tc, lv, ce, tk, sz, ls, dp, sd, ip, ng, zr, cy, ov, hl, st, pc, nk, nx, ny, nw, ek, ex, ey, ew, qk, qx, qy, qz, qw, fn, fs, fp, gn, gp, gs, gq, mm, rr, pl⟩ := u
  obtain ⟨nn, ns, nt, td, sp, pr, yk, yx, yy, yw, yv, zk, zx, zy, zw, zv, od, wk, wx, wy, wz, ww, nu, va, bg, ag, lf, ou⟩ := v
  obtain ⟨hT, t, z, m1, m2, m3, m4, m5, m6, m7, m8, m9, m10, m11, m12, m13, m14⟩ := I
  exact And.intro (m7.trans m6.symm) I0
theorem i_vc_printed {k : Nat} {u : SX} {v : SY} (I : i_Rel k u v) (hk : k + 5 ≤ 2560) : wpX_printed (fun r => wpY_printed (fun r' => r' = r ∧ i_Rel (k + 5) u v) v) u := by
  have I0 := I
  obtain ⟨nc, sc, tc, lv, ce, tk, sz, ls, dp, sd, ip, ng, zr, cy, ov, hl, st, pc, nk, nx, ny, nw, ek, ex, ey, ew, qk, qx, qy, qz, qw, fn, fs, fp, gn, gp, gs, gq, mm, rr, pl⟩ := u
  obtain ⟨nn, ns, nt, td, sp, pr, yk, yx, yy, yw, yv, zk, zx, zy, zw, zv, od, wk, wx, wy, wz, ww, nu, va, bg, ag, lf, ou⟩ := v
  obtain ⟨hT, t, z, m1, m2, m3, m4, m5, m6, m7, m8, m9, m10, m11, m12, m13, m14⟩ := I
  exact And.intro (m9.trans m8.symm) I0
theorem i_vc_numberAt {k : Nat} {u : SX} {v : SY} (I : i_Rel k u v) (hk : k + 5 ≤ 2560) (v1 : Int32) : wpX_numberAt (fun r => wpY_numberAt (fun r' => r' = r ∧ i_Rel (k + 5) u v) v v1) u v1 := by
  have I0 := I
  obtain ⟨nc, sc, tc, lv, ce, tk, sz, ls, dp, sd, ip, ng, zr, cy, ov, hl, st, pc, nk, nx, ny, nw, ek, ex, ey, ew, qk, qx, qy, qz, qw, fn, fs, fp, gn, gp, gs, gq, mm, rr, pl⟩ := u
  obtain ⟨nn, ns, nt, td, sp, pr, yk, yx, yy, yw, yv, zk, zx, zy, zw, zv, od, wk, wx, wy, wz, ww, nu, va, bg, ag, lf, ou⟩ := v
  obtain ⟨hT, t, z, m1, m2, m3, m4, m5, m6, m7, m8, m9, m10, m11, m12, m13, m14⟩ := I
  unfold wpX_numberAt
  refine xq_var (fun a => br_f (by decide) ?_) (fun a => br_t rfl ?_)
  · obtain ⟨j, hj, rfl⟩ := a
    have e : (4 : Int32) + nI j = nI (4 + j) := by rw [show (4 : Int32) = nI 4 from rfl, nI_add]
    rw [e, nI_clamp (show 4 + j < 2 ^ 31 by omega)]
    refine ⟨vp_in_nI (by omega) (by decide), ?_⟩
    unfold wpY_numberAt
    refine yq_var (fun b => br_f (by decide) ⟨vp_in_nI hj (by decide), ?_⟩) (fun b => absurd ⟨j, hj, rfl⟩ b)
    rw [nI_clamp (show j < 2 ^ 31 by omega)]
    exact ⟨(m13 j hj).symm, I0⟩
  · unfold wpY_numberAt
    exact yq_var (fun b => absurd b a) (fun b => br_t rfl ⟨rfl, I0⟩)
theorem i_vc_setAt {k : Nat} {u : SX} {v : SY} (I : i_Rel k u v) (hk : k + 5 ≤ 2560) (v1 : Int32) : wpX_setAt (fun r => wpY_setAt (fun r' => r' = r ∧ i_Rel (k + 5) u v) v v1) u v1 := by
  have I0 := I
  obtain ⟨nc, sc, tc, lv, ce, tk, sz, ls, dp, sd, ip, ng, zr, cy, ov, hl, st, pc, nk, nx, ny, nw, ek, ex, ey, ew, qk, qx, qy, qz, qw, fn, fs, fp, gn, gp, gs, gq, mm, rr, pl⟩ := u
  obtain ⟨nn, ns, nt, td, sp, pr, yk, yx, yy, yw, yv, zk, zx, zy, zw, zv, od, wk, wx, wy, wz, ww, nu, va, bg, ag, lf, ou⟩ := v
  obtain ⟨hT, t, z, m1, m2, m3, m4, m5, m6, m7, m8, m9, m10, m11, m12, m13, m14⟩ := I
  unfold wpX_setAt
  refine xq_var (fun a => br_f (by decide) ?_) (fun a => br_t rfl ?_)
  · obtain ⟨j, hj, rfl⟩ := a
    have e : (8 : Int32) + nI j = nI (8 + j) := by rw [show (8 : Int32) = nI 8 from rfl, nI_add]
    rw [e, nI_clamp (show 8 + j < 2 ^ 31 by omega)]
    refine ⟨vp_in_nI (by omega) (by decide), ?_⟩
    unfold wpY_setAt
    refine yq_var (fun b => br_f (by decide) ⟨vp_in_nI hj (by decide), ?_⟩) (fun b => absurd ⟨j, hj, rfl⟩ b)
    rw [nI_clamp (show j < 2 ^ 31 by omega)]
    exact ⟨(m14 j hj).symm, I0⟩
  · unfold wpY_setAt
    exact yq_var (fun b => absurd b a) (fun b => br_t rfl ⟨rfl, I0⟩)
theorem i_vc_setNumber {k : Nat} {u : SX} {v : SY} (I : i_Rel k u v) (hk : k + 5 ≤ 2560) (v1 : Int32) (v2 : Int32) : wpX_setNumber (fun r u' => wpY_setNumber (fun r' v' => r' = r ∧ i_Rel (k + 5) u' v') v v1 v2) u v1 v2 := by
  have I0 := I
  obtain ⟨nc, sc, tc, lv, ce, tk, sz, ls, dp, sd, ip, ng, zr, cy, ov, hl, st, pc, nk, nx, ny, nw, ek, ex, ey, ew, qk, qx, qy, qz, qw, fn, fs, fp, gn, gp, gs, gq, mm, rr, pl⟩ := u
  obtain ⟨nn, ns, nt, td, sp, pr, yk, yx, yy, yw, yv, zk, zx, zy, zw, zv, od, wk, wx, wy, wz, ww, nu, va, bg, ag, lf, ou⟩ := v
  obtain ⟨hT, t, z, m1, m2, m3, m4, m5, m6, m7, m8, m9, m10, m11, m12, m13, m14⟩ := I
  unfold wpX_setNumber
  refine xq_var (fun a => br_f (by decide) ?_) (fun a => br_t rfl ?_)
  · obtain ⟨j, hj, rfl⟩ := a
    have e : (4 : Int32) + nI j = nI (4 + j) := by rw [show (4 : Int32) = nI 4 from rfl, nI_add]
    rw [e, nI_clamp (show 4 + j < 2 ^ 31 by omega)]
    refine ⟨vp_in_nI (by omega) (by decide), nm_e ?_⟩
    unfold wpY_setNumber
    refine yq_var (fun b => br_f (by decide) ⟨vp_in_nI hj (by decide), ?_⟩) (fun b => absurd ⟨j, hj, rfl⟩ b)
    rw [nI_clamp (show j < 2 ^ 31 by omega)]
    refine nm_e (And.intro rfl (And.intro hT ⟨t, z, m1, m2, m3, m4, m5, m6, m7, m8, m9, m10, m11, m12, fun i hi => ?_, fun i hi => ?_⟩))
    · by_cases h : i = j
      · rw [h, pk_us, pk_us]
      · rw [pk_un (by omega), pk_un h]; exact m13 i hi
    · rw [pk_un (by omega)]; exact m14 i hi
  · unfold wpY_setNumber
    exact yq_var (fun b => absurd b a) (fun b => br_t rfl ⟨rfl, I0⟩)
theorem i_vc_setSet {k : Nat} {u : SX} {v : SY} (I : i_Rel k u v) (hk : k + 5 ≤ 2560) (v1 : Int32) (v2 : Int32) : wpX_setSet (fun r u' => wpY_setSet (fun r' v' => r' = r ∧ i_Rel (k + 5) u' v') v v1 v2) u v1 v2 := by
  have I0 := I
  obtain ⟨nc, sc, tc, lv, ce, tk, sz, ls, dp, sd, ip, ng, zr, cy, ov, hl, st, pc, nk, nx, ny, nw, ek, ex, ey, ew, qk, qx, qy, qz, qw, fn, fs, fp, gn, gp, gs, gq, mm, rr, pl⟩ := u
  obtain ⟨nn, ns, nt, td, sp, pr, yk, yx, yy, yw, yv, zk, zx, zy, zw, zv, od, wk, wx, wy, wz, ww, nu, va, bg, ag, lf, ou⟩ := v
  obtain ⟨hT, t, z, m1, m2, m3, m4, m5, m6, m7, m8, m9, m10, m11, m12, m13, m14⟩ := I
  unfold wpX_setSet
  refine xq_var (fun a => br_f (by decide) ?_) (fun a => br_t rfl ?_)
  · obtain ⟨j, hj, rfl⟩ := a
    have e : (8 : Int32) + nI j = nI (8 + j) := by rw [show (8 : Int32) = nI 8 from rfl, nI_add]
    rw [e, nI_clamp (show 8 + j < 2 ^ 31 by omega)]
    refine ⟨vp_in_nI (by omega) (by decide), nm_e ?_⟩
    unfold wpY_setSet
    refine yq_var (fun b => br_f (by decide) ⟨vp_in_nI hj (by decide), ?_⟩) (fun b => absurd ⟨j, hj, rfl⟩ b)
    rw [nI_clamp (show j < 2 ^ 31 by omega)]
    refine nm_e (And.intro rfl (And.intro hT ⟨t, z, m1, m2, m3, m4, m5, m6, m7, m8, m9, m10, m11, m12, fun i hi => ?_, fun i hi => ?_⟩))
    · rw [pk_un (by omega)]; exact m13 i hi
    · by_cases h : i = j
      · rw [h, pk_us, pk_us]
      · rw [pk_un (by omega), pk_un h]; exact m14 i hi
  · unfold wpY_setSet
    exact yq_var (fun b => absurd b a) (fun b => br_t rfl ⟨rfl, I0⟩)
theorem i_vc_output {k : Nat} {u : SX} {v : SY} (I : i_Rel k u v) (hk : k + 5 ≤ 2560) (v1 : Int32) : wpX_output (fun r => wpY_output (fun r' => r' = r ∧ i_Rel (k + 5) u v) v v1) u v1 := by
  have I0 := I
  obtain ⟨nc, sc, tc, lv, ce, tk, sz, ls, dp, sd, ip, ng, zr, cy, ov, hl, st, pc, nk, nx, ny, nw, ek, ex, ey, ew, qk, qx, qy, qz, qw, fn, fs, fp, gn, gp, gs, gq, mm, rr, pl⟩ := u
  obtain ⟨nn, ns, nt, td, sp, pr, yk, yx, yy, yw, yv, zk, zx, zy, zw, zv, od, wk, wx, wy, wz, ww, nu, va, bg, ag, lf, ou⟩ := v
  obtain ⟨hT, t, z, m1, m2, m3, m4, m5, m6, m7, m8, m9, m10, m11, m12, m13, m14⟩ := I
  have bad : ¬ (∃ j, j < 30 ∧ v1 = nI j) ∨ nI z ≤ v1 → wpY_output (fun r' => r' = 0 ∧ i_Rel (k + 5) (nc, sc, tc, lv, ce, tk, sz, ls, dp, sd, ip, ng, zr, cy, ov, hl, st, pc, nk, nx, ny, nw, ek, ex, ey, ew, qk, qx, qy, qz, qw, fn, fs, fp, gn, gp, gs, gq, mm, rr, pl) (nn, ns, nt, td, sp, pr, yk, yx, yy, yw, yv, zk, zx, zy, zw, zv, od, wk, wx, wy, wz, ww, nu, va, bg, ag, lf, ou)) (nn, ns, nt, td, sp, pr, yk, yx, yy, yw, yv, zk, zx, zy, zw, zv, od, wk, wx, wy, wz, ww, nu, va, bg, ag, lf, ou) v1 := by
    intro h
    unfold wpY_output
    refine rq_l (n := 30) (by decide) (by decide) (fun b => br_f (by decide) (br_t ?_ ⟨rfl, I0⟩)) (fun b => br_t rfl ⟨rfl, I0⟩)
    rw [m9]
    exact h.resolve_left (fun q => q b)
  refine br_c (fun h0 => bad (Or.inl ?_)) (fun h0 => ?_)
  · rintro ⟨j, hj, rfl⟩; exact nI_pos (by omega) h0
  · refine br_c (fun h1 => bad (Or.inr (by rw [← m8]; exact h1))) (fun h1 => br_c (fun h2 => ?_) (fun h2 => bad (Or.inl ?_)))
    · obtain ⟨j, hj, rfl⟩ := nI_of2 (x := v1) (M := 29) (n := 29) (by decide) h0 h2
      refine ⟨vp_in_nI (by omega) (by decide), ?_⟩
      unfold wpY_output
      refine rq_l (n := 30) (by decide) (by decide) (fun b => br_f (by decide) (br_f (by rw [m9, ← m8]; exact h1) ⟨vp_in_nI (by omega) (by decide), ?_⟩)) (fun b => absurd ⟨j, by omega, rfl⟩ b)
      exact ⟨by rw [m12], I0⟩
    · rintro ⟨j, hj, rfl⟩
      exact h2 (nI_le (b := 29) (by omega) (by decide))
theorem i_vc_level {k : Nat} {u : SX} {v : SY} (I : i_Rel k u v) (hk : k + 5 ≤ 2560) (v1 : Int32) : wpX_level (fun r u' => wpY_level (fun r' => r' = r ∧ i_Rel (k + 5) u' v) v v1) u v1 := by
  have I0 := I
  obtain ⟨nc, sc, tc, lv, ce, tk, sz, ls, dp, sd, ip, ng, zr, cy, ov, hl, st, pc, nk, nx, ny, nw, ek, ex, ey, ew, qk, qx, qy, qz, qw, fn, fs, fp, gn, gp, gs, gq, mm, rr, pl⟩ := u
  obtain ⟨nn, ns, nt, td, sp, pr, yk, yx, yy, yw, yv, zk, zx, zy, zw, zv, od, wk, wx, wy, wz, ww, nu, va, bg, ag, lf, ou⟩ := v
  obtain ⟨hT, t, z, m1, m2, m3, m4, m5, m6, m7, m8, m9, m10, m11, m12, m13, m14⟩ := I
  have bad : ¬ v1 = 0 → ¬ v1 = 1 → wpY_level (fun r' => r' = 0 ∧ i_Rel (k + 5) (nc, sc, tc, lv, ce, tk, sz, ls, dp, sd, ip, ng, zr, cy, ov, hl, st, pc, nk, nx, ny, nw, ek, ex, ey, ew, qk, qx, qy, qz, qw, fn, fs, fp, gn, gp, gs, gq, mm, rr, pl) (nn, ns, nt, td, sp, pr, yk, yx, yy, yw, yv, zk, zx, zy, zw, zv, od, wk, wx, wy, wz, ww, nu, va, bg, ag, lf, ou)) (nn, ns, nt, td, sp, pr, yk, yx, yy, yw, yv, zk, zx, zy, zw, zv, od, wk, wx, wy, wz, ww, nu, va, bg, ag, lf, ou) v1 := fun q0 q1 => br_f q0 (br_f q1 ⟨rfl, I0⟩)
  refine br_c (fun h0 => bad ?_ ?_) (fun h0 => br_c (fun h1 => ?_) (fun h1 => bad ?_ ?_))
  · rintro rfl; exact absurd h0 (by decide)
  · rintro rfl; exact absurd h0 (by decide)
  · obtain ⟨j, hj, rfl⟩ := nI_of2 (x := v1) (M := 1) (n := 1) (by decide) h0 h1
    have J : i_Rel (k + 5) (nc, sc, tc, nI j, ce, tk, sz, ls, dp, sd, ip, ng, zr, cy, ov, hl, st, pc, nk, nx, ny, nw, ek, ex, ey, ew, qk, qx, qy, qz, qw, fn, fs, fp, gn, gp, gs, gq, mm, rr, pl) (nn, ns, nt, td, sp, pr, yk, yx, yy, yw, yv, zk, zx, zy, zw, zv, od, wk, wx, wy, wz, ww, nu, va, bg, ag, lf, ou) := And.intro hT ⟨t, z, m1, m2, m3, m4, m5, m6, m7, m8, m9, m10, m11, m12, m13, m14⟩
    have hc : j = 0 ∨ j = 1 := by omega
    rcases hc with rfl | rfl
    · exact br_t rfl ⟨rfl, J⟩
    · exact br_f (by decide) (br_t rfl ⟨rfl, J⟩)
  · rintro rfl; exact absurd (by decide) h1
  · rintro rfl; exact absurd (by decide) h1
end
section
/-! run -/
theorem i_vc_run {k : Nat} {u : SX} {v : SY} (I : i_Rel k u v) (hk : k + 5 ≤ 2560) (v1 : Int32) : wpX_run (fun r u' => wpY_run (fun r' v' => r' = r ∧ i_Rel (k + 5) u' v') v v1) u v1 := by
  have I0 := I
  obtain ⟨nc, sc, tc, lv, ce, tk, sz, ls, dp, sd, ip, ng, zr, cy, ov, hl, st, pc, nk, nx, ny, nw, ek, ex, ey, ew, qk, qx, qy, qz, qw, fn, fs, fp, gn, gp, gs, gq, mm, rr, pl⟩ := u
  obtain ⟨nn, ns, nt, td, sp, pr, yk, yx, yy, yw, yv, zk, zx, zy, zw, zv, od, wk, wx, wy, wz, ww, nu, va, bg, ag, lf, ou⟩ := v
  obtain ⟨hT, t, z, m1, m2, m3, m4, m5, m6, m7, m8, m9, m10, m11, m12, m13, m14⟩ := I
  have hT0 := hT
  obtain ⟨N, S, T, wt, ws, ps, a1, a2, a3, a4, a5, a6, a7, a8, a9, a10, a11, a12⟩ := hT
  have htz := a10 (nn, ns, nt, td, sp, pr, yk, yx, yy, yw, yv, zk, zx, zy, zw, zv, od, wk, wx, wy, wz, ww, nu, va, bg, ag, lf, ou) rfl rfl rfl rfl
  have hT40 := htz.1
  by_cases hs : ∃ j, j < T ∧ v1 = nI j
  · obtain ⟨s, hs, rfl⟩ := hs
    have hok : ty_ok (nn, ns, nt, td, sp, pr, yk, yx, yy, yw, yv, zk, zx, zy, zw, zv, od, wk, wx, wy, wz, ww, nu, va, bg, ag, lf, ou) (kx_sel ek nk) (kx_sel ex nx) (kx_sel ey ny) wt N S ps := ⟨a7, a8, a9, a4, a5⟩
    obtain ⟨r, a, b, dp', fn', fs', fp', gn', gp', gs', gq', hX, hY, ip', ng', zr', cy', ov', td', mm', rr', pl', yv', zv', nu', va', bg', ag', lf', t', z', rfl, rfl, hrel, hz', hR'⟩ := rn_main (nc := nc) (sc := sc) (lv := lv) (dp := dp) (sd := sd) (ip := ip) (ng := ng) (zr := zr) (cy := cy) (ov := ov) (hl := hl) (st := st) (pc := pc) (nw := nw) (ew := ew) (qw := qw) (fn := fn) (fs := fs) (fp := fp) (gn := gn) (gp := gp) (gs := gs) (gq := gq) (pl := pl) hok htz m2 m3 m4 m1 a3 m5 hs (yv := yv) (zv := zv) (bg := upd bg 0 (nI s)) (ag := upd ag 0 0) (lf := lf) m13 m14 pk_us pk_us
    refine hX _ ?_
    obtain ⟨r1, r2, r3, r4⟩ := hrel
    unfold wpY_run
    refine yq_sta (by omega) a6 (fun _ => br_f (by decide) ?_) (fun q => absurd ⟨s, hs, rfl⟩ q)
    refine yx_beg (j := 0) (by decide) ?_
    subst m12
    refine hY _ (And.intro rfl (And.intro hT0 ⟨t', z', m1, m2, m3, m4, hR', r1, rfl, rfl, rfl, hz', r4, rfl, r2, r3⟩))
  · unfold wpX_run
    refine xq_sta (T := T) (by omega) a3 (fun q => absurd q hs) (fun _ => br_t rfl ?_)
    unfold wpY_run
    exact yq_sta (by omega) a6 (fun q => absurd q hs) (fun _ => br_t rfl ⟨rfl, I0⟩)
end
section
/-! number and set: the tables grow on both sides -/
theorem so_8 {N S so : Nat} {y : Int32} (hN : N ≤ 40) (hS : S ≤ 30) (h : so_ok N S so y) (hs : so < 4) (h0 : so ≠ 0) : y.toInt8.toInt32 = y := by
  have hc : so = 1 ∨ so = 2 ∨ so = 3 := by omega
  rcases hc with rfl | rfl | rfl <;> obtain ⟨j, hj, rfl⟩ := h <;> exact by_8 (by omega)
theorem so_8k {N S so : Nat} {y : Int32} (hN : N ≤ 40) (hS : S ≤ 30) (h : so_ok N S so y) (hs : so < 4) : so_ok N S so y.toInt8.toInt32 := by
  by_cases h0 : so = 0
  · subst h0; trivial
  · rw [so_8 hN hS h hs h0]; exact h
theorem so_8w {N S so : Nat} {y : Int32} {wt : Bool → Nat → Nat} (hN : N ≤ 40) (hS : S ≤ 30) (h : so_ok N S so y) (hs : so < 4) : so_w wt so y.toInt8.toInt32 = so_w wt so y := by
  by_cases h0 : so = 0
  · subst h0; simp only [so_w]
  · rw [so_8 hN hS h hs h0]
theorem so_k2 {k : Nat} (h : cx_k2 k) : so_2 k ≠ 0 := by
  rw [so_c2 h]; split <;> decide
def ad_f (b0 : Bool) (n W : Nat) (wt : Bool → Nat → Nat) : Bool → Nat → Nat := fun b i => if b = b0 ∧ i = n then W else wt b i
theorem ad_fN {b0 : Bool} {n W : Nat} {wt : Bool → Nat → Nat} : ad_f b0 n W wt b0 n = W := if_pos ⟨rfl, rfl⟩
theorem ad_fO {b0 b : Bool} {n W i : Nat} {wt : Bool → Nat → Nat} (h : ¬ (b = b0 ∧ i = n)) : ad_f b0 n W wt b i = wt b i := if_neg h
section
variable {nc sc tc lv ce tk sz ls dp sd ip ng zr cy ov hl st pc : Int32} {nk nx ny nw ek ex ey ew qk qx qy qz qw fn fs fp gn gp gs gq mm rr pl : Nat → Int32} {nn ns nt td sp pr : Int32} {yk yx yy yw yv zk zx zy zw zv od wk wx wy wz ww nu va bg ag lf ou : Nat → Int32} {N S T k : Nat} {wt : Bool → Nat → Nat} {ws : Nat → Nat} {ps : Bool → Nat → Nat} {x y : Int32}
theorem rl_addN (hlt : N < 40) (hk : k < 11) (ok : so_ok N S (so_1 k) x ∧ so_ok N S (so_2 k) y) (hW : 1 + so_w wt (so_1 k) x + so_w wt (so_2 k) y ≤ 20) (a1 : nc = nI N) (a2 : sc = nI S) (a3 : tc = nI T) (a4 : nn = nI N) (a5 : ns = nI S) (a6 : nt = nI T) (a7 : tx_wf (kx_sel ek nk) (kx_sel ex nx) (kx_sel ey ny) wt N S) (a8 : ty_tab (kx_sel ek nk) (kx_sel ex nx) (kx_sel ey ny) N S yk yx yy zk zx zy) (a9 : ty_ord (kx_sel ek nk) (kx_sel ex nx) (kx_sel ey ny) N S od ps) (a10 : ∀ v : SY, ty_wk v = wk → ty_wx v = wx → ty_wy v = wy → ty_wz v = wz → tz_wf qk qx qy qz wt ws N S T v) (a11 : ∀ b i, i < ex_n N S b → kx_sel ew nw b i = nI (wt b i) ∧ kx_sel zw yw b i = nI (wt b i)) (a12 : ∀ s, s < T → qw s = nI (ws s) ∧ ww s = nI (ws s)) :
    rl_t (nI (N + 1)) sc tc (upd nk N (nI k)) (upd nx N x) (upd ny N y.toInt8.toInt32) (upd nw N (nI (1 + so_w wt (so_1 k) x + so_w wt (so_2 k) y))) ek ex ey ew qk qx qy qz qw (nI (N + 1)) ns nt (upd yk N (nI k)) (upd yx N x) (upd yy N y) (upd yw N (nI (1 + so_w wt (so_1 k) x + so_w wt (so_2 k) y))) zk zx zy zw (upd od (N + S) (nI N)) wk wx wy wz ww := by
  have hN := a7.1
  have hS := a7.2.1
  have r2 := so_r2 k
  have en : ex_n N S false = N := rfl
  have hadN : ad_N N S (N + 1) S false := by intro b; cases b <;> rfl
  have d1 : ad_D N S false (kx_sel ek nk) (kx_sel ek (upd nk N (nI k))) := by
    intro b i h
    cases b
    · exact pk_un (fun z => h ⟨rfl, z⟩)
    · rfl
  have d2 : ad_D N S false (kx_sel ex nx) (kx_sel ex (upd nx N x)) := by
    intro b i h
    cases b
    · exact pk_un (fun z => h ⟨rfl, z⟩)
    · rfl
  have d3 : ad_D N S false (kx_sel ey ny) (kx_sel ey (upd ny N y.toInt8.toInt32)) := by
    intro b i h
    cases b
    · exact pk_un (fun z => h ⟨rfl, z⟩)
    · rfl
  have d4 : ad_D N S false wt (ad_f false N (1 + so_w wt (so_1 k) x + so_w wt (so_2 k) y) wt) := fun b i h => ad_fO h
  have d5 : ad_D N S false ps (ad_f false N (N + S) ps) := fun b i h => ad_fO h
  have ekd : (kx_sel ek (upd nk N (nI k))) false (ex_n N S false) = nI k := pk_us
  have eo1 : (kx_sel ex (upd nx N x)) false (ex_n N S false) = x := pk_us
  have eo2 : (kx_sel ey (upd ny N y.toInt8.toInt32)) false (ex_n N S false) = y.toInt8.toInt32 := pk_us
  have ok1 : so_ok N S (so_1 k) ((kx_sel ex (upd nx N x)) false (ex_n N S false)) := by rw [eo1]; exact ok.1
  have ok2 : so_ok N S (so_2 k) ((kx_sel ey (upd ny N y.toInt8.toInt32)) false (ex_n N S false)) := by rw [eo2]; exact so_8k hN hS ok.2 r2
  have hkk : so_kk k := by unfold so_kk; omega
  refine ⟨(N + 1), S, T, ad_f false N (1 + so_w wt (so_1 k) x + so_w wt (so_2 k) y) wt, ws, ad_f false N (N + S) ps, rfl, a2, a3, rfl, a5, a6, ?_, ?_, ?_, fun v e1 e2 e3 e4 => ad_tz (a10 v e1 e2 e3 e4) hadN d4 rfl rfl rfl rfl, fun b i hi => ?_, a12⟩
  · refine ad_wf (k := k) a7 (by omega) (by omega) hadN d1 d2 d3 d4 hkk ekd ok1 ok2 ?_ ?_
    · rw [eo1, eo2, so_8w hN hS ok.2 r2]; exact ad_fN
    · rw [en, ad_fN]; exact hW
  · refine ⟨fun i hi => ?_, fun i hi => ?_⟩
    · by_cases e : i = N
      · subst e
        refine ⟨k, hk, ekd, pk_us, by rw [pk_us]; exact eo1.symm, fun h2 => ?_⟩
        rw [pk_us]
        show y = _
        exact (eo2.trans (so_8 hN hS ok.2 r2 (so_k2 h2))).symm
      · obtain ⟨k', h1, h2, h3, h4, h5⟩ := a8.1 i (by omega)
        have q : ¬ (false = false ∧ i = ex_n N S false) := fun z => e z.2
        exact ⟨k', h1, (d1 false i q).trans h2, (pk_un e).trans h3, ((pk_un e).trans h4).trans (d2 false i q).symm, fun z => ((pk_un e).trans (h5 z)).trans (d3 false i q).symm⟩
    · exact a8.2 i hi
  · exact ad_ord (k := k) a7 a9 hadN d1 d2 d3 d5 (by omega) ad_fN rfl hkk ekd ok1 ok2
  · rcases ad_cs hadN hi with hi' | ⟨rfl, rfl⟩
    · have q := ad_old (b0 := false) hi'
      obtain ⟨w1, w2⟩ := a11 b i hi'
      have q' : ¬ (b = false ∧ i = N) := q
      rw [ad_fO q']
      cases b
      · exact ⟨(pk_un (fun z => q ⟨rfl, z⟩)).trans w1, (pk_un (fun z => q ⟨rfl, z⟩)).trans w2⟩
      · exact ⟨w1, w2⟩
    · rw [ad_fN]
      exact ⟨pk_us, pk_us⟩
theorem rl_addS (hlt : S < 30) (hk : k < 9) (ok : so_ok N S (so_1 (16 + k)) x ∧ so_ok N S (so_2 (16 + k)) y) (hW : 1 + so_w wt (so_1 (16 + k)) x + so_w wt (so_2 (16 + k)) y ≤ 20) (a1 : nc = nI N) (a2 : sc = nI S) (a3 : tc = nI T) (a4 : nn = nI N) (a5 : ns = nI S) (a6 : nt = nI T) (a7 : tx_wf (kx_sel ek nk) (kx_sel ex nx) (kx_sel ey ny) wt N S) (a8 : ty_tab (kx_sel ek nk) (kx_sel ex nx) (kx_sel ey ny) N S yk yx yy zk zx zy) (a9 : ty_ord (kx_sel ek nk) (kx_sel ex nx) (kx_sel ey ny) N S od ps) (a10 : ∀ v : SY, ty_wk v = wk → ty_wx v = wx → ty_wy v = wy → ty_wz v = wz → tz_wf qk qx qy qz wt ws N S T v) (a11 : ∀ b i, i < ex_n N S b → kx_sel ew nw b i = nI (wt b i) ∧ kx_sel zw yw b i = nI (wt b i)) (a12 : ∀ s, s < T → qw s = nI (ws s) ∧ ww s = nI (ws s)) :
    rl_t nc (nI (S + 1)) tc nk nx ny nw (upd ek S (nI (16 + k))) (upd ex S x) (upd ey S y.toInt8.toInt32) (upd ew S (nI (1 + so_w wt (so_1 (16 + k)) x + so_w wt (so_2 (16 + k)) y))) qk qx qy qz qw nn (nI (S + 1)) nt yk yx yy yw (upd zk S (nI k)) (upd zx S x) (upd zy S y) (upd zw S (nI (1 + so_w wt (so_1 (16 + k)) x + so_w wt (so_2 (16 + k)) y))) (upd od (N + S) (nI (100 + S))) wk wx wy wz ww := by
  have hN := a7.1
  have hS := a7.2.1
  have r2 := so_r2 (16 + k)
  have en : ex_n N S true = S := rfl
  have hadN : ad_N N S N (S + 1) true := by intro b; cases b <;> rfl
  have d1 : ad_D N S true (kx_sel ek nk) (kx_sel (upd ek S (nI (16 + k))) nk) := by
    intro b i h
    cases b
    · rfl
    · exact pk_un (fun z => h ⟨rfl, z⟩)
  have d2 : ad_D N S true (kx_sel ex nx) (kx_sel (upd ex S x) nx) := by
    intro b i h
    cases b
    · rfl
    · exact pk_un (fun z => h ⟨rfl, z⟩)
  have d3 : ad_D N S true (kx_sel ey ny) (kx_sel (upd ey S y.toInt8.toInt32) ny) := by
    intro b i h
    cases b
    · rfl
    · exact pk_un (fun z => h ⟨rfl, z⟩)
  have d4 : ad_D N S true wt (ad_f true S (1 + so_w wt (so_1 (16 + k)) x + so_w wt (so_2 (16 + k)) y) wt) := fun b i h => ad_fO h
  have d5 : ad_D N S true ps (ad_f true S (N + S) ps) := fun b i h => ad_fO h
  have ekd : (kx_sel (upd ek S (nI (16 + k))) nk) true (ex_n N S true) = nI (16 + k) := pk_us
  have eo1 : (kx_sel (upd ex S x) nx) true (ex_n N S true) = x := pk_us
  have eo2 : (kx_sel (upd ey S y.toInt8.toInt32) ny) true (ex_n N S true) = y.toInt8.toInt32 := pk_us
  have ok1 : so_ok N S (so_1 (16 + k)) ((kx_sel (upd ex S x) nx) true (ex_n N S true)) := by rw [eo1]; exact ok.1
  have ok2 : so_ok N S (so_2 (16 + k)) ((kx_sel (upd ey S y.toInt8.toInt32) ny) true (ex_n N S true)) := by rw [eo2]; exact so_8k hN hS ok.2 r2
  have hkk : so_kk (16 + k) := by unfold so_kk; omega
  refine ⟨N, (S + 1), T, ad_f true S (1 + so_w wt (so_1 (16 + k)) x + so_w wt (so_2 (16 + k)) y) wt, ws, ad_f true S (N + S) ps, a1, rfl, a3, a4, rfl, a6, ?_, ?_, ?_, fun v e1 e2 e3 e4 => ad_tz (a10 v e1 e2 e3 e4) hadN d4 rfl rfl rfl rfl, fun b i hi => ?_, a12⟩
  · refine ad_wf (k := (16 + k)) a7 (by omega) (by omega) hadN d1 d2 d3 d4 hkk ekd ok1 ok2 ?_ ?_
    · rw [eo1, eo2, so_8w hN hS ok.2 r2]; exact ad_fN
    · rw [en, ad_fN]; exact hW
  · refine ⟨fun i hi => ?_, fun i hi => ?_⟩
    · exact a8.1 i hi
    · by_cases e : i = S
      · subst e
        refine ⟨k, hk, ekd, pk_us, by rw [pk_us]; exact eo1.symm, fun h2 => ?_⟩
        rw [pk_us]
        show y = _
        exact (eo2.trans (so_8 hN hS ok.2 r2 (so_k2 h2))).symm
      · obtain ⟨k', h1, h2, h3, h4, h5⟩ := a8.2 i (by omega)
        have q : ¬ (true = true ∧ i = ex_n N S true) := fun z => e z.2
        exact ⟨k', h1, (d1 true i q).trans h2, (pk_un e).trans h3, ((pk_un e).trans h4).trans (d2 true i q).symm, fun z => ((pk_un e).trans (h5 z)).trans (d3 true i q).symm⟩
  · exact ad_ord (k := (16 + k)) a7 a9 hadN d1 d2 d3 d5 (by omega) ad_fN rfl hkk ekd ok1 ok2
  · rcases ad_cs hadN hi with hi' | ⟨rfl, rfl⟩
    · have q := ad_old (b0 := true) hi'
      obtain ⟨w1, w2⟩ := a11 b i hi'
      have q' : ¬ (b = true ∧ i = S) := q
      rw [ad_fO q']
      cases b
      · exact ⟨w1, w2⟩
      · exact ⟨(pk_un (fun z => q ⟨rfl, z⟩)).trans w1, (pk_un (fun z => q ⟨rfl, z⟩)).trans w2⟩
    · rw [ad_fN]
      exact ⟨pk_us, pk_us⟩
end
theorem i_vc_number {k : Nat} {u : SX} {v : SY} (I : i_Rel k u v) (hk : k + 5 ≤ 2560) (v1 : Int32) (v2 : Int32) (v3 : Int32) : wpX_number (fun r u' => wpY_number (fun r' v' => r' = r ∧ i_Rel (k + 5) u' v') v v1 v2 v3) u v1 v2 v3 := by
  have I0 := I
  obtain ⟨nc, sc, tc, lv, ce, tk, sz, ls, dp, sd, ip, ng, zr, cy, ov, hl, st, pc, nk, nx, ny, nw, ek, ex, ey, ew, qk, qx, qy, qz, qw, fn, fs, fp, gn, gp, gs, gq, mm, rr, pl⟩ := u
  obtain ⟨nn, ns, nt, td, sp, pr, yk, yx, yy, yw, yv, zk, zx, zy, zw, zv, od, wk, wx, wy, wz, ww, nu, va, bg, ag, lf, ou⟩ := v
  obtain ⟨hT, hM⟩ := I
  obtain ⟨N, S, T, wt, ws, ps, a1, a2, a3, a4, a5, a6, a7, a8, a9, a10, a11, a12⟩ := hT
  have hN := a7.1
  have hS := a7.2.1
  by_cases hfull : N = 40
  · exact br_f (by rw [a1, hfull]; decide) (br_t (by rw [a4, hfull]; rfl) ⟨rfl, I0⟩)
  · have hlt : N < 40 := by omega
    by_cases hj : ∃ j, j < 11 ∧ v1 = nI j
    · obtain ⟨j, hj, rfl⟩ := hj
      have hw20 : ∀ b i, i < ex_n N S b → wt b i ≤ 20 := fun b i hi => by obtain ⟨_, _, _, _, z, _⟩ := a7.2.2 b i hi; exact z
      have hw1 := fun b i hi => (a11 b i hi).1
      have hw2 := fun b i hi => (a11 b i hi).2
      refine xn_number hN hS hlt a1 a2 hj hw1 hw20 (fun o => ?_) (fun o hg => ?_) (fun o hg => ?_)
      · exact yn_number hN hS hlt a4 a5 hj hw2 hw20 (fun _ => ⟨rfl, I0⟩) (fun q => absurd q o) (fun q => absurd q o)
      · exact yn_number hN hS hlt a4 a5 hj hw2 hw20 (fun q => absurd o q) (fun _ _ => ⟨rfl, I0⟩) (fun _ q => by omega)
      · exact yn_number hN hS hlt a4 a5 hj hw2 hw20 (fun q => absurd o q) (fun _ q => by omega) (fun _ _ => And.intro rfl (And.intro (rl_addN hlt hj o hg a1 a2 a3 a4 a5 a6 a7 a8 a9 a10 a11 a12) hM))
    · exact br_t (by rw [a1]; exact nI_lt (b := 40) hlt (by decide)) (rq_l (n := 11) (by decide) (by decide) (fun q => absurd q hj) (fun _ => br_f (by rw [a4]; exact kx_ne (b := 40) (by omega) (by omega) (by omega)) (rq_l (n := 11) (by decide) (by decide) (fun q => absurd q hj) (fun _ => br_t rfl ⟨rfl, I0⟩))))
theorem i_vc_set {k : Nat} {u : SX} {v : SY} (I : i_Rel k u v) (hk : k + 5 ≤ 2560) (v1 : Int32) (v2 : Int32) (v3 : Int32) : wpX_set (fun r u' => wpY_set (fun r' v' => r' = r ∧ i_Rel (k + 5) u' v') v v1 v2 v3) u v1 v2 v3 := by
  have I0 := I
  obtain ⟨nc, sc, tc, lv, ce, tk, sz, ls, dp, sd, ip, ng, zr, cy, ov, hl, st, pc, nk, nx, ny, nw, ek, ex, ey, ew, qk, qx, qy, qz, qw, fn, fs, fp, gn, gp, gs, gq, mm, rr, pl⟩ := u
  obtain ⟨nn, ns, nt, td, sp, pr, yk, yx, yy, yw, yv, zk, zx, zy, zw, zv, od, wk, wx, wy, wz, ww, nu, va, bg, ag, lf, ou⟩ := v
  obtain ⟨hT, hM⟩ := I
  obtain ⟨N, S, T, wt, ws, ps, a1, a2, a3, a4, a5, a6, a7, a8, a9, a10, a11, a12⟩ := hT
  have hN := a7.1
  have hS := a7.2.1
  by_cases hfull : S = 30
  · exact br_f (by rw [a2, hfull]; decide) (br_t (by rw [a5, hfull]; rfl) ⟨rfl, I0⟩)
  · have hlt : S < 30 := by omega
    by_cases hj : ∃ j, j < 9 ∧ v1 = nI j
    · obtain ⟨j, hj, rfl⟩ := hj
      have hw20 : ∀ b i, i < ex_n N S b → wt b i ≤ 20 := fun b i hi => by obtain ⟨_, _, _, _, z, _⟩ := a7.2.2 b i hi; exact z
      have hw1 := fun b i hi => (a11 b i hi).1
      have hw2 := fun b i hi => (a11 b i hi).2
      refine xn_set hN hS hlt a1 a2 hj hw1 hw20 (fun o => ?_) (fun o hg => ?_) (fun o hg => ?_)
      · exact yn_set hN hS hlt a4 a5 hj hw2 hw20 (fun _ => ⟨rfl, I0⟩) (fun q => absurd q o) (fun q => absurd q o)
      · exact yn_set hN hS hlt a4 a5 hj hw2 hw20 (fun q => absurd o q) (fun _ _ => ⟨rfl, I0⟩) (fun _ q => by omega)
      · exact yn_set hN hS hlt a4 a5 hj hw2 hw20 (fun q => absurd o q) (fun _ q => by omega) (fun _ _ => And.intro rfl (And.intro (rl_addS hlt hj o hg a1 a2 a3 a4 a5 a6 a7 a8 a9 a10 a11 a12) hM))
    · exact br_t (by rw [a2]; exact nI_lt (b := 30) hlt (by decide)) (nm_e (rq_l (n := 9) (by decide) (by decide) (fun q => absurd q hj) (fun _ => br_f (by rw [a5]; exact kx_ne (b := 30) (by omega) (by omega) (by omega)) (rq_l (n := 9) (by decide) (by decide) (fun q => absurd q hj) (fun _ => br_t rfl ⟨rfl, I0⟩)))))
end
section
/-! state -/
theorem i_vc_state {k : Nat} {u : SX} {v : SY} (I : i_Rel k u v) (hk : k + 5 ≤ 2560) (v1 : Int32) (v2 : Int32) (v3 : Int32) (v4 : Int32) : wpX_state (fun r u' => wpY_state (fun r' v' => r' = r ∧ i_Rel (k + 5) u' v') v v1 v2 v3 v4) u v1 v2 v3 v4 := by
  have I0 := I
  obtain ⟨nc, sc, tc, lv, ce, tk, sz, ls, dp, sd, ip, ng, zr, cy, ov, hl, st, pc, nk, nx, ny, nw, ek, ex, ey, ew, qk, qx, qy, qz, qw, fn, fs, fp, gn, gp, gs, gq, mm, rr, pl⟩ := u
  obtain ⟨nn, ns, nt, td, sp, pr, yk, yx, yy, yw, yv, zk, zx, zy, zw, zv, od, wk, wx, wy, wz, ww, nu, va, bg, ag, lf, ou⟩ := v
  obtain ⟨hT, hM⟩ := I
  obtain ⟨N, S, T, wt, ws, ps, a1, a2, a3, a4, a5, a6, a7, a8, a9, a10, a11, a12⟩ := hT
  have hN := a7.1
  have hS := a7.2.1
  have htz := a10 (nn, ns, nt, td, sp, pr, yk, yx, yy, yw, yv, zk, zx, zy, zw, zv, od, wk, wx, wy, wz, ww, nu, va, bg, ag, lf, ou) rfl rfl rfl rfl
  have hT40 := htz.1
  by_cases hfull : T = 40
  · exact br_f (by rw [a3, hfull]; decide) (br_t (by rw [a6, hfull]; rfl) ⟨rfl, I0⟩)
  · have hlt : T < 40 := by omega
    by_cases hj : ∃ j, j < 8 ∧ v1 = nI j
    · obtain ⟨j, hj, rfl⟩ := hj
      have hw20 : ∀ b i, i < ex_n N S b → wt b i ≤ 20 := fun b i hi => by obtain ⟨_, _, _, _, z, _⟩ := a7.2.2 b i hi; exact z
      have hw1 := fun b i hi => (a11 b i hi).1
      have hw2 := fun b i hi => (a11 b i hi).2
      have hv20 : ∀ s, s < T → ws s ≤ 20 := fun s hs => (htz.2 s hs).2.1
      have hv1 := fun s hs => (a12 s hs).1
      have hv2 := fun s hs => (a12 s hs).2
      have hW : sk_ok N S T j v2 v3 v4 → sk_w wt ws j v2 v3 v4 < 1000 := fun o => sk_w80 hN hS hT40 hj hw20 hv20 o
      refine xt_state hN hS hT40 hlt a1 a2 a3 hj hw1 hw20 hv1 hv20 (fun o => ?_) (fun o hg => ?_) (fun o hg => ?_)
      · exact yt_state hN hS hT40 hlt a4 a5 a6 hj hw2 hv2 hW (fun _ => ⟨rfl, I0⟩) (fun q => absurd q o) (fun q => absurd q o)
      · exact yt_state hN hS hT40 hlt a4 a5 a6 hj hw2 hv2 hW (fun q => absurd o q) (fun _ _ => ⟨rfl, I0⟩) (fun _ q => by omega)
      · refine yt_state hN hS hT40 hlt a4 a5 a6 hj hw2 hv2 hW (fun q => absurd o q) (fun _ q => by omega) (fun _ _ => And.intro rfl (And.intro ⟨N, S, T + 1, wt, sk_ws ws T (sk_w wt ws j v2 v3 v4), ps, a1, a2, rfl, a4, a5, rfl, a7, a8, a9, fun v e1 e2 e3 e4 => ?_, a11, fun s hs => ?_⟩ hM))
        · exact ad_st htz hN hS hlt hj o hg e1 e2 e3 e4
        · by_cases e : s = T
          · subst e
            rw [sk_wsN]; exact ⟨pk_us, pk_us⟩
          · rw [sk_wsO (by omega), pk_un e, pk_un e]; exact a12 s (by omega)
    · refine br_t (by rw [a3]; exact nI_lt (b := 40) hlt (by decide)) (rq_l (n := 8) (by decide) (by decide) (fun q => absurd q hj) (fun _ => ?_))
      refine br_f (by rw [a6]; exact kx_ne (b := 40) (by omega) (by omega) (by omega)) (yt_bad (fun j h e => hj ⟨j, h, e⟩) (br_f (by decide) ⟨rfl, I0⟩))
end
