section
/-! rows of kit/rows, pasted -/
theorem pk_us {f : Nat → Int32} {k : Nat} {x : Int32} : upd f k x k = x := if_pos rfl
theorem pk_un {f : Nat → Int32} {k j : Nat} {x : Int32} (h : j ≠ k) : upd f k x j = f j := if_neg h
theorem pk_uLs {f : Nat → Int64} {k : Nat} {x : Int64} : vp_updL f k x k = x := if_pos rfl
theorem pk_uLn {f : Nat → Int64} {k j : Nat} {x : Int64} (h : j ≠ k) : vp_updL f k x j = f j := if_neg h
theorem pk_sub {a b : Nat} (h : b ≤ a) : nI a - nI b = nI (a - b) := by
  obtain ⟨c, rfl⟩ : ∃ c, a = c + b := ⟨a - b, by omega⟩
  rw [← nI_add, Int32.add_sub_cancel, Nat.add_sub_cancel]
theorem pk_m1 (n : Nat) : nI (n + 1) + (-1) = nI n := by
  rw [← nI_1, Int32.add_assoc, show (1 : Int32) + (-1) = 0 from rfl, Int32.add_zero]
theorem pk_mul (a b : Nat) : nI a * nI b = nI (a * b) := (Int32.ofNat_mul a b).symm
theorem pk_div {a d : Nat} (ha : a < 2 ^ 31) (h0 : 0 < d) (hd : d < 2 ^ 31) : nI a / nI d = nI (a / d) := by
  apply Int32.toInt_inj.mp
  rw [lg_idiv_nonneg (by rw [nI_toInt ha]; omega) (by rw [nI_toInt hd]; omega), nI_toInt ha, nI_toInt hd, nI_toInt (Nat.lt_of_le_of_lt (Nat.div_le_self a d) ha)]
  first | rfl | exact (Int.natCast_ediv _ _).symm
theorem pk_rem {a d : Nat} (ha : a < 2 ^ 31) (h0 : 0 < d) (hd : d < 2 ^ 31) : nI a - nI a / nI d * nI d = nI (a % d) := by
  rw [pk_div ha h0 hd, pk_mul, pk_sub (Nat.div_mul_le_self a d)]
  exact congrArg nI (by have := Nat.div_add_mod' a d; omega)
theorem pk_sub_toInt {a b : Nat} (ha : a < 2 ^ 30) (hb : b < 2 ^ 30) : (nI a - nI b).toInt = (a : Int) - b := by
  rw [Int32.toInt_sub, nI_toInt (by omega), nI_toInt (by omega)]
  exact Int.bmod_eq_of_le (by omega) (by omega)
theorem pk_sneg {a b : Nat} (hb : b < 2 ^ 30) (h : a < b) : nI a - nI b < 0 := by
  rw [Int32.lt_iff_toInt_lt, pk_sub_toInt (by omega) hb, show (0 : Int32).toInt = 0 from by decide]
  omega
theorem pk_ix (x : Int32) {n : Nat} (hn : n < 2 ^ 31) : x < 0 ∨ nI n ≤ x ∨ ∃ j : Nat, j < n ∧ x = nI j := by
  by_cases h : x < 0
  · exact Or.inl h
  · obtain ⟨j, hj, rfl⟩ := nI_of h
    by_cases h2 : j < n
    · exact Or.inr (Or.inr ⟨j, h2, rfl⟩)
    · exact Or.inr (Or.inl (nI_le (by omega) hj))
theorem pk_le {x y : Int32} {A B : Prop} (a b : Nat) (f : a ≤ b → A) (g : b < a → B) (hx : x = nI a := by rfl) (hy : y = nI b := by rfl) (ha : a < 2 ^ 31 := by omega) (hb : b < 2 ^ 31 := by omega) : (x ≤ y → A) ∧ (¬ x ≤ y → B) := by
  subst hx hy
  rw [nI_leI ha hb]
  exact ⟨f, fun z => g (by omega)⟩
theorem pk_lt {x y : Int32} {A B : Prop} (a b : Nat) (f : a < b → A) (g : b ≤ a → B) (hx : x = nI a := by rfl) (hy : y = nI b := by rfl) (ha : a < 2 ^ 31 := by omega) (hb : b < 2 ^ 31 := by omega) : (x < y → A) ∧ (¬ x < y → B) := by
  subst hx hy
  rw [nI_ltI ha hb]
  exact ⟨f, fun z => g (by omega)⟩
theorem pk_eq {x y : Int32} {A B : Prop} (a b : Nat) (f : a = b → A) (g : a ≠ b → B) (hx : x = nI a := by rfl) (hy : y = nI b := by rfl) (ha : a < 2 ^ 31 := by omega) (hb : b < 2 ^ 31 := by omega) : (x = y → A) ∧ (¬ x = y → B) := by
  subst hx hy
  rw [nI_eq ha hb]
  exact ⟨f, g⟩
theorem pk_in {x : Int32} (n N : Nat) (h : n < N) (hx : x = nI n := by rfl) (hN : N < 2 ^ 31 := by omega) : vp_in x N := by
  subst hx
  exact vp_in_nI h hN
theorem pk_cl {x : Int32} (n : Nat) (hx : x = nI n := by rfl) (h : n < 2 ^ 31 := by omega) : x.toNatClampNeg = n := by
  subst hx
  exact nI_clamp h
theorem pk_tn {n : Nat} (h : n < 2 ^ 32) : (nI n).toBitVec.toNat = n := Nat.mod_eq_of_lt h
theorem pk_and (x : Int32) {m : Int32} (k : Nat) (hm : m.toBitVec.toNat = 2 ^ k - 1) : x &&& m = nI (x.toBitVec.toNat % 2 ^ k) := by
  apply Int32.toBitVec_inj.mp
  apply BitVec.eq_of_toNat_eq
  rw [Int32.toBitVec_and, BitVec.toNat_and, hm, Nat.and_two_pow_sub_one_eq_mod]
  show _ = (BitVec.ofNat 32 _).toNat
  rw [BitVec.toNat_ofNat]
  exact (Nat.mod_eq_of_lt (Nat.lt_of_le_of_lt (Nat.mod_le _ _) x.toBitVec.isLt)).symm
theorem pk_andN {n : Nat} (h : n < 2 ^ 32) {m : Int32} (k : Nat) (hm : m.toBitVec.toNat = 2 ^ k - 1) : nI n &&& m = nI (n % 2 ^ k) := by
  rw [pk_and _ k hm, pk_tn h]
theorem pk_andE (x : Int32) {m : Int32} (k : Nat) (hm : m.toBitVec.toNat = 2 ^ k - 1) : ∃ j : Nat, j < 2 ^ k ∧ x &&& m = nI j := ⟨_, Nat.mod_lt _ (Nat.two_pow_pos k), pk_and x k hm⟩
theorem pk_andIn (x : Int32) {m : Int32} (k : Nat) (hm : m.toBitVec.toNat = 2 ^ k - 1) (hk : k ≤ 30) : vp_in (x &&& m) (2 ^ k) := by
  obtain ⟨j, hj, e⟩ := pk_andE x k hm
  rw [e]
  exact vp_in_nI hj (Nat.lt_of_le_of_lt (Nat.pow_le_pow_right (by decide) hk) (by decide))
theorem pk_shl (a s : Int32) (k : Nat) (hs : (s.toBitVec.smod 32).toNat = k) : (a <<< s).toBitVec.toNat = a.toBitVec.toNat * 2 ^ k % 2 ^ 32 := by
  show (a.toBitVec <<< (s.toBitVec.smod 32).toNat).toNat = _
  rw [hs, BitVec.toNat_shiftLeft, Nat.shiftLeft_eq]
theorem pk_shlN {n : Nat} (s : Int32) (k : Nat) (hs : (s.toBitVec.smod 32).toNat = k) (h : n * 2 ^ k < 2 ^ 32) : nI n <<< s = nI (n * 2 ^ k) := by
  apply Int32.toBitVec_inj.mp
  apply BitVec.eq_of_toNat_eq
  have hn : n < 2 ^ 32 := Nat.lt_of_le_of_lt (Nat.le_mul_of_pos_right n (Nat.two_pow_pos k)) h
  rw [pk_shl _ _ k hs, pk_tn hn, pk_tn h, Nat.mod_eq_of_lt h]
theorem pk_shr (a s : Int32) (k : Nat) (hs : (s.toBitVec.smod 32).toNat = k) : (a >>> s).toInt = a.toInt >>> k := by
  show (a.toBitVec.sshiftRight (s.toBitVec.smod 32).toNat).toInt = _
  rw [hs, BitVec.toInt_sshiftRight]
  rfl
theorem pk_shrN {n : Nat} (h : n < 2 ^ 31) (s : Int32) (k : Nat) (hs : (s.toBitVec.smod 32).toNat = k) : nI n >>> s = nI (n / 2 ^ k) := by
  apply Int32.toInt_inj.mp
  have h2 : n / 2 ^ k ≤ n := Nat.div_le_self _ _
  rw [pk_shr _ _ k hs, nI_toInt h, nI_toInt (by omega), Int.shiftRight_eq_div_pow]
  rfl
theorem pk_ushr (x s : Int32) (k : Nat) (hs : ((s.toUInt32 &&& Int32.toUInt32 31).toBitVec % 32).toNat = k) : (x.toUInt32 >>> (s.toUInt32 &&& Int32.toUInt32 31)).toInt32.toBitVec.toNat = x.toBitVec.toNat / 2 ^ k := by
  have e : (x.toUInt32 >>> (s.toUInt32 &&& Int32.toUInt32 31)).toInt32.toBitVec = x.toBitVec >>> k := by
    rw [← hs]
    exact UInt32.toBitVec_shiftRight _ _
  rw [e, BitVec.toNat_ushiftRight, Nat.shiftRight_eq_div_pow]
theorem pk_ushrN {n : Nat} (hn : n < 2 ^ 32) (s : Int32) (k : Nat) (hs : ((s.toUInt32 &&& Int32.toUInt32 31).toBitVec % 32).toNat = k) : ((nI n).toUInt32 >>> (s.toUInt32 &&& Int32.toUInt32 31)).toInt32 = nI (n / 2 ^ k) := by
  apply Int32.toBitVec_inj.mp
  apply BitVec.eq_of_toNat_eq
  rw [pk_ushr _ s k hs, pk_tn hn, pk_tn (Nat.lt_of_le_of_lt (Nat.div_le_self _ _) hn)]
theorem pk_nb (z : Int32) : narrow .byte (.int z.toInt8.toInt32) = .int z.toInt8.toInt32 := congrArg Value.int (by simp)
theorem pk_ns (z : Int32) : narrow .short (.int z.toInt16.toInt32) = .int z.toInt16.toInt32 := congrArg Value.int (by simp)
theorem pk_fb (r : Int32) : fits .byte (.int r.toInt8.toInt32) = true := by
  have ⟨a, b⟩ := lg_i2b_range r
  have h1 : (-128 : Int32).toInt = -128 := by decide
  have h2 : (127 : Int32).toInt = 127 := by decide
  simp only [fits, Bool.and_eq_true, decide_eq_true_eq, Int32.le_iff_toInt_le, h1, h2]
  omega
theorem pk_fs (r : Int32) : fits .short (.int r.toInt16.toInt32) = true := by
  have ⟨a, b⟩ := lg_i2s_range r
  have h1 : (-32768 : Int32).toInt = -32768 := by decide
  have h2 : (32767 : Int32).toInt = 32767 := by decide
  simp only [fits, Bool.and_eq_true, decide_eq_true_eq, Int32.le_iff_toInt_le, h1, h2]
  omega
theorem pk_charN {q : Nat} (hq : q < 65536) : narrow .char (.int (nI q)) = .int (nI q) ∧ fits .char (.int (nI q)) = true := by
  constructor
  · have e : (nI q).toUInt32.toUInt16.toUInt32.toInt32 = nI q := by
      apply Int32.toBitVec_inj.mp
      apply BitVec.eq_of_toNat_eq
      show (nI q).toUInt32.toUInt16.toUInt32.toNat = q % 2 ^ 32
      rw [UInt16.toNat_toUInt32, UInt32.toNat_toUInt16, show (nI q).toUInt32.toNat = q % 2 ^ 32 from rfl]
      omega
    exact congrArg Value.int e
  · have a : (0 : Int32) ≤ nI q := nI_pos' (by omega)
    have b : nI q ≤ 65535 := nI_le (b := 65535) (by omega) (by decide)
    show (decide ((0 : Int32) ≤ nI q) && decide (nI q ≤ 65535)) = true
    rw [decide_eq_true a, decide_eq_true b]
    rfl
theorem pk_char (x : Int32) : (x.toUInt32 % 65536).toInt32 = nI (x.toBitVec.toNat % 65536) := by
  apply Int32.toBitVec_inj.mp
  apply BitVec.eq_of_toNat_eq
  rw [pk_tn (by omega)]
  show (x.toUInt32 % 65536).toNat = _
  rw [UInt32.toNat_mod]
  rfl
theorem pk_nc (x : Int32) : narrow .char (.int (x.toUInt32 % 65536).toInt32) = .int (x.toUInt32 % 65536).toInt32 := by
  rw [pk_char]
  exact (pk_charN (Nat.mod_lt _ (by decide))).1
theorem pk_fc (x : Int32) : fits .char (.int (x.toUInt32 % 65536).toInt32) = true := by
  rw [pk_char]
  exact (pk_charN (Nat.mod_lt _ (by decide))).2
theorem pk_vb (z : Int32) : vp_nar .byte z.toInt8.toInt32 = z.toInt8.toInt32 := by rw [vp_nar_byte]; simp
theorem pk_vs (z : Int32) : vp_nar .short z.toInt16.toInt32 = z.toInt16.toInt32 := by rw [vp_nar_short]; simp
theorem pk_vc (z : Int32) : vp_nar .char (z.toUInt32 % 65536).toInt32 = (z.toUInt32 % 65536).toInt32 := Value.int.inj (pk_nc z)
theorem pk_least (P : Nat → Prop) (h : ∃ k, P k) : ∃ k, P k ∧ ∀ j, j < k → ¬ P j := by
  obtain ⟨k, hk⟩ := h
  induction k using Nat.strongRecOn with
  | ind k ih =>
    by_cases e : ∃ j, j < k ∧ P j
    · obtain ⟨j, hj, pj⟩ := e
      exact ih j hj pj
    · exact ⟨k, hk, fun j hj pj => e ⟨j, hj, pj⟩⟩
def bt (x : Int32) (i : Nat) : Bool := x.toBitVec.getLsbD i
theorem b_ext {x y : Int32} (h : ∀ i, i < 32 → bt x i = bt y i) : x = y := Int32.toBitVec_inj.mp (BitVec.eq_of_getLsbD_eq (fun i hi => h i hi))
theorem b_or (x y : Int32) (i : Nat) : bt (x ||| y) i = (bt x i || bt y i) := by unfold bt; rw [Int32.toBitVec_or, BitVec.getLsbD_or]
theorem b_and (x y : Int32) (i : Nat) : bt (x &&& y) i = (bt x i && bt y i) := by unfold bt; rw [Int32.toBitVec_and, BitVec.getLsbD_and]
theorem b_xor (x y : Int32) (i : Nat) : bt (x ^^^ y) i = (bt x i ^^ bt y i) := by unfold bt; rw [Int32.toBitVec_xor, BitVec.getLsbD_xor]
theorem b_big {x : Int32} {i : Nat} (h : 32 ≤ i) : bt x i = false := BitVec.getLsbD_of_ge _ _ h
theorem b_255 (i : Nat) : bt 255 i = decide (i < 8) := by
  rcases Nat.lt_or_ge i 32 with h | h
  · exact (by decide +kernel : ∀ i, i < 32 → bt 255 i = decide (i < 8)) i h
  · rw [b_big h, decide_eq_false (by omega)]
theorem b_65535 (i : Nat) : bt 65535 i = decide (i < 16) := by
  rcases Nat.lt_or_ge i 32 with h | h
  · exact (by decide +kernel : ∀ i, i < 32 → bt 65535 i = decide (i < 16)) i h
  · rw [b_big h, decide_eq_false (by omega)]
theorem b_m1 : ∀ i, i < 32 → bt (-1) i = true := by decide +kernel
theorem b_0 (i : Nat) : bt 0 i = false := BitVec.getLsbD_zero
theorem s_l : ∀ n, n < 32 → ((nI n &&& 31).toBitVec.smod 32).toNat = n := by decide +kernel
theorem s_u : ∀ n, n < 32 → (((nI n).toUInt32 &&& Int32.toUInt32 31).toBitVec % 32).toNat = n := by decide +kernel
theorem b_shl (n : Nat) (hn : n < 32) (x : Int32) {i : Nat} (hi : i < 32) : bt (x <<< (nI n &&& 31)) i = (decide (n ≤ i) && bt x (i - n)) := by
  unfold bt
  rw [Int32.toBitVec_shiftLeft]
  show (x.toBitVec <<< ((nI n &&& 31).toBitVec.smod 32).toNat).getLsbD i = _
  rw [s_l n hn, BitVec.getLsbD_shiftLeft]
  rcases Nat.lt_or_ge i n with h | h
  · simp [h, Nat.not_le.mpr h]
  · simp [hi, h, Nat.not_lt.mpr h]
theorem b_ushr (n : Nat) (hn : n < 32) (x : Int32) (i : Nat) : bt ((x.toUInt32 >>> ((nI n).toUInt32 &&& Int32.toUInt32 31)).toInt32) i = bt x (n + i) := by
  show (x.toUInt32 >>> ((nI n).toUInt32 &&& Int32.toUInt32 31)).toBitVec.getLsbD i = x.toUInt32.toBitVec.getLsbD (n + i)
  rw [UInt32.toBitVec_shiftRight]
  show (x.toUInt32.toBitVec >>> (((nI n).toUInt32 &&& Int32.toUInt32 31).toBitVec % 32).toNat).getLsbD i = _
  rw [s_u n hn, BitVec.getLsbD_ushiftRight]
theorem b_sshr (n : Nat) (hn : n < 32) (x : Int32) {i : Nat} (hi : i < 32) : bt (x >>> (nI n &&& 31)) i = if n + i < 32 then bt x (n + i) else bt x 31 := by
  unfold bt
  rw [Int32.toBitVec_shiftRight]
  show (x.toBitVec.sshiftRight ((nI n &&& 31).toBitVec.smod 32).toNat).getLsbD i = _
  rw [s_l n hn, BitVec.getLsbD_sshiftRight, BitVec.msb_eq_getLsbD_last]
  simp [hi]
def nf_M (m : Int32) : Nat := 4294967296 - m.toBitVec.toNat
theorem nf_sh : ∀ l, l < 32 → ((1 : Int32) <<< (nI l &&& 31)).toBitVec = BitVec.twoPow 32 l := by decide +kernel
theorem nf_sl : ∀ l, l < 32 → (((nI l).toUInt32 &&& Int32.toUInt32 31).toBitVec % 32).toNat = l := by decide +kernel
theorem nf_tp : ∀ l, l < 32 → BitVec.twoPow 32 l ≠ 0#32 := by decide +kernel
theorem nf_bit (m : Int32) (l : Nat) (hl : l < 32) : ((m.toUInt32 >>> ((nI l).toUInt32 &&& Int32.toUInt32 31)).toInt32 &&& 1) = 0 ↔ (m &&& ((1 : Int32) <<< (nI l &&& 31))) = 0 := by
  have e : ((m.toUInt32 >>> ((nI l).toUInt32 &&& Int32.toUInt32 31)).toInt32).toBitVec = m.toBitVec >>> l := by
    show m.toBitVec >>> (((nI l).toUInt32 &&& Int32.toUInt32 31).toBitVec % 32) = m.toBitVec >>> l
    rw [BitVec.ushiftRight_eq', nf_sl l hl]
  rw [← Int32.toBitVec_inj, ← Int32.toBitVec_inj, Int32.toBitVec_and, Int32.toBitVec_and, nf_sh l hl, e, BitVec.and_twoPow]
  show (m.toBitVec >>> l &&& 1#32) = 0#32 ↔ _ = 0#32
  rw [BitVec.and_one_eq_setWidth_ofBool_getLsbD, BitVec.getLsbD_ushiftRight, Nat.add_zero]
  cases hb : m.toBitVec.getLsbD l
  · exact ⟨fun _ => by simp, fun _ => by decide⟩
  · exact ⟨fun z => absurd z (by decide), fun z => absurd ((if_pos rfl).symm.trans z) (nf_tp l hl)⟩
theorem nf_gr (m k : Int32) (h : m &&& k = 0) (hk : k ≠ 0) : nf_M (m ||| k) < nf_M m := by
  have hm := m.toBitVec.isLt
  have hm' := (m ||| k).toBitVec.isLt
  have h1 : m.toBitVec.toNat ≤ (m ||| k).toBitVec.toNat := by
    rw [Int32.toBitVec_or, BitVec.toNat_or]
    exact Nat.left_le_or
  have h2 : m.toBitVec.toNat ≠ (m ||| k).toBitVec.toNat := by
    intro e
    have e2 : m = m ||| k := Int32.toBitVec_inj.mp (BitVec.eq_of_toNat_eq e)
    apply hk
    apply Int32.toBitVec_inj.mp
    show k.toBitVec = 0#32
    apply BitVec.eq_of_getLsbD_eq
    intro i hi
    have a : m.toBitVec.getLsbD i = (m.toBitVec.getLsbD i || k.toBitVec.getLsbD i) := by rw [← BitVec.getLsbD_or, ← Int32.toBitVec_or, ← e2]
    have b : (m.toBitVec.getLsbD i && k.toBitVec.getLsbD i) = false := by
      rw [← BitVec.getLsbD_and, ← Int32.toBitVec_and, h]
      exact BitVec.getLsbD_zero
    rw [BitVec.getLsbD_zero]
    revert a b
    cases m.toBitVec.getLsbD i <;> cases k.toBitVec.getLsbD i <;> simp
  unfold nf_M
  omega
end
section
/-! the two states in groups of fields; xk, yk put them together (printed by gen.py) -/
abbrev gx_E : Type := Int32 × (Nat → Int32) × (Nat → Int32) × (Nat → Int32) × (Nat → Int32) × (Nat → Int32) × (Nat → Int32) × (Nat → Int32)
def xe_n (g : gx_E) : Int32 := g.1
def xe_k (g : gx_E) : Nat → Int32 := g.2.1
def xe_x (g : gx_E) : Nat → Int32 := g.2.2.1
def xe_y (g : gx_E) : Nat → Int32 := g.2.2.2.1
def xe_w (g : gx_E) : Nat → Int32 := g.2.2.2.2.1
def xe_s (g : gx_E) : Nat → Int32 := g.2.2.2.2.2.1
def xe_i (g : gx_E) : Nat → Int32 := g.2.2.2.2.2.2.1
def xe_a (g : gx_E) : Nat → Int32 := g.2.2.2.2.2.2.2
abbrev gx_S : Type := Int32 × (Nat → Int32) × (Nat → Int32) × (Nat → Int32) × (Nat → Int32)
def xs_n (g : gx_S) : Int32 := g.1
def xs_o (g : gx_S) : Nat → Int32 := g.2.1
def xs_x (g : gx_S) : Nat → Int32 := g.2.2.1
def xs_y (g : gx_S) : Nat → Int32 := g.2.2.2.1
def xs_z (g : gx_S) : Nat → Int32 := g.2.2.2.2
abbrev gx_C : Type := Int32 × Int32 × (Nat → Int32) × (Nat → Int32) × (Nat → Int32) × (Nat → Int32) × (Nat → Int32)
def xc_f (g : gx_C) : Int32 := g.1
def xc_n (g : gx_C) : Int32 := g.2.1
def xc_o (g : gx_C) : Nat → Int32 := g.2.2.1
def xc_a (g : gx_C) : Nat → Int32 := g.2.2.2.1
def xc_b (g : gx_C) : Nat → Int32 := g.2.2.2.2.1
def xc_c (g : gx_C) : Nat → Int32 := g.2.2.2.2.2.1
def xc_k (g : gx_C) : Nat → Int32 := g.2.2.2.2.2.2
abbrev gx_W : Type := (Nat → Int32) × (Nat → Int32) × (Nat → Int32) × (Nat → Int32)
def xw_n (g : gx_W) : Nat → Int32 := g.1
def xw_r (g : gx_W) : Nat → Int32 := g.2.1
def xw_p (g : gx_W) : Nat → Int32 := g.2.2.1
def xw_t (g : gx_W) : Nat → Int32 := g.2.2.2
abbrev gx_O : Type := Int32 × (Nat → Int32) × (Nat → Int32) × (Nat → Int32)
def xo_n (g : gx_O) : Int32 := g.1
def xo_e (g : gx_O) : Nat → Int32 := g.2.1
def xo_l (g : gx_O) : Nat → Int32 := g.2.2.1
def xo_p (g : gx_O) : Nat → Int32 := g.2.2.2
abbrev gx_M : Type := Int32 × Int32 × (Nat → Int32) × (Nat → Int32) × (Nat → Int32) × (Nat → Int32) × (Nat → Int64)
def xm_c (g : gx_M) : Int32 := g.1
def xm_h (g : gx_M) : Int32 := g.2.1
def xm_s (g : gx_M) : Nat → Int32 := g.2.2.1
def xm_n (g : gx_M) : Nat → Int32 := g.2.2.2.1
def xm_l (g : gx_M) : Nat → Int32 := g.2.2.2.2.1
def xm_m (g : gx_M) : Nat → Int32 := g.2.2.2.2.2.1
def xm_v (g : gx_M) : Nat → Int64 := g.2.2.2.2.2.2
abbrev gx_H : Type := Int32 × Int32 × (Nat → Int32) × (Nat → Int32) × (Nat → Int32) × (Nat → Int32)
def xh_u (g : gx_H) : Int32 := g.1
def xh_r (g : gx_H) : Int32 := g.2.1
def xh_k (g : gx_H) : Nat → Int32 := g.2.2.1
def xh_s (g : gx_H) : Nat → Int32 := g.2.2.2.1
def xh_n (g : gx_H) : Nat → Int32 := g.2.2.2.2.1
def xh_c (g : gx_H) : Nat → Int32 := g.2.2.2.2.2
abbrev gy_A : Type := Int32 × (Nat → Int32) × (Nat → Int32) × (Nat → Int32) × (Nat → Int32)
def ya_n (g : gy_A) : Int32 := g.1
def ya_k (g : gy_A) : Nat → Int32 := g.2.1
def ya_x (g : gy_A) : Nat → Int32 := g.2.2.1
def ya_y (g : gy_A) : Nat → Int32 := g.2.2.2.1
def ya_w (g : gy_A) : Nat → Int32 := g.2.2.2.2
abbrev gy_B : Type := Int32 × (Nat → Int32) × (Nat → Int32) × (Nat → Int32) × (Nat → Int32)
def yb_n (g : gy_B) : Int32 := g.1
def yb_o (g : gy_B) : Nat → Int32 := g.2.1
def yb_x (g : gy_B) : Nat → Int32 := g.2.2.1
def yb_y (g : gy_B) : Nat → Int32 := g.2.2.2.1
def yb_z (g : gy_B) : Nat → Int32 := g.2.2.2.2
abbrev gy_V : Type := Int32 × (Nat → Int64) × (Nat → Int32) × (Nat → Int32)
def yv_h (g : gy_V) : Int32 := g.1
def yv_o (g : gy_V) : Nat → Int64 := g.2.1
def yv_s (g : gy_V) : Nat → Int32 := g.2.2.1
def yv_n (g : gy_V) : Nat → Int32 := g.2.2.2
abbrev gy_T : Type := (Nat → Int32) × (Nat → Int32) × (Nat → Int32) × (Nat → Int32) × (Nat → Int32) × (Nat → Int32)
def yt_z (g : gy_T) : Nat → Int32 := g.1
def yt_k (g : gy_T) : Nat → Int32 := g.2.1
def yt_s (g : gy_T) : Nat → Int32 := g.2.2.1
def yt_n (g : gy_T) : Nat → Int32 := g.2.2.2.1
def yt_t (g : gy_T) : Nat → Int32 := g.2.2.2.2.1
def yt_e (g : gy_T) : Nat → Int32 := g.2.2.2.2.2
abbrev gy_K : Type := Int32 × Int32 × Int32 × (Nat → Int32) × (Nat → Int32) × (Nat → Int32) × (Nat → Int32)
def yk_d (g : gy_K) : Int32 := g.1
def yk_t (g : gy_K) : Int32 := g.2.1
def yk_f (g : gy_K) : Int32 := g.2.2.1
def yk_w (g : gy_K) : Nat → Int32 := g.2.2.2.1
def yk_g (g : gy_K) : Nat → Int32 := g.2.2.2.2.1
def yk_s (g : gy_K) : Nat → Int32 := g.2.2.2.2.2.1
def yk_n (g : gy_K) : Nat → Int32 := g.2.2.2.2.2.2
abbrev gy_L : Type := Int32 × (Nat → Int32) × (Nat → Int32) × (Nat → Int32)
def yl_n (g : gy_L) : Int32 := g.1
def yl_a (g : gy_L) : Nat → Int32 := g.2.1
def yl_t (g : gy_L) : Nat → Int32 := g.2.2.1
def yl_l (g : gy_L) : Nat → Int32 := g.2.2.2
def xk (E : gx_E) (S : gx_S) (C : gx_C) (W : gx_W) (O : gx_O) (M : gx_M) (H : gx_H) : SX := (xe_n E, xs_n S, xc_f C, xc_n C, xo_n O, xm_c M, xm_h M, xh_u H, xh_r H, xe_k E, xe_x E, xe_y E, xe_w E, xe_s E, xe_i E, xe_a E, xs_o S, xs_x S, xs_y S, xs_z S, xc_o C, xc_a C, xc_b C, xc_c C, xc_k C, xw_n W, xw_r W, xw_p W, xw_t W, xo_e O, xo_l O, xo_p O, xm_s M, xm_n M, xm_l M, xm_m M, xm_v M, xh_k H, xh_s H, xh_n H, xh_c H)
def yk (A : gy_A) (B : gy_B) (V : gy_V) (T : gy_T) (K : gy_K) (L : gy_L) : SY := (ya_n A, yb_n B, yv_h V, yk_d K, yk_t K, yk_f K, yl_n L, ya_k A, ya_x A, ya_y A, ya_w A, yb_o B, yb_x B, yb_y B, yb_z B, yv_s V, yv_n V, yt_z T, yt_k T, yt_s T, yt_n T, yt_t T, yt_e T, yv_o V, yk_w K, yk_g K, yk_s K, yk_n K, yl_a L, yl_t L, yl_l L)
def ux_E (u : SX) : gx_E := (u.1, u.2.2.2.2.2.2.2.2.2.1, u.2.2.2.2.2.2.2.2.2.2.1, u.2.2.2.2.2.2.2.2.2.2.2.1, u.2.2.2.2.2.2.2.2.2.2.2.2.1, u.2.2.2.2.2.2.2.2.2.2.2.2.2.1, u.2.2.2.2.2.2.2.2.2.2.2.2.2.2.1, u.2.2.2.2.2.2.2.2.2.2.2.2.2.2.2.1)
def ux_S (u : SX) : gx_S := (u.2.1, u.2.2.2.2.2.2.2.2.2.2.2.2.2.2.2.2.1, u.2.2.2.2.2.2.2.2.2.2.2.2.2.2.2.2.2.1, u.2.2.2.2.2.2.2.2.2.2.2.2.2.2.2.2.2.2.1, u.2.2.2.2.2.2.2.2.2.2.2.2.2.2.2.2.2.2.2.1)
def ux_C (u : SX) : gx_C := (u.2.2.1, u.2.2.2.1, u.2.2.2.2.2.2.2.2.2.2.2.2.2.2.2.2.2.2.2.2.1, u.2.2.2.2.2.2.2.2.2.2.2.2.2.2.2.2.2.2.2.2.2.1, u.2.2.2.2.2.2.2.2.2.2.2.2.2.2.2.2.2.2.2.2.2.2.1, u.2.2.2.2.2.2.2.2.2.2.2.2.2.2.2.2.2.2.2.2.2.2.2.1, u.2.2.2.2.2.2.2.2.2.2.2.2.2.2.2.2.2.2.2.2.2.2.2.2.1)
def ux_W (u : SX) : gx_W := (u.2.2.2.2.2.2.2.2.2.2.2.2.2.2.2.2.2.2.2.2.2.2.2.2.2.1, u.2.2.2.2.2.2.2.2.2.2.2.2.2.2.2.2.2.2.2.2.2.2.2.2.2.2.1, u.2.2.2.2.2.2.2.2.2.2.2.2.2.2.2.2.2.2.2.2.2.2.2.2.2.2.2.1, u.2.2.2.2.2.2.2.2.2.2.2.2.2.2.2.2.2.2.2.2.2.2.2.2.2.2.2.2.1)
def ux_O (u : SX) : gx_O := (u.2.2.2.2.1, u.2.2.2.2.2.2.2.2.2.2.2.2.2.2.2.2.2.2.2.2.2.2.2.2.2.2.2.2.2.1, u.2.2.2.2.2.2.2.2.2.2.2.2.2.2.2.2.2.2.2.2.2.2.2.2.2.2.2.2.2.2.1, u.2.2.2.2.2.2.2.2.2.2.2.2.2.2.2.2.2.2.2.2.2.2.2.2.2.2.2.2.2.2.2.1)
def ux_M (u : SX) : gx_M := (u.2.2.2.2.2.1, u.2.2.2.2.2.2.1, u.2.2.2.2.2.2.2.2.2.2.2.2.2.2.2.2.2.2.2.2.2.2.2.2.2.2.2.2.2.2.2.2.1, u.2.2.2.2.2.2.2.2.2.2.2.2.2.2.2.2.2.2.2.2.2.2.2.2.2.2.2.2.2.2.2.2.2.1, u.2.2.2.2.2.2.2.2.2.2.2.2.2.2.2.2.2.2.2.2.2.2.2.2.2.2.2.2.2.2.2.2.2.2.1, u.2.2.2.2.2.2.2.2.2.2.2.2.2.2.2.2.2.2.2.2.2.2.2.2.2.2.2.2.2.2.2.2.2.2.2.1, u.2.2.2.2.2.2.2.2.2.2.2.2.2.2.2.2.2.2.2.2.2.2.2.2.2.2.2.2.2.2.2.2.2.2.2.2.1)
def ux_H (u : SX) : gx_H := (u.2.2.2.2.2.2.2.1, u.2.2.2.2.2.2.2.2.1, u.2.2.2.2.2.2.2.2.2.2.2.2.2.2.2.2.2.2.2.2.2.2.2.2.2.2.2.2.2.2.2.2.2.2.2.2.2.1, u.2.2.2.2.2.2.2.2.2.2.2.2.2.2.2.2.2.2.2.2.2.2.2.2.2.2.2.2.2.2.2.2.2.2.2.2.2.2.1, u.2.2.2.2.2.2.2.2.2.2.2.2.2.2.2.2.2.2.2.2.2.2.2.2.2.2.2.2.2.2.2.2.2.2.2.2.2.2.2.1, u.2.2.2.2.2.2.2.2.2.2.2.2.2.2.2.2.2.2.2.2.2.2.2.2.2.2.2.2.2.2.2.2.2.2.2.2.2.2.2.2)
def uy_A (u : SY) : gy_A := (u.1, u.2.2.2.2.2.2.2.1, u.2.2.2.2.2.2.2.2.1, u.2.2.2.2.2.2.2.2.2.1, u.2.2.2.2.2.2.2.2.2.2.1)
def uy_B (u : SY) : gy_B := (u.2.1, u.2.2.2.2.2.2.2.2.2.2.2.1, u.2.2.2.2.2.2.2.2.2.2.2.2.1, u.2.2.2.2.2.2.2.2.2.2.2.2.2.1, u.2.2.2.2.2.2.2.2.2.2.2.2.2.2.1)
def uy_V (u : SY) : gy_V := (u.2.2.1, u.2.2.2.2.2.2.2.2.2.2.2.2.2.2.2.2.2.2.2.2.2.2.2.1, u.2.2.2.2.2.2.2.2.2.2.2.2.2.2.2.1, u.2.2.2.2.2.2.2.2.2.2.2.2.2.2.2.2.1)
def uy_T (u : SY) : gy_T := (u.2.2.2.2.2.2.2.2.2.2.2.2.2.2.2.2.2.1, u.2.2.2.2.2.2.2.2.2.2.2.2.2.2.2.2.2.2.1, u.2.2.2.2.2.2.2.2.2.2.2.2.2.2.2.2.2.2.2.1, u.2.2.2.2.2.2.2.2.2.2.2.2.2.2.2.2.2.2.2.2.1, u.2.2.2.2.2.2.2.2.2.2.2.2.2.2.2.2.2.2.2.2.2.1, u.2.2.2.2.2.2.2.2.2.2.2.2.2.2.2.2.2.2.2.2.2.2.1)
def uy_K (u : SY) : gy_K := (u.2.2.2.1, u.2.2.2.2.1, u.2.2.2.2.2.1, u.2.2.2.2.2.2.2.2.2.2.2.2.2.2.2.2.2.2.2.2.2.2.2.2.1, u.2.2.2.2.2.2.2.2.2.2.2.2.2.2.2.2.2.2.2.2.2.2.2.2.2.1, u.2.2.2.2.2.2.2.2.2.2.2.2.2.2.2.2.2.2.2.2.2.2.2.2.2.2.1, u.2.2.2.2.2.2.2.2.2.2.2.2.2.2.2.2.2.2.2.2.2.2.2.2.2.2.2.1)
def uy_L (u : SY) : gy_L := (u.2.2.2.2.2.2.1, u.2.2.2.2.2.2.2.2.2.2.2.2.2.2.2.2.2.2.2.2.2.2.2.2.2.2.2.2.1, u.2.2.2.2.2.2.2.2.2.2.2.2.2.2.2.2.2.2.2.2.2.2.2.2.2.2.2.2.2.1, u.2.2.2.2.2.2.2.2.2.2.2.2.2.2.2.2.2.2.2.2.2.2.2.2.2.2.2.2.2.2)
theorem ux_eta (u : SX) : u = xk (ux_E u) (ux_S u) (ux_C u) (ux_W u) (ux_O u) (ux_M u) (ux_H u) := rfl
theorem uy_eta (v : SY) : v = yk (uy_A v) (uy_B v) (uy_V v) (uy_T v) (uy_K v) (uy_L v) := rfl
end
section
/-! counting the numbers below n for which a test holds -/
def kc_n (f : Nat → Bool) : Nat → Nat
  | 0 => 0
  | n + 1 => kc_n f n + (if f n = true then 1 else 0)
theorem kc_le (f : Nat → Bool) : ∀ n, kc_n f n ≤ n
  | 0 => Nat.le_refl _
  | n + 1 => by
    have := kc_le f n
    simp only [kc_n]
    split <;> omega
theorem kc_congr {f g : Nat → Bool} : ∀ {n : Nat}, (∀ j, j < n → f j = g j) → kc_n f n = kc_n g n
  | 0, _ => rfl
  | n + 1, h => by
    simp only [kc_n]
    rw [kc_congr (n := n) (fun j hj => h j (by omega)), h n (by omega)]
theorem kc_free {f : Nat → Bool} : ∀ {n : Nat}, kc_n f n < n → ∃ j, j < n ∧ f j = false
  | 0, h => by simp [kc_n] at h
  | n + 1, h => by
    cases hf : f n with
    | false => exact ⟨n, by omega, hf⟩
    | true =>
      simp only [kc_n, hf, if_true] at h
      obtain ⟨j, hj, e⟩ := kc_free (f := f) (n := n) (by omega)
      exact ⟨j, by omega, e⟩
theorem kc_set {f g : Nat → Bool} {j : Nat} (h0 : f j = false) (h1 : g j = true) : ∀ {n : Nat}, j < n → (∀ i, i < n → i ≠ j → g i = f i) → kc_n g n = kc_n f n + 1
  | 0, hj, _ => by omega
  | n + 1, hj, h => by
    simp only [kc_n]
    by_cases e : j = n
    · subst e
      have := kc_congr (f := g) (g := f) (n := j) (fun i hi => h i (by omega) (by omega))
      rw [this, h0, h1]
      simp
    · have a := kc_set h0 h1 (n := n) (by omega) (fun i hi => h i (by omega))
      rw [a, h n (by omega) (fun z => e z.symm)]
      omega
theorem kc_inj (β : Nat → Nat → Prop) (hβ : ∀ i i' j, β i j → β i' j → i = i') (f : Nat → Bool) (m : Nat) : ∀ (n : Nat) (g : Nat → Bool), (∀ i, i < n → f i = true → ∃ j, j < m ∧ g j = true ∧ β i j) → kc_n f n ≤ kc_n g m
  | 0, _, _ => Nat.zero_le _
  | n + 1, g, h => by
    cases hf : f n with
    | false =>
      have := kc_inj β hβ f m n g (fun i hi => h i (by omega))
      simp only [kc_n, hf]
      simpa using this
    | true =>
      obtain ⟨j, hj, gj, bj⟩ := h n (by omega) hf
      have a := kc_inj β hβ f m n (fun k => if k = j then false else g k) (by
        intro i hi hfi
        obtain ⟨j', hj', gj', bj'⟩ := h i (by omega) hfi
        have ne : j' ≠ j := by
          intro e
          subst e
          have := hβ _ _ _ bj bj'
          omega
        exact ⟨j', hj', by simp only [if_neg ne]; exact gj', bj'⟩)
      have b := kc_set (f := fun k => if k = j then false else g k) (g := g) (j := j) (by simp) gj (n := m) hj (by
        intro i _ ne
        simp only [if_neg ne])
      simp only [kc_n, hf, if_true]
      omega
theorem kc_mono {f g : Nat → Bool} {n : Nat} (h : ∀ j, j < n → f j = true → g j = true) : kc_n f n ≤ kc_n g n :=
  kc_inj (fun i j => i = j) (fun _ _ _ a b => a.trans b.symm) f n n g (fun i hi hf => ⟨i, hi, h i hi hf, rfl⟩)
theorem kc_lt {f g : Nat → Bool} {n a : Nat} (h : ∀ j, j < n → f j = true → g j = true) (ha : a < n) (h0 : f a = false) (h1 : g a = true) : kc_n f n < kc_n g n := by
  have e := kc_set (f := f) (g := fun k => if k = a then true else f k) (j := a) h0 (by simp) (n := n) ha (by
    intro i _ ne
    simp only [if_neg ne])
  have m := kc_mono (f := fun k => if k = a then true else f k) (g := g) (n := n) (by
    intro j hj hf
    by_cases e : j = a
    · subst e; exact h1
    · simp only [if_neg e] at hf
      exact h j hj hf)
  omega
theorem kc_pos {f : Nat → Bool} {n a : Nat} (ha : a < n) (h1 : f a = true) : 0 < kc_n f n := by
  have := kc_lt (f := fun _ => false) (g := f) (n := n) (a := a) (by intro j _ z; simp at z) ha rfl h1
  omega
theorem kc_all0 {f : Nat → Bool} {n : Nat} (h : ∀ j, j < n → f j = false) : kc_n f n = 0 := by
  have e := kc_congr (f := f) (g := fun _ => false) (n := n) h
  rw [e]
  clear e h
  induction n with
  | zero => rfl
  | succ n ih => simp [kc_n, ih]
end
section
/-! the component's tables: eight places, a key's own place, and how one is found, put and taken away -/
def hs_h (k : Int32) : Nat := (k * (-1640531527)).toBitVec.toNat / 2 ^ 29
theorem hs_lt (k : Int32) : hs_h k < 8 := by
  have := (k * (-1640531527)).toBitVec.isLt
  unfold hs_h
  omega
theorem hs_slot (k : Int32) : (((k * (-1640531527)).toUInt32 >>> ((29 : Int32).toUInt32 &&& Int32.toUInt32 31)).toInt32) = nI (hs_h k) := by
  apply Int32.toBitVec_inj.mp
  apply BitVec.eq_of_toNat_eq
  rw [pk_ushr _ 29 29 (by decide), pk_tn (by have := hs_lt k; omega)]
  rfl
def hs_d (a b : Nat) : Nat := (b + 8 - a) % 8
theorem hs_d8 (a b : Nat) : hs_d a b < 8 := by unfold hs_d; omega
theorem hs_da {h i : Nat} (hh : h < 8) (hi : i < 8) : hs_d h ((h + i) % 8) = i := by unfold hs_d; omega
theorem hs_dr {h s : Nat} (hh : h < 8) (hs : s < 8) : (h + hs_d h s) % 8 = s := by unfold hs_d; omega
def hs_P (es ky : Nat → Int32) (b : Nat) : Prop := ∀ j q, j < 8 → q < 8 → es (b + j) ≠ 0 → hs_d (hs_h (ky (b + j))) q < hs_d (hs_h (ky (b + j))) j → es (b + q) ≠ 0
def hs_D (es ky : Nat → Int32) (b : Nat) : Prop := ∀ i j, i < 8 → j < 8 → es (b + i) ≠ 0 → es (b + j) ≠ 0 → ky (b + i) = ky (b + j) → i = j
def hs_Z (es nm : Nat → Int32) (b : Nat) : Prop := ∀ j, j < 8 → es (b + j) = 0 → nm (b + j) = 0
def hs_c (es : Nat → Int32) (b : Nat) : Nat := kc_n (fun j => decide (es (b + j) ≠ 0)) 8
def hs_ok (es ky nm : Nat → Int32) (b : Nat) : Prop := hs_P es ky b ∧ hs_D es ky b ∧ hs_Z es nm b ∧ hs_c es b ≤ 6
def hs_s (es ky : Nat → Int32) (b : Nat) (key : Int32) : Nat → Option Nat
  | 0 => none
  | n + 1 => if es (b + n) ≠ 0 ∧ ky (b + n) = key then some n else hs_s es ky b key n
theorem hs_s_some {es ky : Nat → Int32} {b : Nat} {key : Int32} : ∀ {n j : Nat}, hs_s es ky b key n = some j → j < n ∧ es (b + j) ≠ 0 ∧ ky (b + j) = key
  | 0, j, h => by simp [hs_s] at h
  | n + 1, j, h => by
    simp only [hs_s] at h
    by_cases c : es (b + n) ≠ 0 ∧ ky (b + n) = key
    · rw [if_pos c] at h
      have : n = j := by simpa using h
      subst this
      exact ⟨by omega, c.1, c.2⟩
    · rw [if_neg c] at h
      have := hs_s_some h
      exact ⟨by omega, this.2⟩
theorem hs_s_none {es ky : Nat → Int32} {b : Nat} {key : Int32} : ∀ {n : Nat}, hs_s es ky b key n = none → ∀ j, j < n → es (b + j) ≠ 0 → ky (b + j) ≠ key
  | 0, _, j, hj, _ => by omega
  | n + 1, h, j, hj, ho => by
    simp only [hs_s] at h
    by_cases c : es (b + n) ≠ 0 ∧ ky (b + n) = key
    · rw [if_pos c] at h; simp at h
    · rw [if_neg c] at h
      by_cases e : j = n
      · subst e
        exact fun z => c ⟨ho, z⟩
      · exact hs_s_none h j (by omega) ho
def hs_l (es ky nm : Nat → Int32) (b : Nat) (key : Int32) : Int32 × Int32 :=
  match hs_s es ky b key 8 with
  | some j => (es (b + j), nm (b + j))
  | none => (0, 0)
theorem hs_l_pos {es ky nm : Nat → Int32} {b : Nat} {key : Int32} {j : Nat} (hD : hs_D es ky b) (hj : j < 8) (ho : es (b + j) ≠ 0) (hk : ky (b + j) = key) : hs_l es ky nm b key = (es (b + j), nm (b + j)) := by
  unfold hs_l
  cases e : hs_s es ky b key 8 with
  | none => exact absurd hk (hs_s_none e j hj ho)
  | some i =>
    have a := hs_s_some e
    have : i = j := hD i j a.1 hj a.2.1 ho (a.2.2.trans hk.symm)
    subst this
    rfl
theorem hs_l_neg {es ky nm : Nat → Int32} {b : Nat} {key : Int32} (h : ∀ j, j < 8 → es (b + j) ≠ 0 → ky (b + j) ≠ key) : hs_l es ky nm b key = (0, 0) := by
  unfold hs_l
  cases e : hs_s es ky b key 8 with
  | none => rfl
  | some i =>
    have a := hs_s_some e
    exact absurd a.2.2 (h i a.1 a.2.1)
theorem hs_l_cases (es ky nm : Nat → Int32) (b : Nat) (key : Int32) : (∃ j, j < 8 ∧ es (b + j) ≠ 0 ∧ ky (b + j) = key ∧ hs_l es ky nm b key = (es (b + j), nm (b + j))) ∨ ((∀ j, j < 8 → es (b + j) ≠ 0 → ky (b + j) ≠ key) ∧ hs_l es ky nm b key = (0, 0)) := by
  cases e : hs_s es ky b key 8 with
  | none => exact Or.inr ⟨hs_s_none e, by unfold hs_l; rw [e]⟩
  | some i =>
    have a := hs_s_some e
    exact Or.inl ⟨i, a.1, a.2.1, a.2.2, by unfold hs_l; rw [e]⟩
theorem hs_s_congr {es ky es' ky' : Nat → Int32} {b : Nat} {key : Int32} : ∀ {n : Nat}, (∀ j, j < n → es' (b + j) = es (b + j) ∧ ky' (b + j) = ky (b + j)) → hs_s es' ky' b key n = hs_s es ky b key n
  | 0, _ => rfl
  | n + 1, h => by
    simp only [hs_s]
    rw [(h n (by omega)).1, (h n (by omega)).2, hs_s_congr (fun j hj => h j (by omega))]
theorem hs_l_congr {es ky nm es' ky' nm' : Nat → Int32} {b : Nat} {key : Int32} (h : ∀ j, j < 8 → es' (b + j) = es (b + j) ∧ ky' (b + j) = ky (b + j) ∧ nm' (b + j) = nm (b + j)) : hs_l es' ky' nm' b key = hs_l es ky nm b key := by
  unfold hs_l
  rw [hs_s_congr (n := 8) (fun j hj => ⟨(h j hj).1, (h j hj).2.1⟩)]
  cases e : hs_s es ky b key 8 with
  | none => rfl
  | some i =>
    have a := hs_s_some e
    show (es' (b + i), nm' (b + i)) = _
    rw [(h i a.1).1, (h i a.1).2.2]
theorem hs_c_congr {es es' : Nat → Int32} {b : Nat} (h : ∀ j, j < 8 → es' (b + j) = es (b + j)) : hs_c es' b = hs_c es b :=
  kc_congr (fun j hj => by rw [h j hj])
theorem hs_ok_congr {es ky nm es' ky' nm' : Nat → Int32} {b : Nat} (h : ∀ j, j < 8 → es' (b + j) = es (b + j) ∧ ky' (b + j) = ky (b + j) ∧ nm' (b + j) = nm (b + j)) (o : hs_ok es ky nm b) : hs_ok es' ky' nm' b := by
  obtain ⟨hP, hD, hZ, hc⟩ := o
  refine ⟨?_, ?_, ?_, ?_⟩
  · intro j q hj hq
    rw [(h j hj).1, (h j hj).2.1, (h q hq).1]
    exact hP j q hj hq
  · intro i j hi hj
    rw [(h i hi).1, (h j hj).1, (h i hi).2.1, (h j hj).2.1]
    exact hD i j hi hj
  · intro j hj
    rw [(h j hj).1, (h j hj).2.2]
    exact hZ j hj
  · rw [hs_c_congr (fun j hj => (h j hj).1)]
    exact hc
theorem hs_freeEx {es : Nat → Int32} {b : Nat} (h : hs_c es b ≤ 6) : ∃ z, z < 8 ∧ es (b + z) = 0 := by
  obtain ⟨j, hj, e⟩ := kc_free (n := 8) (f := fun j => decide (es (b + j) ≠ 0)) (by unfold hs_c at h; omega)
  exact ⟨j, hj, by simpa using e⟩
/-- the search for a key's place: i steps from its own place -/
def hs_at (es ky : Nat → Int32) (b : Nat) (key : Int32) (i : Nat) : Prop :=
  i < 8 ∧ (es (b + (hs_h key + i) % 8) = 0 ∨ ky (b + (hs_h key + i) % 8) = key) ∧ ∀ i', i' < i → es (b + (hs_h key + i') % 8) ≠ 0 ∧ ky (b + (hs_h key + i') % 8) ≠ key
theorem hs_place {es ky : Nat → Int32} {b : Nat} (h : hs_c es b ≤ 6) (key : Int32) : ∃ i, hs_at es ky b key i := by
  obtain ⟨z, hz, ez⟩ := hs_freeEx h
  have hh := hs_lt key
  obtain ⟨i, hi, hm⟩ := pk_least (fun i => es (b + (hs_h key + i) % 8) = 0 ∨ ky (b + (hs_h key + i) % 8) = key) ⟨hs_d (hs_h key) z, Or.inl (by rw [hs_dr hh hz]; exact ez)⟩
  have h8 : i < 8 := by
    rcases Nat.lt_or_ge (hs_d (hs_h key) z) i with c | c
    · exact absurd (Or.inl (by rw [hs_dr hh hz]; exact ez)) (hm _ c)
    · have := hs_d8 (hs_h key) z
      omega
  exact ⟨i, h8, hi, fun i' hi' => ⟨fun e => hm i' hi' (Or.inl e), fun e => hm i' hi' (Or.inr e)⟩⟩
theorem hs_absent {es ky : Nat → Int32} {b : Nat} {key : Int32} {i : Nat} (hP : hs_P es ky b) (h : hs_at es ky b key i) (h0 : es (b + (hs_h key + i) % 8) = 0) : ∀ j, j < 8 → es (b + j) ≠ 0 → ky (b + j) ≠ key := by
  intro j hj ho hk
  have hh := hs_lt key
  have hr := hs_dr hh hj
  rcases Nat.lt_trichotomy i (hs_d (hs_h key) j) with c | c | c
  · refine hP j ((hs_h key + i) % 8) hj (by omega) ho ?_ h0
    rw [hk, hs_da hh h.1]
    exact c
  · rw [c, hr] at h0
    exact ho h0
  · have := h.2.2 _ c
    rw [hr] at this
    exact this.2 hk
theorem hs_found {es ky nm : Nat → Int32} {b : Nat} {key : Int32} {i : Nat} (o : hs_ok es ky nm b) (h : hs_at es ky b key i) : hs_l es ky nm b key = (es (b + (hs_h key + i) % 8), nm (b + (hs_h key + i) % 8)) := by
  have h8 : (hs_h key + i) % 8 < 8 := by omega
  by_cases h0 : es (b + (hs_h key + i) % 8) = 0
  · rw [hs_l_neg (hs_absent o.1 h h0), h0, o.2.2.1 _ h8 h0]
  · exact hs_l_pos o.2.1 h8 h0 (h.2.1.resolve_left h0)
end
section
/-! putting an entry -/
theorem hs_u1 {f : Nat → Int32} {b j q : Nat} {x : Int32} : upd f (b + j) x (b + q) = if q = j then x else f (b + q) := by
  unfold upd
  by_cases e : q = j
  · subst e; simp
  · rw [if_neg e, if_neg (by omega)]
theorem hs_store {es ky nm : Nat → Int32} {b : Nat} {key : Int32} {i : Nat} {s n : Int32} (o : hs_ok es ky nm b) (h : hs_at es ky b key i) (hs : s ≠ 0) (hc : es (b + (hs_h key + i) % 8) = 0 → hs_c es b < 6) :
    hs_ok (upd es (b + (hs_h key + i) % 8) s) (upd ky (b + (hs_h key + i) % 8) key) (upd nm (b + (hs_h key + i) % 8) n) b ∧
    (∀ k', hs_l (upd es (b + (hs_h key + i) % 8) s) (upd ky (b + (hs_h key + i) % 8) key) (upd nm (b + (hs_h key + i) % 8) n) b k' = if k' = key then (s, n) else hs_l es ky nm b k') ∧
    hs_c (upd es (b + (hs_h key + i) % 8) s) b = hs_c es b + (if es (b + (hs_h key + i) % 8) = 0 then 1 else 0) := by
  have hh := hs_lt key
  have hi := h.1
  have hda := hs_da hh hi
  have hat := h.2.2
  have h2 := h.2.1
  have habs := hs_absent (key := key) (i := i) o.1 h
  generalize hj : (hs_h key + i) % 8 = j at *
  have j8 : j < 8 := by omega
  obtain ⟨hP, hD, hZ, h6⟩ := o
  have hoth : ∀ q, q < 8 → q ≠ j → es (b + q) ≠ 0 → ky (b + q) ≠ key := by
    intro q hq ne ho hk
    rcases h2 with h0 | h1
    · exact habs h0 q hq ho hk
    · by_cases h0 : es (b + j) = 0
      · exact habs h0 q hq ho hk
      · exact ne (hD q j hq j8 ho h0 (hk.trans h1.symm))
  have hD' : hs_D (upd es (b + j) s) (upd ky (b + j) key) b := by
    intro p q hp hq
    simp only [hs_u1]
    by_cases e1 : p = j <;> by_cases e2 : q = j
    · intro _ _ _; omega
    · simp only [if_pos e1, if_neg e2]
      intro _ ho hk
      exact absurd hk.symm (hoth q hq e2 ho)
    · simp only [if_pos e2, if_neg e1]
      intro ho _ hk
      exact absurd hk (hoth p hp e1 ho)
    · simp only [if_neg e1, if_neg e2]
      exact hD p q hp hq
  have hc' : hs_c (upd es (b + j) s) b = hs_c es b + (if es (b + j) = 0 then 1 else 0) := by
    unfold hs_c
    by_cases h0 : es (b + j) = 0
    · rw [if_pos h0]
      refine kc_set (j := j) (by simp [h0]) (by simp [hs_u1, hs]) j8 ?_
      intro q _ ne
      simp only [hs_u1, if_neg ne]
    · rw [if_neg h0]
      refine kc_congr ?_
      intro q _
      simp only [hs_u1]
      by_cases e : q = j
      · subst e; simp [hs, h0]
      · simp only [if_neg e]
  refine ⟨⟨?_, hD', ?_, ?_⟩, ?_, hc'⟩
  · intro p q hp hq
    simp only [hs_u1]
    by_cases e1 : p = j
    · simp only [if_pos e1]
      intro _ hlt
      subst e1
      rw [hda] at hlt
      have a := hat _ hlt
      rw [hs_dr hh hq] at a
      by_cases e2 : q = p
      · simp only [if_pos e2]; exact hs
      · simp only [if_neg e2]; exact a.1
    · simp only [if_neg e1]
      intro ho hlt
      have a := hP p q hp hq ho hlt
      by_cases e2 : q = j
      · simp only [if_pos e2]; exact hs
      · simp only [if_neg e2]; exact a
  · intro q hq
    simp only [hs_u1]
    by_cases e : q = j
    · simp only [if_pos e]
      intro z; exact absurd z hs
    · simp only [if_neg e]
      exact hZ q hq
  · rw [hc']
    by_cases h0 : es (b + j) = 0
    · rw [if_pos h0]
      have := hc h0
      omega
    · rw [if_neg h0]; omega
  · intro k'
    by_cases e : k' = key
    · rw [if_pos e]
      have a := hs_l_pos (nm := upd nm (b + j) n) (key := k') hD' j8 (by simp [hs_u1, hs]) (by simp [hs_u1, e])
      rw [a]
      simp [hs_u1]
    · rw [if_neg e]
      rcases hs_l_cases es ky nm b k' with ⟨q, hq, ho, hk, hl⟩ | ⟨hn, hl⟩
      · have ne : q ≠ j := by
          intro z
          subst z
          rcases h2 with h0 | h1
          · exact ho h0
          · exact e (hk.symm.trans h1)
        have a := hs_l_pos (nm := upd nm (b + j) n) (key := k') hD' hq (by simp only [hs_u1, if_neg ne]; exact ho) (by simp only [hs_u1, if_neg ne]; exact hk)
        rw [a, hl]
        simp only [hs_u1, if_neg ne]
      · rw [hl]
        refine hs_l_neg ?_
        intro q hq
        simp only [hs_u1]
        by_cases z : q = j
        · simp only [if_pos z]
          intro _ w; exact e w.symm
        · simp only [if_neg z]
          exact hn q hq
/-! taking an entry away: the hole wanders -/
def hs_R (es0 ky0 nm0 : Nat → Int32) (b p z : Nat) (es ky nm : Nat → Int32) (hole slot : Nat) : Prop :=
  (hole < 8 ∧ slot < 8 ∧ hs_d hole slot < hs_d hole z) ∧
  (∀ q, (q < b ∨ b + 8 ≤ q) → es q = es0 q ∧ ky q = ky0 q ∧ nm q = nm0 q) ∧
  (∀ j, j < 8 → (es (b + j) = 0 ↔ es0 (b + j) = 0)) ∧
  (∀ j, j < 8 → es0 (b + j) = 0 → nm (b + j) = nm0 (b + j)) ∧
  es0 (b + hole) ≠ 0 ∧
  (∀ j q, j < 8 → q < 8 → j ≠ hole → es (b + j) ≠ 0 → hs_d (hs_h (ky (b + j))) q < hs_d (hs_h (ky (b + j))) j → es (b + q) ≠ 0) ∧
  (∀ j, j < 8 → j ≠ hole → hs_d hole j ≤ hs_d hole slot → ¬ hs_d (hs_h (ky (b + j))) hole < hs_d (hs_h (ky (b + j))) j) ∧
  (∀ i j, i < 8 → j < 8 → i ≠ hole → j ≠ hole → es (b + i) ≠ 0 → es (b + j) ≠ 0 → ky (b + i) = ky (b + j) → i = j) ∧
  (∀ j, j < 8 → j ≠ hole → es (b + j) ≠ 0 → ∃ j', j' < 8 ∧ j' ≠ p ∧ es0 (b + j') = es (b + j) ∧ ky0 (b + j') = ky (b + j) ∧ nm0 (b + j') = nm (b + j)) ∧
  (∀ j', j' < 8 → j' ≠ p → es0 (b + j') ≠ 0 → ∃ j, j < 8 ∧ j ≠ hole ∧ es (b + j) = es0 (b + j') ∧ ky (b + j) = ky0 (b + j') ∧ nm (b + j) = nm0 (b + j'))
theorem hs_R0 {es ky nm : Nat → Int32} {b p z : Nat} (o : hs_ok es ky nm b) (hp : p < 8) (hz : z < 8) (ho : es (b + p) ≠ 0) (hz0 : es (b + z) = 0) : hs_R es ky nm b p z es ky nm p p := by
  have ne : p ≠ z := by intro e; subst e; exact ho hz0
  refine ⟨⟨hp, hp, by unfold hs_d; omega⟩, fun q _ => ⟨rfl, rfl, rfl⟩, fun j _ => Iff.rfl, fun j _ _ => rfl, ho, ?_, ?_, ?_, ?_, ?_⟩
  · intro j q hj hq _ h1 h2
    exact o.1 j q hj hq h1 h2
  · intro j hj hne h1
    exfalso
    unfold hs_d at h1
    omega
  · intro i j hi hj _ _ h1 h2 h3
    exact o.2.1 i j hi hj h1 h2 h3
  · intro j hj hne ho
    exact ⟨j, hj, hne, rfl, rfl, rfl⟩
  · intro j hj hne ho
    exact ⟨j, hj, hne, rfl, rfl, rfl⟩
theorem hs_Rs {es0 ky0 nm0 es ky nm : Nat → Int32} {b p z hole slot : Nat} (hz : z < 8) (hz0 : es0 (b + z) = 0) (R : hs_R es0 ky0 nm0 b p z es ky nm hole slot) (ho : es (b + (slot + 1) % 8) ≠ 0) :
    (slot + 1) % 8 ≠ hole ∧ (slot + 1) % 8 ≠ z ∧ hs_d hole ((slot + 1) % 8) = hs_d hole slot + 1 ∧ hs_d hole ((slot + 1) % 8) < hs_d hole z ∧ hs_d slot z = hs_d ((slot + 1) % 8) z + 1 := by
  obtain ⟨⟨h1, h2, h3⟩, _, hocc, _⟩ := R
  have nz : (slot + 1) % 8 ≠ z := by
    intro e
    rw [e] at ho
    exact ho ((hocc z hz).mpr hz0)
  unfold hs_d at *
  omega
theorem hs_Rn {es0 ky0 nm0 es ky nm : Nat → Int32} {b p z hole slot : Nat} (hz : z < 8) (hz0 : es0 (b + z) = 0) (R : hs_R es0 ky0 nm0 b p z es ky nm hole slot) (ho : es (b + (slot + 1) % 8) ≠ 0)
    (hlt : hs_d (hs_h (ky (b + (slot + 1) % 8))) ((slot + 1) % 8) < hs_d hole ((slot + 1) % 8)) : hs_R es0 ky0 nm0 b p z es ky nm hole ((slot + 1) % 8) := by
  have q := hs_Rs hz hz0 R ho
  obtain ⟨⟨h1, h2, h3⟩, r2, r3, r4, r5, r6, r7, r8⟩ := R
  refine ⟨⟨h1, by omega, q.2.2.2.1⟩, r2, r3, r4, r5, r6, ?_, r8⟩
  intro j hj hne hle
  by_cases e : j = (slot + 1) % 8
  · rw [← e] at hlt q ho
    have hk := hs_lt (ky (b + j))
    generalize hs_h (ky (b + j)) = h at *
    clear r2 r3 r4 r5 r6 r7 r8
    unfold hs_d at *
    omega
  · refine r7 j hj hne ?_
    rw [q.2.2.1] at hle
    have : hs_d hole j ≠ hs_d hole slot + 1 := by
      intro w
      apply e
      have a := hs_dr h1 hj
      have c := hs_dr h1 h2
      unfold hs_d at *
      omega
    omega
theorem hs_Rm {es0 ky0 nm0 es ky nm : Nat → Int32} {b p z hole slot : Nat} (hz : z < 8) (hz0 : es0 (b + z) = 0) (R : hs_R es0 ky0 nm0 b p z es ky nm hole slot) (ho : es (b + (slot + 1) % 8) ≠ 0)
    (hge : hs_d hole ((slot + 1) % 8) ≤ hs_d (hs_h (ky (b + (slot + 1) % 8))) ((slot + 1) % 8)) :
    hs_R es0 ky0 nm0 b p z (upd es (b + hole) (es (b + (slot + 1) % 8))) (upd ky (b + hole) (ky (b + (slot + 1) % 8))) (upd nm (b + hole) (nm (b + (slot + 1) % 8))) ((slot + 1) % 8) ((slot + 1) % 8) := by
  have q := hs_Rs hz hz0 R ho
  obtain ⟨⟨h1, h2, h3⟩, r2, r3, r4, r5, r6, r7, r8, r9, r10⟩ := R
  have hs8 : (slot + 1) % 8 < 8 := by omega
  generalize (slot + 1) % 8 = s at *
  have nh : es (b + hole) ≠ 0 := fun e => r5 ((r3 hole h1).mp e)
  refine ⟨⟨hs8, hs8, ?_⟩, ?_, ?_, ?_, ?_, ?_, ?_, ?_, ?_, ?_⟩
  · unfold hs_d; omega
  · intro w hw
    have : w ≠ b + hole := by omega
    rw [pk_un this, pk_un this, pk_un this]
    exact r2 w hw
  · intro j hj
    simp only [hs_u1]
    by_cases e : j = hole
    · subst e
      rw [if_pos rfl]
      exact ⟨fun w => absurd w ho, fun w => absurd w r5⟩
    · rw [if_neg e]; exact r3 j hj
  · intro j hj h0
    simp only [hs_u1]
    by_cases e : j = hole
    · subst e; exact absurd h0 r5
    · rw [if_neg e]; exact r4 j hj h0
  · exact fun e => ho ((r3 s hs8).mpr e)
  · intro j w hj hw hne
    simp only [hs_u1]
    by_cases e : j = hole
    · simp only [if_pos e]
      intro _ hlt
      by_cases e2 : w = hole
      · simp only [if_pos e2]; exact ho
      · simp only [if_neg e2]
        refine r6 s w hs8 hw q.1 ho ?_
        subst e
        have hk := hs_lt (ky (b + s))
        generalize hs_h (ky (b + s)) = h at *
        clear r2 r3 r4 r5 r6 r7 r8 r9 r10
        unfold hs_d at *
        omega
    · simp only [if_neg e]
      intro hoj hlt
      by_cases e2 : w = hole
      · simp only [if_pos e2]; exact ho
      · simp only [if_neg e2]
        exact r6 j w hj hw e hoj hlt
  · intro j hj hne hle
    exfalso
    unfold hs_d at hle
    omega
  · intro i j hi hj hni hnj
    simp only [hs_u1]
    by_cases e1 : i = hole <;> by_cases e2 : j = hole
    · intro _ _ _; omega
    · simp only [if_pos e1, if_neg e2]
      intro _ hoj hk
      exact absurd (r8 s j hs8 hj q.1 e2 ho hoj hk) (fun w => hnj w.symm)
    · simp only [if_neg e1, if_pos e2]
      intro hoi _ hk
      exact absurd (r8 i s hi hs8 e1 q.1 hoi ho hk) hni
    · simp only [if_neg e1, if_neg e2]
      exact r8 i j hi hj e1 e2
  · intro j hj hne
    simp only [hs_u1]
    by_cases e : j = hole
    · simp only [if_pos e]
      intro _
      exact r9 s hs8 q.1 ho
    · simp only [if_neg e]
      intro hoj
      exact r9 j hj e hoj
  · intro j' hj' hne hoj
    obtain ⟨j, hj, hjn, a1, a2, a3⟩ := r10 j' hj' hne hoj
    by_cases e : j = s
    · refine ⟨hole, h1, fun w => q.1 w.symm, ?_⟩
      simp only [hs_u1, if_pos]
      subst e
      exact ⟨a1, a2, a3⟩
    · refine ⟨j, hj, e, ?_⟩
      simp only [hs_u1, if_neg hjn]
      exact ⟨a1, a2, a3⟩
theorem hs_Re {es0 ky0 nm0 es ky nm : Nat → Int32} {b p z hole slot : Nat} (o : hs_ok es0 ky0 nm0 b) (hp : p < 8) (hop : es0 (b + p) ≠ 0) (R : hs_R es0 ky0 nm0 b p z es ky nm hole slot) (hf : es (b + (slot + 1) % 8) = 0) :
    hs_ok (upd es (b + hole) 0) ky (upd nm (b + hole) 0) b ∧
    (∀ k', hs_l (upd es (b + hole) 0) ky (upd nm (b + hole) 0) b k' = if k' = ky0 (b + p) then (0, 0) else hs_l es0 ky0 nm0 b k') ∧
    hs_c (upd es (b + hole) 0) b + 1 = hs_c es0 b ∧
    (∀ q, (q < b ∨ b + 8 ≤ q) → upd es (b + hole) 0 q = es0 q ∧ ky q = ky0 q ∧ upd nm (b + hole) 0 q = nm0 q) := by
  obtain ⟨⟨h1, h2, h3⟩, r2, r3, r4, r5, r6, r7, r8, r9, r10⟩ := R
  have nh : es (b + hole) ≠ 0 := fun e => r5 ((r3 hole h1).mp e)
  have hD' : hs_D (upd es (b + hole) 0) ky b := by
    intro i j hi hj
    simp only [hs_u1]
    by_cases e1 : i = hole
    · simp only [if_pos e1]; intro w; exact absurd rfl w
    · by_cases e2 : j = hole
      · simp only [if_pos e2]; intro _ w; exact absurd rfl w
      · simp only [if_neg e1, if_neg e2]
        exact r8 i j hi hj e1 e2
  have hc' : hs_c (upd es (b + hole) 0) b + 1 = hs_c es0 b := by
    unfold hs_c
    refine (kc_set (j := hole) (by simp [hs_u1]) (by simpa using r5) h1 ?_).symm
    intro q hq ne
    simp only [hs_u1, if_neg ne]
    have := r3 q hq
    by_cases c : es0 (b + q) = 0
    · simp [c, this.mpr c]
    · have c' : ¬ es (b + q) = 0 := fun w => c (this.mp w)
      simp [c, c']
  refine ⟨⟨?_, hD', ?_, ?_⟩, ?_, hc', ?_⟩
  · intro j q hj hq
    simp only [hs_u1]
    by_cases e1 : j = hole
    · simp only [if_pos e1]; intro w; exact absurd rfl w
    · simp only [if_neg e1]
      intro hoj hlt
      have a := r6 j q hj hq e1 hoj hlt
      have b' : q ≠ hole := by
        intro e2
        subst e2
        by_cases c : hs_d q j ≤ hs_d q slot
        · exact r7 j hj e1 c hlt
        · have nj : (slot + 1) % 8 ≠ j := by
            intro w; rw [w] at hf; exact hoj hf
          have np : (slot + 1) % 8 ≠ q := by
            intro w; rw [w] at hf; exact nh hf
          refine r6 j ((slot + 1) % 8) hj (by omega) e1 hoj ?_ hf
          have hk := hs_lt (ky (b + j))
          generalize hs_h (ky (b + j)) = h at *
          clear r2 r3 r4 r5 r6 r7 r8 r9 r10 hf hD' hc'
          unfold hs_d at *
          omega
      simp only [if_neg b']
      exact a
  · intro j hj
    simp only [hs_u1]
    by_cases e : j = hole
    · simp only [if_pos e]; intro _; trivial
    · simp only [if_neg e]
      intro w
      rw [r4 j hj ((r3 j hj).mp w)]
      exact o.2.2.1 j hj ((r3 j hj).mp w)
  · have := o.2.2.2
    omega
  · intro k'
    by_cases e : k' = ky0 (b + p)
    · rw [if_pos e]
      refine hs_l_neg ?_
      intro j hj
      simp only [hs_u1]
      by_cases e1 : j = hole
      · simp only [if_pos e1]; intro w; exact absurd rfl w
      · simp only [if_neg e1]
        intro hoj hk
        obtain ⟨j', hj', ne', a1, a2, a3⟩ := r9 j hj e1 hoj
        refine ne' (o.2.1 j' p hj' hp (by rw [a1]; exact hoj) hop ?_)
        rw [a2, hk, e]
    · rw [if_neg e]
      rcases hs_l_cases es0 ky0 nm0 b k' with ⟨q, hq, hoq, hk, hl⟩ | ⟨hn, hl⟩
      · have ne : q ≠ p := by
          intro w
          subst w
          exact e hk.symm
        obtain ⟨j, hj, hjn, a1, a2, a3⟩ := r10 q hq ne hoq
        have w := hs_l_pos (nm := upd nm (b + hole) 0) (key := k') hD' hj (by simp only [hs_u1, if_neg hjn]; rw [a1]; exact hoq) (by rw [a2]; exact hk)
        rw [w, hl]
        simp only [hs_u1, if_neg hjn]
        rw [a1, a3]
      · rw [hl]
        refine hs_l_neg ?_
        intro j hj
        simp only [hs_u1]
        by_cases e1 : j = hole
        · simp only [if_pos e1]; intro w; exact absurd rfl w
        · simp only [if_neg e1]
          intro hoj hk
          obtain ⟨j', hj', ne', a1, a2, a3⟩ := r9 j hj e1 hoj
          exact hn j' hj' (by rw [a1]; exact hoj) (by rw [a2]; exact hk)
  · intro w hw
    have : w ≠ b + hole := by omega
    rw [pk_un this, pk_un this]
    exact r2 w hw
end
section
/-! the value of an expression, as a function on the reference's state -/
def xe_A (E : gx_E) : gy_A := (xe_n E, xe_k E, xe_x E, xe_y E, xe_w E)
def ev_k (A : gy_A) (e : Nat) : Nat := (ya_k A e).toNatClampNeg
def ev_cx (A : gy_A) (e : Nat) : Nat := (ya_x A e).toNatClampNeg
def ev_cy (A : gy_A) (e : Nat) : Nat := (ya_y A e).toNatClampNeg
def ev_w (A : gy_A) (e : Nat) : Nat := (ya_w A e).toNatClampNeg
def ev_pt (k : Nat) : Nat := if k ≤ 1 ∨ k = 11 then 0 else if k = 9 ∨ k = 12 then 1 else 2
def ar_1 (A : gy_A) (i : Nat) : Prop :=
  ya_k A i = nI (ev_k A i) ∧ ev_k A i ≤ 12 ∧ ya_w A i = nI (ev_w A i) ∧ 1 ≤ ev_w A i ∧ ev_w A i ≤ 7 ∧
  (ev_k A i = 1 → ya_x A i = nI (ev_cx A i) ∧ ev_cx A i < 6) ∧
  (1 ≤ ev_pt (ev_k A i) → ya_x A i = nI (ev_cx A i) ∧ ev_cx A i < i) ∧
  (ev_pt (ev_k A i) = 2 → ya_y A i = nI (ev_cy A i) ∧ ev_cy A i < i) ∧
  ev_w A i = 1 + (if 1 ≤ ev_pt (ev_k A i) then ev_w A (ev_cx A i) else 0) + (if ev_pt (ev_k A i) = 2 then ev_w A (ev_cy A i) else 0)
def ar_ok (A : gy_A) (c : Nat) : Prop := ya_n A = nI c ∧ c ≤ 30 ∧ ∀ i, i < c → ar_1 A i
def ev_tr (b : Bool) : Int32 := if b = true then 1 else 0
def ev_ntg (tk : Nat → Int32) : Nat → Nat → Nat
  | 0, t => t
  | k + 1, t => ev_ntg tk k (if tk k = 0 then k else t)
def ev_nt (T : gy_T) : Nat := ev_ntg (yt_t T) 24 23
def ev_nw (T : gy_T) : gy_T := (upd (yt_z T) (ev_nt T) 0, yt_k T, yt_s T, yt_n T, upd (yt_t T) (ev_nt T) 1, yt_e T)
def yf_ (keys : Nat → Int32) (key : Int32) : Nat → Nat → Int32
  | 0, _ => -1
  | c + 1, j => if keys j = key then nI j else yf_ keys key c (j + 1)
def yf_f (T : gy_T) (t : Nat) (key : Int32) : Int32 := yf_ (yt_k T) key (yt_z T t).toNatClampNeg (6 * t)
def yf_l (T : gy_T) (t : Nat) (key : Int32) : Int32 × Int32 :=
  if 0 ≤ yf_f T t key then (yt_s T (yf_f T t key).toNatClampNeg, yt_n T (yf_f T t key).toNatClampNeg) else (0, 0)
def ev_1 (T : gy_T) (k : Nat) (s p : Int32) : Bool × Int32 × Int32 :=
  if k = 9 then (true, ev_tr (decide (s = 0)), ev_tr (decide (s = 0)))
  else if s = 2 then (true, 1, yt_z T p.toNatClampNeg) else (false, 0, 0)
def ev_2 (T : gy_T) (k : Nat) (s p t q : Int32) : Bool × Int32 × Int32 :=
  if k = 6 then (true, ev_tr (decide (s = t ∧ (s = 0 ∨ p = q))), ev_tr (decide (s = t ∧ (s = 0 ∨ p = q))))
  else if k = 10 then (if s = 2 ∧ t = 1 then (true, yf_l T p.toNatClampNeg q) else (false, 0, 0))
  else if s = 1 ∧ t = 1 then
    (if k = 5 then (true, ev_tr (decide (p < q)), ev_tr (decide (p < q))) else (true, 1, if k = 2 then p + q else if k = 3 then p - q else p * q))
  else (false, 0, 0)
abbrev ev_R : Type := Bool × Int32 × Int32 × gy_T
def ev_ (A : gy_A) (V : gy_V) (e : Nat) (T : gy_T) : ev_R :=
  if ev_k A e = 0 then (true, 1, ya_x A e, T)
  else if ev_k A e = 1 then (true, yv_s V (ev_cx A e), yv_n V (ev_cx A e), T)
  else if ev_k A e = 11 then (true, 2, nI (ev_nt T), ev_nw T)
  else if hx : ev_cx A e < e then
    (fun r : ev_R =>
      if r.1 = false then r
      else if ev_pt (ev_k A e) = 1 then ((ev_1 r.2.2.2 (ev_k A e) r.2.1 r.2.2.1).1, (ev_1 r.2.2.2 (ev_k A e) r.2.1 r.2.2.1).2.1, (ev_1 r.2.2.2 (ev_k A e) r.2.1 r.2.2.1).2.2, r.2.2.2)
      else if hy : ev_cy A e < e then
        (if ev_k A e = 7 ∨ ev_k A e = 8 then
          (if decide (r.2.1 = 0) = decide (ev_k A e = 7) then r else ev_ A V (ev_cy A e) r.2.2.2)
        else
          (fun q : ev_R =>
            if q.1 = false then q
            else ((ev_2 q.2.2.2 (ev_k A e) r.2.1 r.2.2.1 q.2.1 q.2.2.1).1, (ev_2 q.2.2.2 (ev_k A e) r.2.1 r.2.2.1 q.2.1 q.2.2.1).2.1, (ev_2 q.2.2.2 (ev_k A e) r.2.1 r.2.2.1 q.2.1 q.2.2.1).2.2, q.2.2.2)) (ev_ A V (ev_cy A e) r.2.2.2))
      else (false, 0, 0, T)) (ev_ A V (ev_cx A e) T)
  else (false, 0, 0, T)
termination_by e
theorem ev_int {A : gy_A} {V : gy_V} {e : Nat} {T : gy_T} (h : ev_k A e = 0) : ev_ A V e T = (true, 1, ya_x A e, T) := by
  rw [ev_, if_pos h]
theorem ev_var {A : gy_A} {V : gy_V} {e : Nat} {T : gy_T} (h : ev_k A e = 1) : ev_ A V e T = (true, yv_s V (ev_cx A e), yv_n V (ev_cx A e), T) := by
  rw [ev_, if_neg (by omega), if_pos h]
theorem ev_new {A : gy_A} {V : gy_V} {e : Nat} {T : gy_T} (h : ev_k A e = 11) : ev_ A V e T = (true, 2, nI (ev_nt T), ev_nw T) := by
  rw [ev_, if_neg (by omega), if_neg (by omega), if_pos h]
theorem ev_sub {A : gy_A} {V : gy_V} {e : Nat} {T : gy_T} (h : 1 ≤ ev_pt (ev_k A e)) (hx : ev_cx A e < e) (hf : (ev_ A V (ev_cx A e) T).1 = false) : ev_ A V e T = ev_ A V (ev_cx A e) T := by
  unfold ev_pt at h
  have h1 : ¬ (ev_k A e ≤ 1 ∨ ev_k A e = 11) := fun z => by rw [if_pos z] at h; omega
  rw [ev_, if_neg (by omega), if_neg (by omega), if_neg (by omega), dif_pos hx]
  dsimp only
  rw [if_pos hf]
theorem ev_one {A : gy_A} {V : gy_V} {e : Nat} {T T1 : gy_T} {s p : Int32} (h : ev_pt (ev_k A e) = 1) (hx : ev_cx A e < e) (hr : ev_ A V (ev_cx A e) T = (true, s, p, T1)) :
    ev_ A V e T = ((ev_1 T1 (ev_k A e) s p).1, (ev_1 T1 (ev_k A e) s p).2.1, (ev_1 T1 (ev_k A e) s p).2.2, T1) := by
  have h' := h
  unfold ev_pt at h'
  have h1 : ¬ (ev_k A e ≤ 1 ∨ ev_k A e = 11) := fun z => by rw [if_pos z] at h'; omega
  rw [ev_, if_neg (by omega), if_neg (by omega), if_neg (by omega), dif_pos hx, hr]
  dsimp only
  rw [if_neg (by decide), if_pos h]
theorem ev_pt2 {k : Nat} (h : ev_pt k = 2) : ¬ (k ≤ 1 ∨ k = 11) ∧ ¬ (k = 9 ∨ k = 12) := by
  unfold ev_pt at h
  by_cases a : k ≤ 1 ∨ k = 11
  · rw [if_pos a] at h; omega
  · rw [if_neg a] at h
    by_cases b : k = 9 ∨ k = 12
    · rw [if_pos b] at h; omega
    · exact ⟨a, b⟩
theorem ev_cs {A : gy_A} {V : gy_V} {e : Nat} {T T1 : gy_T} {s p : Int32} (h : ev_k A e = 7 ∨ ev_k A e = 8) (hx : ev_cx A e < e) (hy : ev_cy A e < e) (hr : ev_ A V (ev_cx A e) T = (true, s, p, T1)) :
    ev_ A V e T = if decide (s = 0) = decide (ev_k A e = 7) then (true, s, p, T1) else ev_ A V (ev_cy A e) T1 := by
  have h2 : ev_pt (ev_k A e) = 2 := by unfold ev_pt; rw [if_neg (by omega), if_neg (by omega)]
  rw [ev_, if_neg (by omega), if_neg (by omega), if_neg (by omega), dif_pos hx, hr]
  dsimp only
  rw [if_neg (by decide), if_neg (by omega), dif_pos hy, if_pos h]
theorem ev_two {A : gy_A} {V : gy_V} {e : Nat} {T T1 : gy_T} {s p : Int32} (h : ev_pt (ev_k A e) = 2) (hn : ¬ (ev_k A e = 7 ∨ ev_k A e = 8)) (hx : ev_cx A e < e) (hy : ev_cy A e < e) (hr : ev_ A V (ev_cx A e) T = (true, s, p, T1)) :
    ev_ A V e T = if (ev_ A V (ev_cy A e) T1).1 = false then ev_ A V (ev_cy A e) T1 else
      ((ev_2 (ev_ A V (ev_cy A e) T1).2.2.2 (ev_k A e) s p (ev_ A V (ev_cy A e) T1).2.1 (ev_ A V (ev_cy A e) T1).2.2.1).1, (ev_2 (ev_ A V (ev_cy A e) T1).2.2.2 (ev_k A e) s p (ev_ A V (ev_cy A e) T1).2.1 (ev_ A V (ev_cy A e) T1).2.2.1).2.1, (ev_2 (ev_ A V (ev_cy A e) T1).2.2.2 (ev_k A e) s p (ev_ A V (ev_cy A e) T1).2.1 (ev_ A V (ev_cy A e) T1).2.2.1).2.2, (ev_ A V (ev_cy A e) T1).2.2.2) := by
  have h2 := ev_pt2 h
  rw [ev_, if_neg (by omega), if_neg (by omega), if_neg (by omega), dif_pos hx, hr]
  dsimp only
  rw [if_neg (by decide), if_neg (by omega), dif_pos hy, if_neg hn]
theorem ev_two1 {A : gy_A} {V : gy_V} {e : Nat} {T T1 T2 : gy_T} {s p t q : Int32} (h : ev_pt (ev_k A e) = 2) (hn : ¬ (ev_k A e = 7 ∨ ev_k A e = 8)) (hx : ev_cx A e < e) (hy : ev_cy A e < e) (hr : ev_ A V (ev_cx A e) T = (true, s, p, T1)) (hq : ev_ A V (ev_cy A e) T1 = (true, t, q, T2)) :
    ev_ A V e T = ((ev_2 T2 (ev_k A e) s p t q).1, (ev_2 T2 (ev_k A e) s p t q).2.1, (ev_2 T2 (ev_k A e) s p t q).2.2, T2) := by
  rw [ev_two h hn hx hy hr, hq]
  dsimp only
  rw [if_neg (by decide)]
theorem ev_two0 {A : gy_A} {V : gy_V} {e : Nat} {T T1 : gy_T} {s p : Int32} (h : ev_pt (ev_k A e) = 2) (hn : ¬ (ev_k A e = 7 ∨ ev_k A e = 8)) (hx : ev_cx A e < e) (hy : ev_cy A e < e) (hr : ev_ A V (ev_cx A e) T = (true, s, p, T1)) (hf : (ev_ A V (ev_cy A e) T1).1 = false) :
    ev_ A V e T = ev_ A V (ev_cy A e) T1 := by
  rw [ev_two h hn hx hy hr, if_pos hf]
theorem ev_ok {r : ev_R} (h : ¬ r.1 = false) : r = (true, r.2.1, r.2.2.1, r.2.2.2) := by
  obtain ⟨b, s, n, T⟩ := r
  cases b
  · exact absurd rfl h
  · rfl
end
section
/-! what is known beforehand, and the other expression that gives the same -/
def kn_a (E : gx_E) (i : Nat) : Nat := (xe_a E i).toNatClampNeg
def kn_2 (E : gx_E) (i : Nat) : Prop :=
  xe_s E (ev_cx (xe_A E) i) ≠ 0 ∧ xe_s E (ev_cy (xe_A E) i) ≠ 0 ∧
  (ev_k (xe_A E) i = 6 → (xe_s E (ev_cx (xe_A E) i) = xe_s E (ev_cy (xe_A E) i) ∧ xe_i E (ev_cx (xe_A E) i) = xe_i E (ev_cy (xe_A E) i) → xe_s E i = 1 ∧ xe_i E i = 1) ∧ (¬ (xe_s E (ev_cx (xe_A E) i) = xe_s E (ev_cy (xe_A E) i) ∧ xe_i E (ev_cx (xe_A E) i) = xe_i E (ev_cy (xe_A E) i)) → xe_s E i = 2)) ∧
  (ev_k (xe_A E) i ≠ 6 → xe_s E (ev_cx (xe_A E) i) = 1 ∧ xe_s E (ev_cy (xe_A E) i) = 1) ∧
  (ev_k (xe_A E) i = 5 → (xe_i E (ev_cx (xe_A E) i) < xe_i E (ev_cy (xe_A E) i) → xe_s E i = 1 ∧ xe_i E i = 1) ∧ (¬ xe_i E (ev_cx (xe_A E) i) < xe_i E (ev_cy (xe_A E) i) → xe_s E i = 2)) ∧
  (ev_k (xe_A E) i < 5 → xe_s E i = 1 ∧ xe_i E i = if ev_k (xe_A E) i = 2 then xe_i E (ev_cx (xe_A E) i) + xe_i E (ev_cy (xe_A E) i) else if ev_k (xe_A E) i = 3 then xe_i E (ev_cx (xe_A E) i) - xe_i E (ev_cy (xe_A E) i) else xe_i E (ev_cx (xe_A E) i) * xe_i E (ev_cy (xe_A E) i))
def kn_1 (E : gx_E) (i : Nat) : Prop :=
  ((xe_s E i = 0 ∨ xe_s E i = 1 ∨ xe_s E i = 2) ∧ (xe_s E i = 2 → xe_i E i = 0) ∧ xe_a E i = nI (kn_a E i) ∧ kn_a E i ≤ i) ∧
  (ev_k (xe_A E) i = 0 → xe_s E i = 1 ∧ xe_i E i = xe_x E i ∧ kn_a E i = i) ∧
  (ev_k (xe_A E) i = 1 ∨ 10 ≤ ev_k (xe_A E) i → xe_s E i = 0 ∧ kn_a E i = i) ∧
  (ev_k (xe_A E) i = 9 → kn_a E i = i ∧ (xe_s E (ev_cx (xe_A E) i) = 0 → xe_s E i = 0) ∧ (xe_s E (ev_cx (xe_A E) i) = 2 → xe_s E i = 1 ∧ xe_i E i = 1) ∧ (xe_s E (ev_cx (xe_A E) i) = 1 → xe_s E i = 2)) ∧
  (ev_k (xe_A E) i = 7 ∨ ev_k (xe_A E) i = 8 → (xe_s E (ev_cx (xe_A E) i) = 0 → xe_s E i = 0 ∧ kn_a E i = i) ∧
    (xe_s E (ev_cx (xe_A E) i) ≠ 0 → ∃ t, t = (if decide (xe_s E (ev_cx (xe_A E) i) = 2) = decide (ev_k (xe_A E) i = 8) then ev_cy (xe_A E) i else ev_cx (xe_A E) i) ∧ kn_a E i = kn_a E t ∧ xe_s E i = xe_s E t ∧ xe_i E i = xe_i E t)) ∧
  (2 ≤ ev_k (xe_A E) i → ev_k (xe_A E) i ≤ 6 → kn_a E i = i ∧ (xe_s E i ≠ 0 → kn_2 E i))
def kn_ok (E : gx_E) (c : Nat) : Prop := ∀ i, i < c → kn_1 E i
/-- what the above means -/
def kn_m (E : gx_E) (i : Nat) : Prop :=
  (xe_s E i ≠ 0 → ∀ V T, ev_ (xe_A E) V i T = (true, if xe_s E i = 1 then 1 else 0, xe_i E i, T)) ∧
  (kn_a E (kn_a E i) = kn_a E i ∧ xe_s E (kn_a E i) = xe_s E i ∧ xe_i E (kn_a E i) = xe_i E i ∧ ev_w (xe_A E) (kn_a E i) ≤ ev_w (xe_A E) i) ∧
  (∀ V T, ev_ (xe_A E) V i T = ev_ (xe_A E) V (kn_a E i) T)
theorem kn_self {E : gx_E} {i : Nat} (h : kn_a E i = i) (hv : xe_s E i ≠ 0 → ∀ V T, ev_ (xe_A E) V i T = (true, if xe_s E i = 1 then 1 else 0, xe_i E i, T)) : kn_m E i := by
  refine ⟨hv, ?_, ?_⟩
  · rw [h, h]
    exact ⟨rfl, rfl, rfl, Nat.le_refl _⟩
  · intro V T
    rw [h]
theorem kn_tr1 : ev_tr true = 1 := rfl
theorem kn_tr0 : ev_tr false = 0 := rfl
theorem kn_6 {sx sy nx ny : Int32} (hx : sx = 0 ∨ sx = 1 ∨ sx = 2) (hy : sy = 0 ∨ sy = 1 ∨ sy = 2) (hx0 : sx ≠ 0) (hy0 : sy ≠ 0) (hx2 : sx = 2 → nx = 0) (hy2 : sy = 2 → ny = 0) :
    ((if sx = 1 then (1 : Int32) else 0) = (if sy = 1 then 1 else 0) ∧ ((if sx = 1 then (1 : Int32) else 0) = 0 ∨ nx = ny)) ↔ (sx = sy ∧ nx = ny) := by
  rcases hx with h | h | h
  · exact absurd h hx0
  · rcases hy with g | g | g
    · exact absurd g hy0
    · subst h g; simp
    · subst h g; simp
  · rcases hy with g | g | g
    · exact absurd g hy0
    · subst h g; simp
    · have a := hx2 h
      have b := hy2 g
      subst h g a b; simp
theorem kn_ev2 {E : gx_E} {i c : Nat} (hA : ar_ok (xe_A E) c) (hK : kn_ok E c) (hi : i < c) (ih : ∀ j, j < i → kn_m E j) (h2 : 2 ≤ ev_k (xe_A E) i) (h6 : ev_k (xe_A E) i ≤ 6) : kn_m E i := by
  have hk := hK i hi
  obtain ⟨ha, hv⟩ := hk.2.2.2.2.2 h2 h6
  have ha1 := hA.2.2 i hi
  have hpt : ev_pt (ev_k (xe_A E) i) = 2 := by unfold ev_pt; rw [if_neg (by omega), if_neg (by omega)]
  obtain ⟨_, _, _, _, _, _, hx, hy, _⟩ := ha1
  have hx := hx (by omega)
  have hy := hy hpt
  refine kn_self ha (fun hs V T => ?_)
  obtain ⟨q1, q2, q6, q1', q5, q4⟩ := hv hs
  have ex := (ih _ hx.2).1 q1 V T
  have ey := (ih _ hy.2).1 q2 V T
  rw [ev_two1 hpt (by omega) hx.2 hy.2 ex ey]
  have kx := (hK _ (Nat.lt_trans hx.2 hi)).1
  have ky := (hK _ (Nat.lt_trans hy.2 hi)).1
  unfold ev_2
  by_cases e6 : ev_k (xe_A E) i = 6
  · simp only [if_pos e6]
    have t := kn_6 kx.1 ky.1 q1 q2 kx.2.1 ky.2.1
    by_cases c6 : xe_s E (ev_cx (xe_A E) i) = xe_s E (ev_cy (xe_A E) i) ∧ xe_i E (ev_cx (xe_A E) i) = xe_i E (ev_cy (xe_A E) i)
    · have r := (q6 e6).1 c6
      rw [decide_eq_true (t.mpr c6), r.1, r.2, kn_tr1]
      simp
    · have r := (q6 e6).2 c6
      rw [decide_eq_false (fun z => c6 (t.mp z)), hk.1.2.1 r, r, kn_tr0]
      simp
  · obtain ⟨s1, s2⟩ := q1' e6
    rw [if_neg e6, if_neg (by omega), if_pos s1, if_pos s2, if_pos ⟨rfl, rfl⟩]
    by_cases e5 : ev_k (xe_A E) i = 5
    · simp only [if_pos e5]
      by_cases c5 : xe_i E (ev_cx (xe_A E) i) < xe_i E (ev_cy (xe_A E) i)
      · have r := (q5 e5).1 c5
        rw [decide_eq_true c5, r.1, r.2, kn_tr1]
        simp
      · have r := (q5 e5).2 c5
        rw [decide_eq_false c5, hk.1.2.1 r, r, kn_tr0]
        simp
    · simp only [if_neg e5]
      have r := q4 (by omega)
      rw [r.2, r.1]
      simp
theorem kn_ev {E : gx_E} {c : Nat} (hA : ar_ok (xe_A E) c) (hK : kn_ok E c) : ∀ i, i < c → kn_m E i := by
  intro i
  induction i using Nat.strongRecOn with
  | ind i ih =>
    intro hi
    have ih' : ∀ j, j < i → kn_m E j := fun j hj => ih j hj (by omega)
    have hk := hK i hi
    have ha1 := hA.2.2 i hi
    have k12 := ha1.2.1
    have cs : ev_k (xe_A E) i = 0 ∨ (ev_k (xe_A E) i = 1 ∨ 10 ≤ ev_k (xe_A E) i) ∨ ev_k (xe_A E) i = 9 ∨ (ev_k (xe_A E) i = 7 ∨ ev_k (xe_A E) i = 8) ∨ (2 ≤ ev_k (xe_A E) i ∧ ev_k (xe_A E) i ≤ 6) := by omega
    rcases cs with k0 | k1 | k9 | k7 | k2
    · obtain ⟨r1, r2, r3⟩ := hk.2.1 k0
      refine kn_self r3 (fun _ V T => ?_)
      rw [ev_int k0, r1, r2]
      rfl
    · obtain ⟨r1, r2⟩ := hk.2.2.1 k1
      exact kn_self r2 (fun z => absurd r1 z)
    · obtain ⟨r1, r2, r3, r4⟩ := hk.2.2.2.1 k9
      have hpt : ev_pt (ev_k (xe_A E) i) = 1 := by unfold ev_pt; rw [if_neg (by omega), if_pos (by omega)]
      have hx := ha1.2.2.2.2.2.2.1 (by omega)
      refine kn_self r1 (fun hs V T => ?_)
      have kx := (hK _ (Nat.lt_trans hx.2 hi)).1.1
      have hx0 : xe_s E (ev_cx (xe_A E) i) ≠ 0 := fun z => hs (r2 z)
      have ex := (ih' _ hx.2).1 hx0 V T
      rw [ev_one hpt hx.2 ex]
      unfold ev_1
      simp only [if_pos k9]
      rcases kx with z | z | z
      · exact absurd z hx0
      · have r := r4 z
        rw [if_pos z, hk.1.2.1 r, r]
        simp [ev_tr]
      · have r := r3 z
        rw [z, r.1, r.2]
        simp [ev_tr]
    · obtain ⟨r1, r2⟩ := hk.2.2.2.2.1 k7
      have hpt : ev_pt (ev_k (xe_A E) i) = 2 := by unfold ev_pt; rw [if_neg (by omega), if_neg (by omega)]
      have hx := ha1.2.2.2.2.2.2.1 (by omega)
      have hy := ha1.2.2.2.2.2.2.2.1 hpt
      have hw := ha1.2.2.2.2.2.2.2.2
      rw [if_pos (by omega), if_pos hpt] at hw
      by_cases hx0 : xe_s E (ev_cx (xe_A E) i) = 0
      · have r := r1 hx0
        exact kn_self r.2 (fun z => absurd r.1 z)
      · obtain ⟨t, et, a1, a2, a3⟩ := r2 hx0
        have key : ∀ V T, ev_ (xe_A E) V i T = ev_ (xe_A E) V t T := by
          intro V T
          have ex := (ih' _ hx.2).1 hx0 V T
          rw [ev_cs k7 hx.2 hy.2 ex]
          have kx := (hK _ (Nat.lt_trans hx.2 hi)).1.1
          rcases k7 with k | k <;> rcases kx with z | z | z
          · exact absurd z hx0
          · rw [z, k] at et
            have et : t = ev_cy (xe_A E) i := et.trans (if_pos (by decide))
            rw [z, k, et]
            exact if_neg (by decide)
          · rw [z, k] at et
            have et : t = ev_cx (xe_A E) i := et.trans (if_neg (by decide))
            rw [et, ex, z, k]
            exact if_pos (by decide)
          · exact absurd z hx0
          · rw [z, k] at et
            have et : t = ev_cx (xe_A E) i := et.trans (if_neg (by decide))
            rw [et, ex, z, k]
            exact if_pos (by decide)
          · rw [z, k] at et
            have et : t = ev_cy (xe_A E) i := et.trans (if_pos (by decide))
            rw [z, k, et]
            exact if_neg (by decide)
        have tlt : t < i ∧ ev_w (xe_A E) t ≤ ev_w (xe_A E) i := by
          rw [et]
          split
          · exact ⟨hy.2, by omega⟩
          · exact ⟨hx.2, by omega⟩
        have it := ih' t tlt.1
        refine ⟨?_, ?_, ?_⟩
        · intro hs V T
          rw [key V T, a2, a3]
          exact it.1 (by rw [← a2]; exact hs) V T
        · rw [a1, a2, a3]
          exact ⟨it.2.1.1, it.2.1.2.1, it.2.1.2.2.1, Nat.le_trans it.2.1.2.2.2 tlt.2⟩
        · intro V T
          rw [key V T, a1]
          exact it.2.2 V T
    · exact kn_ev2 hA hK hi ih' k2.1 k2.2
end
section
/-! the reference's tables while a statement is worked out -/
def yg_v (T : gy_T) (s n : Int32) : Prop := s = 0 ∨ s = 1 ∨ (s = 2 ∧ ∃ t, t < 24 ∧ n = nI t ∧ yt_t T t ≠ 0)
def yg_t (T : gy_T) (t : Nat) : Prop := ∃ z, z ≤ 6 ∧ yt_z T t = nI z ∧ ∀ j, j < z → yt_s T (6 * t + j) ≠ 0 ∧ yg_v T (yt_s T (6 * t + j)) (yt_n T (6 * t + j))
def yg_ (V : gy_V) (T : gy_T) : Prop := (∀ r, r < 6 → yg_v T (yv_s V r) (yv_n V r)) ∧ ∀ t, t < 24 → yt_t T t ≠ 0 → yg_t T t
def yg_c (T : gy_T) : Nat := kc_n (fun t => decide (yt_t T t ≠ 0)) 24
def yg_le (T T' : gy_T) : Prop := yt_k T' = yt_k T ∧ yt_s T' = yt_s T ∧ yt_n T' = yt_n T ∧ yt_e T' = yt_e T ∧ ∀ t, t < 24 → yt_t T t ≠ 0 → yt_t T' t ≠ 0 ∧ yt_z T' t = yt_z T t
theorem yg_le_rf (T : gy_T) : yg_le T T := ⟨rfl, rfl, rfl, rfl, fun _ _ h => ⟨h, rfl⟩⟩
theorem yg_le_tr {T T1 T2 : gy_T} (a : yg_le T T1) (b : yg_le T1 T2) : yg_le T T2 :=
  ⟨b.1.trans a.1, b.2.1.trans a.2.1, b.2.2.1.trans a.2.2.1, b.2.2.2.1.trans a.2.2.2.1, fun t ht h => ⟨(b.2.2.2.2 t ht (a.2.2.2.2 t ht h).1).1, (b.2.2.2.2 t ht (a.2.2.2.2 t ht h).1).2.trans (a.2.2.2.2 t ht h).2⟩⟩
theorem yg_v_le {T T' : gy_T} (h : yg_le T T') {s n : Int32} (v : yg_v T s n) : yg_v T' s n := by
  rcases v with a | a | ⟨a, t, ht, e, k⟩
  · exact Or.inl a
  · exact Or.inr (Or.inl a)
  · exact Or.inr (Or.inr ⟨a, t, ht, e, (h.2.2.2.2 t ht k).1⟩)
theorem yg_ntg0 {tk : Nat → Int32} : ∀ (k t : Nat), (∀ j, j < k → tk j ≠ 0) → ev_ntg tk k t = t
  | 0, _, _ => rfl
  | k + 1, t, h => by
    simp only [ev_ntg]
    rw [if_neg (h k (by omega))]
    exact yg_ntg0 k t (fun j hj => h j (by omega))
theorem yg_ntg {tk : Nat → Int32} : ∀ (k t : Nat), (∃ j, j < k ∧ tk j = 0) → ev_ntg tk k t < k ∧ tk (ev_ntg tk k t) = 0
  | 0, _, h => by obtain ⟨j, hj, _⟩ := h; omega
  | k + 1, t, h => by
    simp only [ev_ntg]
    by_cases e : ∃ j, j < k ∧ tk j = 0
    · have := yg_ntg k (if tk k = 0 then k else t) e
      exact ⟨by omega, this.2⟩
    · have h0 : tk k = 0 := by
        obtain ⟨j, hj, z⟩ := h
        by_cases q : j = k
        · rw [← q]; exact z
        · exact absurd ⟨j, by omega, z⟩ e
      rw [if_pos h0, yg_ntg0 k k (fun j hj z => e ⟨j, hj, z⟩)]
      exact ⟨by omega, h0⟩
theorem yg_nt {T : gy_T} (h : yg_c T < 24) : ev_nt T < 24 ∧ yt_t T (ev_nt T) = 0 := by
  obtain ⟨j, hj, e⟩ := kc_free h
  exact yg_ntg 24 23 ⟨j, hj, by simpa using e⟩
theorem yg_nw_le {T : gy_T} (h : yg_c T < 24) : yg_le T (ev_nw T) := by
  obtain ⟨h1, h2⟩ := yg_nt h
  refine ⟨rfl, rfl, rfl, rfl, fun t ht k => ?_⟩
  have ne : t ≠ ev_nt T := fun e => k (by rw [e]; exact h2)
  exact ⟨by show upd _ _ _ _ ≠ 0; rw [pk_un ne]; exact k, pk_un ne⟩
theorem yg_nw_t {T : gy_T} : yt_t (ev_nw T) (ev_nt T) = 1 := pk_us
theorem yg_nw_z {T : gy_T} : yt_z (ev_nw T) (ev_nt T) = 0 := pk_us
theorem yg_nw {V : gy_V} {T : gy_T} (g : yg_ V T) (h : yg_c T < 24) : yg_ V (ev_nw T) ∧ yg_c (ev_nw T) = yg_c T + 1 ∧ yg_v (ev_nw T) 2 (nI (ev_nt T)) := by
  have hl := yg_nw_le h
  obtain ⟨h1, h2⟩ := yg_nt h
  refine ⟨⟨fun r hr => yg_v_le hl (g.1 r hr), ?_⟩, ?_, ?_⟩
  · intro t ht k
    by_cases e : t = ev_nt T
    · refine ⟨0, by omega, ?_, fun j hj => by omega⟩
      rw [e]
      exact yg_nw_z
    · have k' : yt_t T t ≠ 0 := by
        have : yt_t (ev_nw T) t = yt_t T t := pk_un e
        rw [← this]; exact k
      obtain ⟨z, hz, ez, hj⟩ := g.2 t ht k'
      refine ⟨z, hz, ?_, fun j hjz => ⟨(hj j hjz).1, yg_v_le hl (hj j hjz).2⟩⟩
      rw [(hl.2.2.2.2 t ht k').2]
      exact ez
  · refine kc_set (j := ev_nt T) ?_ ?_ h1 ?_
    · simp [h2]
    · rw [yg_nw_t]; decide
    · intro i _ ne
      have : yt_t (ev_nw T) i = yt_t T i := pk_un ne
      rw [this]
  · exact Or.inr (Or.inr ⟨rfl, ev_nt T, h1, rfl, by rw [yg_nw_t]; decide⟩)
/-! finding a key -/
theorem yf_spec {keys : Nat → Int32} {key : Int32} : ∀ (c j : Nat), j + c < 2 ^ 31 → (∃ i, j ≤ i ∧ i < j + c ∧ keys i = key ∧ yf_ keys key c j = nI i ∧ ∀ i', j ≤ i' → i' < i → keys i' ≠ key) ∨ (yf_ keys key c j = -1 ∧ ∀ i, j ≤ i → i < j + c → keys i ≠ key)
  | 0, j, _ => Or.inr ⟨rfl, fun i _ _ => by omega⟩
  | c + 1, j, h => by
    by_cases e : keys j = key
    · refine Or.inl ⟨j, by omega, by omega, e, ?_, fun i' _ _ => by omega⟩
      simp only [yf_, if_pos e]
    · simp only [yf_, if_neg e]
      rcases yf_spec (keys := keys) (key := key) c (j + 1) (by omega) with ⟨i, h1, h2, h3, h4, h5⟩ | ⟨h1, h2⟩
      · refine Or.inl ⟨i, by omega, by omega, h3, h4, fun i' a b => ?_⟩
        by_cases q : i' = j
        · rw [q]; exact e
        · exact h5 i' (by omega) b
      · refine Or.inr ⟨h1, fun i a b => ?_⟩
        by_cases q : i = j
        · rw [q]; exact e
        · exact h2 i (by omega) (by omega)
theorem yf_neg1 : ¬ (0 : Int32) ≤ -1 := by decide
theorem yf_l_cases {T : gy_T} {t z : Nat} (hz : yt_z T t = nI z) (ht : t < 24) (h6 : z ≤ 6) (key : Int32) :
    (∃ j, j < z ∧ yt_k T (6 * t + j) = key ∧ yf_f T t key = nI (6 * t + j) ∧ yf_l T t key = (yt_s T (6 * t + j), yt_n T (6 * t + j)) ∧ ∀ j', j' < j → yt_k T (6 * t + j') ≠ key) ∨
    (yf_f T t key = -1 ∧ yf_l T t key = (0, 0) ∧ ∀ j, j < z → yt_k T (6 * t + j) ≠ key) := by
  have e : yf_f T t key = yf_ (yt_k T) key z (6 * t) := by unfold yf_f; rw [hz, nI_clamp (by omega)]
  rcases yf_spec (keys := yt_k T) (key := key) z (6 * t) (by omega) with ⟨i, h1, h2, h3, h4, h5⟩ | ⟨h1, h2⟩
  · obtain ⟨j, rfl⟩ : ∃ j, i = 6 * t + j := ⟨i - 6 * t, by omega⟩
    refine Or.inl ⟨j, by omega, h3, e.trans h4, ?_, fun j' hj' => h5 _ (by omega) (by omega)⟩
    unfold yf_l
    rw [e, h4, if_pos (nI_pos' (by omega)), nI_clamp (by omega)]
  · refine Or.inr ⟨e.trans h1, ?_, fun j hj => h2 _ (by omega) (by omega)⟩
    unfold yf_l
    rw [e, h1, if_neg yf_neg1]
theorem yg_l {T : gy_T} {t : Nat} (h : yg_t T t) (ht : t < 24) (key : Int32) : yg_v T (yf_l T t key).1 (yf_l T t key).2 := by
  obtain ⟨z, hz, ez, hj⟩ := h
  rcases yf_l_cases ez ht hz key with ⟨j, h1, _, _, h4, _⟩ | ⟨_, h2, _⟩
  · rw [h4]; exact (hj j h1).2
  · rw [h2]; exact Or.inl rfl
theorem yg_tr (T : gy_T) (b : Bool) : yg_v T (ev_tr b) (ev_tr b) := by
  cases b
  · exact Or.inl rfl
  · exact Or.inr (Or.inl rfl)
theorem yg_1 {T : gy_T} {k : Nat} {s p : Int32} (h : (ev_1 T k s p).1 = true) : yg_v T (ev_1 T k s p).2.1 (ev_1 T k s p).2.2 := by
  unfold ev_1 at h ⊢
  by_cases a : k = 9
  · simp only [if_pos a]; exact yg_tr T _
  · simp only [if_neg a] at h ⊢
    by_cases b : s = 2
    · simp only [if_pos b]; exact Or.inr (Or.inl rfl)
    · simp only [if_neg b] at h; exact absurd h (by decide)
theorem yg_2 {V : gy_V} {T : gy_T} {k : Nat} {s p t q : Int32} (g : yg_ V T) (hv : yg_v T s p) (h : (ev_2 T k s p t q).1 = true) : yg_v T (ev_2 T k s p t q).2.1 (ev_2 T k s p t q).2.2 := by
  unfold ev_2 at h ⊢
  by_cases a : k = 6
  · simp only [if_pos a]; exact yg_tr T _
  · simp only [if_neg a] at h ⊢
    by_cases b : k = 10
    · simp only [if_pos b] at h ⊢
      by_cases c : s = 2 ∧ t = 1
      · simp only [if_pos c]
        rcases hv with w | w | ⟨w, t', ht, e, kk⟩
        · exact absurd (c.1.symm.trans w) (by decide)
        · exact absurd (c.1.symm.trans w) (by decide)
        · rw [e, nI_clamp (by omega)]
          exact yg_l (g.2 t' ht kk) ht q
      · simp only [if_neg c] at h; exact absurd h (by decide)
    · simp only [if_neg b] at h ⊢
      by_cases c : s = 1 ∧ t = 1
      · simp only [if_pos c] at h ⊢
        by_cases d : k = 5
        · simp only [if_pos d]; exact yg_tr T _
        · simp only [if_neg d]; exact Or.inr (Or.inl rfl)
      · simp only [if_neg c] at h; exact absurd h (by decide)
def yg_r (V : gy_V) (T : gy_T) (w : Nat) (r : ev_R) : Prop := yg_ V r.2.2.2 ∧ yg_le T r.2.2.2 ∧ yg_c r.2.2.2 ≤ yg_c T + (w + 1) / 2 ∧ (r.1 = true → yg_v r.2.2.2 r.2.1 r.2.2.1)
theorem yg_same {V : gy_V} {T : gy_T} {w : Nat} {b : Bool} {s n : Int32} (g : yg_ V T) (h : b = true → yg_v T s n) : yg_r V T w (b, s, n, T) := ⟨g, yg_le_rf T, by show yg_c T ≤ _; omega, h⟩
theorem ev_pt1 {k : Nat} (h : ev_pt k = 1) : ¬ (k ≤ 1 ∨ k = 11) ∧ (k = 9 ∨ k = 12) := by
  unfold ev_pt at h
  by_cases a : k ≤ 1 ∨ k = 11
  · rw [if_pos a] at h; omega
  · rw [if_neg a] at h
    by_cases b : k = 9 ∨ k = 12
    · exact ⟨a, b⟩
    · rw [if_neg b] at h; omega
theorem ev_pt0 {k : Nat} (h : ev_pt k = 0) : k = 0 ∨ k = 1 ∨ k = 11 := by
  unfold ev_pt at h
  by_cases a : k ≤ 1 ∨ k = 11
  · omega
  · rw [if_neg a] at h
    by_cases b : k = 9 ∨ k = 12
    · rw [if_pos b] at h; omega
    · rw [if_neg b] at h; omega
theorem ev_ptc (k : Nat) : ev_pt k = 0 ∨ ev_pt k = 1 ∨ ev_pt k = 2 := by
  unfold ev_pt
  split
  · exact Or.inl rfl
  · split
    · exact Or.inr (Or.inl rfl)
    · exact Or.inr (Or.inr rfl)
theorem ev_yg {A : gy_A} {V : gy_V} {c : Nat} (hA : ar_ok A c) : ∀ e, e < c → ∀ T, yg_ V T → yg_c T + (ev_w A e + 1) / 2 ≤ 24 → yg_r V T (ev_w A e) (ev_ A V e T) := by
  intro e
  induction e using Nat.strongRecOn with
  | ind e ih =>
    intro he T g hc
    obtain ⟨_, k12, _, w1, w7, hv, hx, hy, hw⟩ := hA.2.2 e he
    rcases ev_ptc (ev_k A e) with p0 | p1 | p2
    · rcases ev_pt0 p0 with k | k | k
      · rw [ev_int k]
        exact yg_same g (fun _ => Or.inr (Or.inl rfl))
      · rw [ev_var k]
        exact yg_same g (fun _ => g.1 _ (hv k).2)
      · rw [ev_new k]
        obtain ⟨a, b, d⟩ := yg_nw g (by omega)
        exact ⟨a, yg_nw_le (by omega), by show yg_c (ev_nw T) ≤ _; omega, fun _ => d⟩
    · have hx := hx (by omega)
      rw [if_pos (by omega), if_neg (by omega)] at hw
      have ix := ih _ hx.2 (by omega) T g (by omega)
      obtain ⟨i1, i2, i3, i4⟩ := ix
      by_cases f : (ev_ A V (ev_cx A e) T).1 = false
      · rw [ev_sub (by omega) hx.2 f]
        exact ⟨i1, i2, by omega, i4⟩
      · rw [ev_one p1 hx.2 (ev_ok f)]
        exact ⟨i1, i2, by show yg_c (ev_ A V (ev_cx A e) T).2.2.2 ≤ _; omega, fun h => yg_1 h⟩
    · have hx := hx (by omega)
      have hy := hy p2
      rw [if_pos (by omega), if_pos p2] at hw
      obtain ⟨i1, i2, i3, i4⟩ := ih _ hx.2 (by omega) T g (by omega)
      by_cases f : (ev_ A V (ev_cx A e) T).1 = false
      · rw [ev_sub (by omega) hx.2 f]
        exact ⟨i1, i2, by omega, i4⟩
      · have ex := ev_ok f
        obtain ⟨j1, j2, j3, j4⟩ := ih _ hy.2 (by omega) (ev_ A V (ev_cx A e) T).2.2.2 i1 (by omega)
        by_cases k7 : ev_k A e = 7 ∨ ev_k A e = 8
        · rw [ev_cs k7 hx.2 hy.2 ex]
          split
          · exact ⟨i1, i2, by show yg_c (ev_ A V (ev_cx A e) T).2.2.2 ≤ _; omega, fun _ => i4 (by rw [ex])⟩
          · exact ⟨j1, yg_le_tr i2 j2, by omega, j4⟩
        · by_cases f2 : (ev_ A V (ev_cy A e) (ev_ A V (ev_cx A e) T).2.2.2).1 = false
          · rw [ev_two0 p2 k7 hx.2 hy.2 ex f2]
            exact ⟨j1, yg_le_tr i2 j2, by omega, j4⟩
          · rw [ev_two1 p2 k7 hx.2 hy.2 ex (ev_ok f2)]
            exact ⟨j1, yg_le_tr i2 j2, by show yg_c (ev_ A V (ev_cy A e) (ev_ A V (ev_cx A e) T).2.2.2).2.2.2 ≤ _; omega, fun h => yg_2 j1 (yg_v_le j2 (i4 (by rw [ex]))) h⟩
end
section
/-! stores, reads, narrow types -/
theorem ix_st {i : Int32} {a : Nat → Int32} {x : Int32} {P : (Nat → Int32) → Prop} (k N : Nat) (x' : Int32) (hk : k < N) (h : P (upd a k x')) (hi : i = nI k := by rfl) (hx : x = x' := by rfl) (hN : N < 2 ^ 31 := by omega) : vp_in i N ∧ ∀ y : Nat → Int32, y = upd a i.toNatClampNeg x → P y := by
  subst hi hx
  refine ⟨vp_in_nI hk hN, fun y ey => ?_⟩
  rw [ey, nI_clamp (by omega)]
  exact h
theorem ix_stL {i : Int32} {a : Nat → Int64} {x : Int64} {P : (Nat → Int64) → Prop} (k N : Nat) (x' : Int64) (hk : k < N) (h : P (vp_updL a k x')) (hi : i = nI k := by rfl) (hx : x = x' := by rfl) (hN : N < 2 ^ 31 := by omega) : vp_in i N ∧ ∀ y : Nat → Int64, y = vp_updL a i.toNatClampNeg x → P y := by
  subst hi hx
  refine ⟨vp_in_nI hk hN, fun y ey => ?_⟩
  rw [ey, nI_clamp (by omega)]
  exact h
theorem ix_rd {a : Nat → Int32} {k : Nat} {v : Int32} (h : a k = v) (hk : k < 2 ^ 31 := by omega) : a (nI k).toNatClampNeg = v := by rw [nI_clamp hk]; exact h
theorem ix_rn {a : Nat → Int32} {k : Nat} {v : Int32} (h : ¬ a k = v) (hk : k < 2 ^ 31 := by omega) : ¬ a (nI k).toNatClampNeg = v := by rw [nI_clamp hk]; exact h
theorem ix_ev {i : Int32} {k : Nat} {a : Nat → Int32} (hi : i = nI k) (hk : k < 2 ^ 31 := by omega) : a i.toNatClampNeg = a k := by rw [hi, nI_clamp hk]
theorem by_8 : ∀ n, n < 128 → (nI n).toInt8.toInt32 = nI n := by decide +kernel
theorem by_16 : ∀ n, n < 512 → (nI n).toInt16.toInt32 = nI n := by decide +kernel
theorem by_n {n : Nat} (h : n < 128) : vp_nar .byte (nI n).toInt8.toInt32 = nI n := by rw [pk_vb, by_8 n h]
theorem by_v {n : Nat} (h : n < 128) : vp_nar .byte (nI n) = nI n := by rw [vp_nar_byte, by_8 n h]
theorem by_s {n : Nat} (h : n < 512) : vp_nar .short (nI n).toInt16.toInt32 = nI n := by rw [pk_vs, by_16 n h]
theorem by_b1 : vp_nar .boolean 1 = 1 := rfl
theorem by_b0 : vp_nar .boolean 0 = 0 := rfl
theorem by_in {n N : Nat} (h : n < N) (hN : N < 2 ^ 31 := by omega) : vp_in (nI n) N := vp_in_nI h hN
end
section
/-! the reference: its small methods -/
section
variable {A : gy_A} {B : gy_B} {V : gy_V} {T : gy_T} {K : gy_K} {L : gy_L}
def yk_gv (K : gy_K) (t : Nat) (s n : Int32) : gy_K := (yk_d K, nI (t + 1), yk_f K, yk_w K, yk_g K, upd (yk_s K) t s, upd (yk_n K) t n)
theorem ym_give {post : SY → Prop} {s n : Int32} {t : Nat} (ht : yk_t K = nI t) (h8 : t < 8) (h : post (yk A B V T (yk_gv K t s n) L)) : wpY_give post (yk A B V T K L) s n := by
  refine ix_st t 8 s h8 ?_ ht
  refine ix_st t 8 n h8 ?_ ht
  refine nm_r (e' := nI (t + 1)) (by rw [← nI_1, ← ht]) ?_
  exact h
theorem ym_nt_loop {post : Int32 → SY → Prop} : ∀ (k t : Nat), k ≤ 24 → t < 24 →
    post (nI (ev_ntg (yt_t T) k t)) (yk A B V (upd (yt_z T) (ev_ntg (yt_t T) k t) 0, yt_k T, yt_s T, yt_n T, upd (yt_t T) (ev_ntg (yt_t T) k t) 1, yt_e T) K L) →
    (wY_newTable_6 post (ya_n A) (yb_n B) (yv_h V) (yk_d K) (yk_t K) (yk_f K) (yl_n L) (ya_k A) (ya_x A) (ya_y A) (ya_w A) (yb_o B) (yb_x B) (yb_y B) (yb_z B) (yv_s V) (yv_n V) (yt_z T) (yt_k T) (yt_s T) (yt_n T) (yt_t T) (yt_e T) (yv_o V) (yk_w K) (yk_g K) (yk_s K) (yk_n K) (yl_a L) (yl_t L) (yl_l L) (k + 1) (nI t) (nI k + (-1)))
  | 0, t, _, ht, h => by
    refine br_t (by decide) ?_
    refine ix_st t 24 1 ht ?_
    refine ix_st t 24 0 ht ?_
    exact h
  | k + 1, t, hk, ht, h => by
    rw [pk_m1]
    refine br_f (nI_pos (by omega)) ⟨by_in (by omega), br_c (fun hz => ?_) (fun hz => ?_)⟩
    · rw [nI_clamp (by omega)] at hz
      refine nm_e ?_
      refine ym_nt_loop k k (by omega) (by omega) ?_
      simp only [ev_ntg, if_pos hz] at h
      exact h
    · rw [nI_clamp (by omega)] at hz
      refine nm_e ?_
      refine ym_nt_loop k t (by omega) ht ?_
      simp only [ev_ntg, if_neg hz] at h
      exact h
theorem ym_newTable {post : Int32 → SY → Prop} (h : post (nI (ev_nt T)) (yk A B V (ev_nw T) K L)) : wpY_newTable post (yk A B V T K L) :=
  ⟨25, ym_nt_loop 24 23 (by omega) (by omega) h⟩
theorem ym_find_loop {post : Int32 → Prop} {key : Int32} {t z : Nat} (ht : t < 24) (hz : yt_z T t = nI z) (h6 : z ≤ 6) : ∀ (c j : Nat), j + c = 6 * t + z → post (yf_ (yt_k T) key c j) →
    (wY_find_5 post (nI t) key (ya_n A) (yb_n B) (yv_h V) (yk_d K) (yk_t K) (yk_f K) (yl_n L) (ya_k A) (ya_x A) (ya_y A) (ya_w A) (yb_o B) (yb_x B) (yb_y B) (yb_z B) (yv_s V) (yv_n V) (yt_z T) (yt_k T) (yt_s T) (yt_n T) (yt_t T) (yt_e T) (yv_o V) (yk_w K) (yk_g K) (yk_s K) (yk_n K) (yl_a L) (yl_t L) (yl_l L) (c + 1) (nI j))
  | 0, j, hj, h => by
    refine And.intro (by_in ht) (br_t ?_ h)
    rw [ix_ev (a := yt_z T) (i := nI t) rfl, hz]
    show nI 6 * nI t + nI z ≤ nI j
    rw [pk_mul, nI_add]
    exact nI_le (by omega) (by omega)
  | c + 1, j, hj, h => by
    refine And.intro (by_in ht) (br_f ?_ ⟨by_in (by omega), br_c (fun e => ?_) (fun e => ?_)⟩)
    · rw [ix_ev (a := yt_z T) (i := nI t) rfl, hz]
      show ¬ nI 6 * nI t + nI z ≤ nI j
      rw [pk_mul, nI_add]
      exact nI_ge (by omega) (by omega)
    · rw [nI_clamp (by omega)] at e
      simp only [yf_, if_pos e] at h
      exact h
    · rw [nI_clamp (by omega)] at e
      simp only [yf_, if_neg e] at h
      refine nm_r (nI_1 j) ?_
      exact ym_find_loop ht hz h6 c (j + 1) (by omega) h
theorem ym_find {post : Int32 → Prop} {key : Int32} {t z : Nat} (ht : t < 24) (hz : yt_z T t = nI z) (h6 : z ≤ 6) (h : post (yf_f T t key)) : wpY_find post (yk A B V T K L) (nI t) key := by
  unfold yf_f at h
  rw [hz, nI_clamp (by omega)] at h
  refine nm_r (e' := nI (6 * t)) (pk_mul 6 t) ?_
  exact ⟨z + 1, ym_find_loop ht hz h6 z (6 * t) rfl h⟩
def yk_bg (K : gy_K) (d : Nat) (e : Int32) : gy_K := (nI (d + 1), yk_t K, yk_f K, upd (yk_w K) d e, upd (yk_g K) d 0, yk_s K, yk_n K)
theorem ym_begin {post : SY → Prop} {e : Int32} {d : Nat} (hd : yk_d K = nI d) (h8 : d < 8) (h : post (yk A B V T (yk_bg K d e) L)) : wpY_begin post (yk A B V T K L) e := by
  refine ix_st d 8 e h8 ?_ hd
  refine ix_st d 8 0 h8 ?_ hd
  refine nm_r (e' := nI (d + 1)) (by rw [← nI_1, ← hd]) ?_
  exact h
end
end
section
/-! the reference: one step of the walk through an expression -/
section
variable {A : gy_A} {B : gy_B} {V : gy_V} {T : gy_T} {K : gy_K} {L : gy_L}
def yk_lf (K : gy_K) (d t : Nat) (s n : Int32) : gy_K := (nI d, nI (t + 1), yk_f K, yk_w K, yk_g K, upd (yk_s K) t s, upd (yk_n K) t n)
def yk_fl (K : gy_K) (d t : Nat) : gy_K := (nI d, nI t, 1, yk_w K, yk_g K, yk_s K, yk_n K)
def yk_rs (K : gy_K) (d t : Nat) (o : Bool × Int32 × Int32) : gy_K := if o.1 = true then yk_lf K d t o.2.1 o.2.2 else yk_fl K d t
def yk_sg (K : gy_K) (d g : Nat) : gy_K := (yk_d K, yk_t K, yk_f K, yk_w K, upd (yk_g K) d (nI (g + 1)), yk_s K, yk_n K)
def yk_dt (K : gy_K) (d t : Nat) : gy_K := (nI d, nI t, yk_f K, yk_w K, yk_g K, yk_s K, yk_n K)
theorem ym_parts {post : Int32 → Prop} {k : Nat} (hk : k ≤ 12) (h : post (nI (ev_pt k))) : wpY_parts post (yk A B V T K L) (nI k) := by
  refine pk_le k 1 (fun a => ?_) (fun a => ?_)
  · rw [show ev_pt k = 0 from by unfold ev_pt; rw [if_pos (by omega)]] at h
    exact h
  · refine pk_eq k 11 (fun b => ?_) (fun b => ?_)
    · rw [show ev_pt k = 0 from by unfold ev_pt; rw [if_pos (by omega)]] at h
      exact h
    · refine pk_eq k 9 (fun c => ?_) (fun c => ?_)
      · rw [show ev_pt k = 1 from by unfold ev_pt; rw [if_neg (by omega), if_pos (by omega)]] at h
        exact h
      · refine pk_eq k 12 (fun d => ?_) (fun d => ?_)
        · rw [show ev_pt k = 1 from by unfold ev_pt; rw [if_neg (by omega), if_pos (by omega)]] at h
          exact h
        · rw [show ev_pt k = 2 from by unfold ev_pt; rw [if_neg (by omega), if_neg (by omega)]] at h
          exact h
theorem ym_leaf {post : SY → Prop} {e d t : Nat} (hA : ar_1 A e) (he : e < 30) (h0 : ev_pt (ev_k A e) = 0) (hd : yk_d K = nI (d + 1)) (ht : yk_t K = nI t) (h8 : t < 8)
    (h : post (yk A B V (ev_ A V e T).2.2.2 (yk_lf K d t (ev_ A V e T).2.1 (ev_ A V e T).2.2.1) L)) : wpY_leaf post (yk A B V T K L) (nI e) := by
  have hk := hA.1
  have dp : yk_d K - 1 = nI d := by rw [hd, nI_pred]
  refine And.intro (by_in he) ?_
  rcases ev_pt0 h0 with k | k | k
  · rw [k] at hk
    rw [ev_int k] at h
    refine br_t (ix_rd hk) ⟨by_in he, ?_⟩
    rw [ix_ev (a := ya_x A) (i := nI e) rfl]
    refine ym_give ht h8 ?_
    refine nm_r (e' := nI d) dp ?_
    exact h
  · rw [k] at hk
    rw [ev_var k] at h
    have hv := hA.2.2.2.2.2.1 k
    refine br_f (ix_rn (by rw [hk]; decide)) ⟨by_in he, br_t (ix_rd hk) ?_⟩
    rw [ix_ev (a := ya_x A) (i := nI e) rfl, hv.1, ix_ev (a := yv_s V) (i := nI (ev_cx A e)) rfl, ix_ev (a := yv_n V) (i := nI (ev_cx A e)) rfl]
    refine ⟨by_in he, by_in hv.2, by_in he, by_in hv.2, ?_⟩
    refine ym_give ht h8 ?_
    refine nm_r (e' := nI d) dp ?_
    exact h
  · rw [k] at hk
    rw [ev_new k] at h
    refine br_f (ix_rn (by rw [hk]; decide)) ⟨by_in he, br_f (ix_rn (by rw [hk]; decide)) ?_⟩
    refine ym_newTable ?_
    refine ym_give (T := ev_nw T) ht h8 ?_
    refine nm_r (e' := nI d) dp ?_
    exact h
theorem ym_one {post : SY → Prop} {e d t : Nat} {s p : Int32} (hA : ar_1 A e) (he : e < 30) (h1 : ev_pt (ev_k A e) = 1) (hd : yk_d K = nI (d + 1)) (ht : yk_t K = nI (t + 1)) (h8 : t < 8)
    (hs : yk_s K t = s) (hp : yk_n K t = p) (hv : s = 2 → ∃ x, x < 24 ∧ p = nI x)
    (h : post (yk A B V T (yk_rs K d t (ev_1 T (ev_k A e) s p)) L)) : wpY_one post (yk A B V T K L) (nI e) := by
  have hk := hA.1
  refine nm_r (e' := nI t) (by rw [ht, nI_pred]) ?_
  refine nm_r (e' := nI d) (by rw [hd, nI_pred]) ?_
  refine And.intro (by_in he) ?_
  rcases (ev_pt1 h1).2 with k | k
  · rw [k] at hk h
    refine br_t (ix_rd hk) ⟨by_in h8, ?_⟩
    by_cases z : s = 0
    · refine br_t (ix_rd (hs.trans z)) ?_
      refine And.intro (by_in h8) (br_t (ix_rd (hs.trans z)) ?_)
      refine ym_give (K := yk_dt K d t) (t := t) rfl h8 ?_
      unfold ev_1 at h
      rw [if_pos rfl, decide_eq_true z] at h
      exact h
    · refine br_f (ix_rn (by rw [hs]; exact z)) ?_
      refine And.intro (by_in h8) (br_f (ix_rn (by rw [hs]; exact z)) ?_)
      refine ym_give (K := yk_dt K d t) (t := t) rfl h8 ?_
      unfold ev_1 at h
      rw [if_pos rfl, decide_eq_false z] at h
      exact h
  · rw [k] at hk h
    unfold ev_1 at h
    rw [if_neg (by decide)] at h
    refine br_f (ix_rn (by rw [hk]; decide)) ⟨by_in h8, ?_⟩
    by_cases z : s = 2
    · obtain ⟨x, hx, ex⟩ := hv z
      rw [if_pos z, ex, nI_clamp (by omega)] at h
      refine br_t (ix_rd (hs.trans z)) ⟨by_in h8, ?_⟩
      rw [ix_ev (a := yk_n K) (i := nI t) rfl, hp, ex, ix_ev (a := yt_z T) (i := nI x) rfl]
      refine ⟨by_in hx, ?_⟩
      refine ym_give (K := yk_dt K d t) (t := t) rfl h8 ?_
      exact h
    · rw [if_neg z] at h
      refine br_f (ix_rn (by rw [hs]; exact z)) ?_
      exact h
end
end
section
/-! the reference: two -/
section
variable {A : gy_A} {B : gy_B} {V : gy_V} {T : gy_T} {K : gy_K} {L : gy_L}
theorem ym_two1 {post : SY → Prop} {t : Nat} (ht : yk_t K = nI t) (h8 : t < 8) (h : post (yk A B V T (yk_gv K t 1 1) L)) : (wY_two_110 post (ya_n A) (yb_n B) (yv_h V) (yk_d K) (yk_t K) (yk_f K) (yl_n L) (ya_k A) (ya_x A) (ya_y A) (ya_w A) (yb_o B) (yb_x B) (yb_y B) (yb_z B) (yv_s V) (yv_n V) (yt_z T) (yt_k T) (yt_s T) (yt_n T) (yt_t T) (yt_e T) (yv_o V) (yk_w K) (yk_g K) (yk_s K) (yk_n K) (yl_a L) (yl_t L) (yl_l L)) := by
  refine br_f (by decide) ?_
  refine br_f (by decide) ?_
  exact ym_give ht h8 h
theorem ym_two0 {post : SY → Prop} {t : Nat} (ht : yk_t K = nI t) (h8 : t < 8) (h : post (yk A B V T (yk_gv K t 0 0) L)) : (wY_two_114 post (ya_n A) (yb_n B) (yv_h V) (yk_d K) (yk_t K) (yk_f K) (yl_n L) (ya_k A) (ya_x A) (ya_y A) (ya_w A) (yb_o B) (yb_x B) (yb_y B) (yb_z B) (yv_s V) (yv_n V) (yt_z T) (yt_k T) (yt_s T) (yt_n T) (yt_t T) (yt_e T) (yv_o V) (yk_w K) (yk_g K) (yk_s K) (yk_n K) (yl_a L) (yl_t L) (yl_l L)) := by
  refine br_t rfl ?_
  refine br_t rfl ?_
  exact ym_give ht h8 h
theorem ym_two177 {post : SY → Prop} {t x z : Nat} {q : Int32} (ht : yk_t K = nI t) (h8 : t < 8) (hx : x < 24) (hz : yt_z T x = nI z) (h6 : z ≤ 6)
    (h : post (yk A B V T (yk_gv K t (yf_l T x q).1 (yf_l T x q).2) L)) : (wY_two_177 post 2 1 (yf_f T x q) (ya_n A) (yb_n B) (yv_h V) (yk_d K) (yk_t K) (yk_f K) (yl_n L) (ya_k A) (ya_x A) (ya_y A) (ya_w A) (yb_o B) (yb_x B) (yb_y B) (yb_z B) (yv_s V) (yv_n V) (yt_z T) (yt_k T) (yt_s T) (yt_n T) (yt_t T) (yt_e T) (yv_o V) (yk_w K) (yk_g K) (yk_s K) (yk_n K) (yl_a L) (yl_t L) (yl_l L)) := by
  refine br_t rfl (br_t rfl ?_)
  rcases yf_l_cases hz hx h6 q with ⟨j, hj, _, e1, e2, _⟩ | ⟨e1, e2, _⟩
  · rw [e2] at h
    rw [e1]
    refine br_t (nI_pos' (by omega)) ⟨by_in (by omega), ?_⟩
    refine br_t (nI_pos' (by omega)) ⟨by_in (by omega), ?_⟩
    rw [ix_ev (a := yt_s T) (i := nI (6 * x + j)) rfl, ix_ev (a := yt_n T) (i := nI (6 * x + j)) rfl]
    exact ym_give ht h8 h
  · rw [e2] at h
    rw [e1]
    refine br_f yf_neg1 ?_
    refine br_f yf_neg1 ?_
    exact ym_give ht h8 h
theorem ym_two81 {post : SY → Prop} {e d t : Nat} {s p s' p' z0 : Int32} (hA : ar_1 A e) (he : e < 30) (h1 : ev_pt (ev_k A e) = 2) (hn : ¬ (ev_k A e = 7 ∨ ev_k A e = 8)) (h8 : t < 8)
    (hv : s = 2 → ∃ x z, x < 24 ∧ p = nI x ∧ yt_z T x = nI z ∧ z ≤ 6) (hz : z0 = 0 ↔ ¬ (s = 1 ∧ s' = 1))
    (h : post (yk A B V T (yk_rs K d t (ev_2 T (ev_k A e) s p s' p')) L)) : (wY_two_81 post (nI e) s s' p p' z0 (ya_n A) (yb_n B) (yv_h V) (yk_d (yk_dt K d t)) (yk_t (yk_dt K d t)) (yk_f (yk_dt K d t)) (yl_n L) (ya_k A) (ya_x A) (ya_y A) (ya_w A) (yb_o B) (yb_x B) (yb_y B) (yb_z B) (yv_s V) (yv_n V) (yt_z T) (yt_k T) (yt_s T) (yt_n T) (yt_t T) (yt_e T) (yv_o V) (yk_w (yk_dt K d t)) (yk_g (yk_dt K d t)) (yk_s (yk_dt K d t)) (yk_n (yk_dt K d t)) (yl_a L) (yl_t L) (yl_l L)) := by
  have hk := hA.1
  have hp := ev_pt2 h1
  have k12 := hA.2.1
  unfold ev_2 at h
  refine And.intro (by_in he) ?_
  by_cases k6 : ev_k A e = 6
  · rw [k6] at hk
    refine br_t (ix_rd hk) ?_
    rw [if_pos k6] at h
    by_cases es : s = s'
    · refine br_t es ?_
      by_cases e0 : s = 0
      · refine br_t e0 ?_
        refine ym_two1 (K := yk_dt K d t) (t := t) rfl h8 ?_
        rw [decide_eq_true ⟨es, Or.inl e0⟩] at h
        exact h
      · refine br_f e0 ?_
        by_cases ep : p = p'
        · refine br_t ep ?_
          refine ym_two1 (K := yk_dt K d t) (t := t) rfl h8 ?_
          rw [decide_eq_true ⟨es, Or.inr ep⟩] at h
          exact h
        · refine br_f ep ?_
          refine ym_two0 (K := yk_dt K d t) (t := t) rfl h8 ?_
          rw [decide_eq_false (fun w => w.2.elim e0 ep)] at h
          exact h
    · refine br_f es ?_
      refine ym_two0 (K := yk_dt K d t) (t := t) rfl h8 ?_
      rw [decide_eq_false (fun w => es w.1)] at h
      exact h
  · rw [if_neg k6] at h
    refine br_f (ix_rn (by rw [hk]; exact fun w => k6 ((nI_eq (by omega) (by omega)).mp w))) ⟨by_in he, ?_⟩
    by_cases k10 : ev_k A e = 10
    · rw [k10] at hk
      refine br_t (ix_rd hk) ?_
      rw [if_pos k10] at h
      by_cases e2 : s = 2
      · refine br_t e2 ?_
        by_cases e1 : s' = 1
        · refine br_t e1 ?_
          obtain ⟨x, z, hx, ep, ez, h6⟩ := hv e2
          rw [if_pos ⟨e2, e1⟩, ep, nI_clamp (by omega)] at h
          subst e2 e1 ep
          refine ym_find (K := yk_dt K d t) hx ez h6 ?_
          refine ym_two177 (K := yk_dt K d t) (t := t) rfl h8 hx ez h6 ?_
          exact h
        · refine br_f e1 ?_
          rw [if_neg (fun w => e1 w.2)] at h
          refine br_t e2 (br_f e1 ?_)
          exact h
      · refine br_f e2 ?_
        rw [if_neg (fun w => e2 w.1)] at h
        refine br_f e2 ?_
        exact h
    · rw [if_neg k10] at h
      refine br_f (ix_rn (by rw [hk]; exact fun w => k10 ((nI_eq (by omega) (by omega)).mp w))) ?_
      by_cases c : s = 1 ∧ s' = 1
      · rw [if_pos c] at h
        refine br_f (fun w => (hz.mp w) c) ⟨by_in he, ?_⟩
        by_cases k5 : ev_k A e = 5
        · rw [k5] at hk
          rw [if_pos k5] at h
          refine br_t (ix_rd hk) ?_
          by_cases lt : p' ≤ p
          · rw [decide_eq_false (fun w => absurd lt (Int32.not_le.mpr w))] at h
            refine br_t lt ?_
            refine br_t lt ?_
            exact ym_give (K := yk_dt K d t) (t := t) rfl h8 h
          · rw [decide_eq_true (Int32.not_le.mp lt)] at h
            refine br_f lt ?_
            refine br_f lt ?_
            exact ym_give (K := yk_dt K d t) (t := t) rfl h8 h
        · rw [if_neg k5] at h
          refine br_f (ix_rn (by rw [hk]; exact fun w => k5 ((nI_eq (by omega) (by omega)).mp w))) ⟨by_in he, ?_⟩
          by_cases k2 : ev_k A e = 2
          · rw [k2] at hk
            rw [if_pos k2] at h
            refine br_t (ix_rd hk) ?_
            exact ym_give (K := yk_dt K d t) (t := t) rfl h8 h
          · rw [if_neg k2] at h
            refine br_f (ix_rn (by rw [hk]; exact fun w => k2 ((nI_eq (by omega) (by omega)).mp w))) ⟨by_in he, ?_⟩
            by_cases k3 : ev_k A e = 3
            · rw [k3] at hk
              rw [if_pos k3] at h
              refine br_t (ix_rd hk) ?_
              exact ym_give (K := yk_dt K d t) (t := t) rfl h8 h
            · rw [if_neg k3] at h
              refine br_f (ix_rn (by rw [hk]; exact fun w => k3 ((nI_eq (by omega) (by omega)).mp w))) ?_
              exact ym_give (K := yk_dt K d t) (t := t) rfl h8 h
      · rw [if_neg c] at h
        refine br_t (hz.mpr c) ?_
        exact h
theorem ym_two {post : SY → Prop} {e d t : Nat} {s p s' p' : Int32} (hA : ar_1 A e) (he : e < 30) (h1 : ev_pt (ev_k A e) = 2) (hn : ¬ (ev_k A e = 7 ∨ ev_k A e = 8)) (hd : yk_d K = nI (d + 1)) (ht : yk_t K = nI (t + 2)) (h8 : t + 1 < 8)
    (hs : yk_s K t = s) (hp : yk_n K t = p) (hs' : yk_s K (t + 1) = s') (hp' : yk_n K (t + 1) = p') (hv : s = 2 → ∃ x z, x < 24 ∧ p = nI x ∧ yt_z T x = nI z ∧ z ≤ 6)
    (h : post (yk A B V T (yk_rs K d t (ev_2 T (ev_k A e) s p s' p')) L)) : wpY_two post (yk A B V T K L) (nI e) := by
  refine nm_r (e' := nI t) (by rw [ht]; exact pk_sub (a := t + 2) (b := 2) (by omega)) ?_
  refine nm_r (e' := nI d) (by rw [hd, nI_pred]) ?_
  refine And.intro (by_in (by omega)) (nm_r ((ix_ev rfl).trans hs) ?_)
  refine And.intro (pk_in (t + 1) 8 h8 (nI_1 t)) (nm_r ((ix_ev (nI_1 t)).trans hs') ?_)
  refine And.intro (by_in (by omega)) (nm_r ((ix_ev rfl).trans hp) ?_)
  refine And.intro (pk_in (t + 1) 8 h8 (nI_1 t)) (nm_r ((ix_ev (nI_1 t)).trans hp') ?_)
  by_cases c1 : s = 1
  · refine br_t c1 ?_
    by_cases c2 : s' = 1
    · refine br_t c2 ?_
      exact ym_two81 hA he h1 hn (by omega) hv ⟨fun w => absurd w (by decide), fun w => absurd ⟨c1, c2⟩ w⟩ h
    · refine br_f c2 ?_
      exact ym_two81 hA he h1 hn (by omega) hv ⟨fun _ w => c2 w.2, fun _ => rfl⟩ h
  · refine br_f c1 ?_
    exact ym_two81 hA he h1 hn (by omega) hv ⟨fun _ w => c1 w.1, fun _ => rfl⟩ h
end
end
section
/-! the reference: step by kinds -/
section
variable {A : gy_A} {B : gy_B} {V : gy_V} {T : gy_T} {K : gy_K} {L : gy_L}
def ys_ (A : gy_A) (B : gy_B) (V : gy_V) (L : gy_L) (T : gy_T) (K : gy_K) (T' : gy_T) (K' : gy_K) : Prop := ∀ post : SY → Prop, post (yk A B V T' K' L) → wpY_step post (yk A B V T K L)
def yk_dd (K : gy_K) (d : Nat) : gy_K := (nI d, yk_t K, yk_f K, yk_w K, yk_g K, yk_s K, yk_n K)
def yk_tt (K : gy_K) (t : Nat) : gy_K := (yk_d K, nI t, yk_f K, yk_w K, yk_g K, yk_s K, yk_n K)
theorem ys_pre {post : SY → Prop} {e d g : Nat} (hA : ar_1 A e) (he : e < 30) (hd : yk_d K = nI (d + 1)) (h8 : d < 8) (hw : yk_w K d = nI e) (hg : yk_g K d = nI g)
    (h7 : ev_k A e = 7 ∨ ev_k A e = 8 → (wY_step_63 post (nI e) (nI g) (nI (ev_k A e)) 1 (ya_n A) (yb_n B) (yv_h V) (yk_d (yk_sg K d g)) (yk_t (yk_sg K d g)) (yk_f (yk_sg K d g)) (yl_n L) (ya_k A) (ya_x A) (ya_y A) (ya_w A) (yb_o B) (yb_x B) (yb_y B) (yb_z B) (yv_s V) (yv_n V) (yt_z T) (yt_k T) (yt_s T) (yt_n T) (yt_t T) (yt_e T) (yv_o V) (yk_w (yk_sg K d g)) (yk_g (yk_sg K d g)) (yk_s (yk_sg K d g)) (yk_n (yk_sg K d g)) (yl_a L) (yl_t L) (yl_l L)))
    (h0 : ¬ (ev_k A e = 7 ∨ ev_k A e = 8) → (wY_step_63 post (nI e) (nI g) (nI (ev_k A e)) 0 (ya_n A) (yb_n B) (yv_h V) (yk_d (yk_sg K d g)) (yk_t (yk_sg K d g)) (yk_f (yk_sg K d g)) (yl_n L) (ya_k A) (ya_x A) (ya_y A) (ya_w A) (yb_o B) (yb_x B) (yb_y B) (yb_z B) (yv_s V) (yv_n V) (yt_z T) (yt_k T) (yt_s T) (yt_n T) (yt_t T) (yt_e T) (yv_o V) (yk_w (yk_sg K d g)) (yk_g (yk_sg K d g)) (yk_s (yk_sg K d g)) (yk_n (yk_sg K d g)) (yl_a L) (yl_t L) (yl_l L))) : wpY_step post (yk A B V T K L) := by
  have dp : yk_d K - 1 = nI d := by rw [hd, nI_pred]
  have k12 := hA.2.1
  refine And.intro (pk_in d 8 h8 dp) (nm_r ((ix_ev dp).trans hw) ?_)
  refine And.intro (pk_in d 8 h8 dp) (nm_r ((ix_ev dp).trans hg) ?_)
  refine And.intro (pk_in d 8 h8 dp) ?_
  refine ix_st d 8 (nI (g + 1)) h8 ?_ dp (by rw [ix_ev (a := yk_g K) dp, hg, nI_1])
  refine And.intro (by_in he) (nm_r ((ix_ev rfl).trans hA.1) ?_)
  refine pk_eq (ev_k A e) 7 (fun k => h7 (Or.inl k)) (fun k => ?_)
  refine pk_eq (ev_k A e) 8 (fun k' => h7 (Or.inr k')) (fun k' => ?_)
  exact h0 (by omega)
theorem ys_leaf {e d g t : Nat} (hA : ar_1 A e) (he : e < 30) (hd : yk_d K = nI (d + 1)) (h8 : d < 8) (hw : yk_w K d = nI e) (hg : yk_g K d = nI g) (p0 : ev_pt (ev_k A e) = 0) (ht : yk_t K = nI t) (t8 : t < 8) :
    ys_ A B V L T K (ev_ A V e T).2.2.2 (yk_lf (yk_sg K d g) d t (ev_ A V e T).2.1 (ev_ A V e T).2.2.1) := by
  intro post h
  have q := ev_pt0 p0
  refine ys_pre hA he hd h8 hw hg (fun k => by omega) (fun _ => ?_)
  refine ym_parts (K := yk_sg K d g) hA.2.1 ?_
  rw [p0]
  refine br_t rfl ?_
  exact ym_leaf (K := yk_sg K d g) hA he p0 hd ht t8 h
theorem ys_63 {post : SY → Prop} {e d g : Nat} {z : Int32} (hA : ar_1 A e) (he : e < 30) (hd : yk_d K = nI (d + 1)) (h8 : d + 1 < 8) (p1 : 1 ≤ ev_pt (ev_k A e))
    (h : post (yk A B V T (yk_bg (yk_sg K d g) (d + 1) (nI (ev_cx A e))) L)) : (wY_step_63 post (nI e) 0 (nI (ev_k A e)) z (ya_n A) (yb_n B) (yv_h V) (yk_d (yk_sg K d g)) (yk_t (yk_sg K d g)) (yk_f (yk_sg K d g)) (yl_n L) (ya_k A) (ya_x A) (ya_y A) (ya_w A) (yb_o B) (yb_x B) (yb_y B) (yb_z B) (yv_s V) (yv_n V) (yt_z T) (yt_k T) (yt_s T) (yt_n T) (yt_t T) (yt_e T) (yv_o V) (yk_w (yk_sg K d g)) (yk_g (yk_sg K d g)) (yk_s (yk_sg K d g)) (yk_n (yk_sg K d g)) (yl_a L) (yl_t L) (yl_l L)) := by
  have hx := hA.2.2.2.2.2.2.1 p1
  refine ym_parts (K := yk_sg K d g) hA.2.1 ?_
  have q := ev_ptc (ev_k A e)
  refine br_f (nI_ne0 (by omega) (by omega)) (br_t rfl ⟨by_in he, ?_⟩)
  rw [ix_ev (a := ya_x A) (i := nI e) rfl, hx.1]
  exact ym_begin (K := yk_sg K d g) hd h8 h
theorem ys_bx {e d : Nat} (hA : ar_1 A e) (he : e < 30) (hd : yk_d K = nI (d + 1)) (h8 : d + 1 < 8) (hw : yk_w K d = nI e) (hg : yk_g K d = nI 0) (p1 : 1 ≤ ev_pt (ev_k A e)) :
    ys_ A B V L T K T (yk_bg (yk_sg K d 0) (d + 1) (nI (ev_cx A e))) := by
  intro post h
  exact ys_pre hA he hd (by omega) hw hg (fun _ => ys_63 hA he hd h8 p1 h) (fun _ => ys_63 hA he hd h8 p1 h)
theorem ys_one {e d t : Nat} {s p : Int32} (hA : ar_1 A e) (he : e < 30) (hd : yk_d K = nI (d + 1)) (h8 : d < 8) (hw : yk_w K d = nI e) (hg : yk_g K d = nI 1) (p1 : ev_pt (ev_k A e) = 1) (ht : yk_t K = nI (t + 1)) (t8 : t < 8)
    (hs : yk_s K t = s) (hp : yk_n K t = p) (hv : s = 2 → ∃ x, x < 24 ∧ p = nI x) :
    ys_ A B V L T K T (yk_rs (yk_sg K d 1) d t (ev_1 T (ev_k A e) s p)) := by
  intro post h
  have q := ev_pt1 p1
  refine ys_pre hA he hd h8 hw hg (fun k => by omega) (fun _ => ?_)
  refine ym_parts (K := yk_sg K d 1) hA.2.1 ?_
  rw [p1]
  refine br_f (by decide) (br_f (by decide) ?_)
  refine ym_parts (K := yk_sg K d 1) hA.2.1 ?_
  rw [p1]
  refine br_t rfl ?_
  exact ym_one (K := yk_sg K d 1) hA he p1 hd ht t8 hs hp hv h
theorem ys_p2 {k : Nat} (h : k = 7 ∨ k = 8) : ev_pt k = 2 := by unfold ev_pt; rw [if_neg (by omega), if_neg (by omega)]
/-- a choice whose first part is done -/
theorem ys_ch {post : SY → Prop} {e d t : Nat} {s : Int32} (hA : ar_1 A e) (he : e < 30) (hd : yk_d K = nI (d + 1)) (h8 : d < 8) (hw : yk_w K d = nI e) (hg : yk_g K d = nI 1) (k7 : ev_k A e = 7 ∨ ev_k A e = 8) (ht : yk_t K = nI (t + 1)) (t8 : t < 8) (hs : yk_s K t = s)
    (ht1 : decide (s = 0) = decide (ev_k A e = 7) → post (yk A B V T (yk_dd (yk_sg K d 1) d) L))
    (ht0 : ¬ decide (s = 0) = decide (ev_k A e = 7) → (wY_step_171 post (nI e) 1 1 (ya_n A) (yb_n B) (yv_h V) (yk_d (yk_sg K d 1)) (yk_t (yk_sg K d 1)) (yk_f (yk_sg K d 1)) (yl_n L) (ya_k A) (ya_x A) (ya_y A) (ya_w A) (yb_o B) (yb_x B) (yb_y B) (yb_z B) (yv_s V) (yv_n V) (yt_z T) (yt_k T) (yt_s T) (yt_n T) (yt_t T) (yt_e T) (yv_o V) (yk_w (yk_sg K d 1)) (yk_g (yk_sg K d 1)) (yk_s (yk_sg K d 1)) (yk_n (yk_sg K d 1)) (yl_a L) (yl_t L) (yl_l L))) : wpY_step post (yk A B V T K L) := by
  have p2 := ys_p2 k7
  refine ys_pre hA he hd h8 hw hg (fun _ => ?_) (fun k => absurd k7 k)
  refine ym_parts (K := yk_sg K d 1) hA.2.1 ?_
  rw [p2]
  refine br_f (by decide) (br_f (by decide) ?_)
  refine ym_parts (K := yk_sg K d 1) hA.2.1 ?_
  rw [p2]
  refine br_f (by decide) (br_f (by decide) (br_f (by decide) ?_))
  have tp : yk_t K - 1 = nI t := by rw [ht, nI_pred]
  have dp : yk_d K - 1 = nI d := by rw [hd, nI_pred]
  have st : (wY_step_158 post (ya_n A) (yb_n B) (yv_h V) (yk_d (yk_sg K d 1)) (yk_t (yk_sg K d 1)) (yk_f (yk_sg K d 1)) (yl_n L) (ya_k A) (ya_x A) (ya_y A) (ya_w A) (yb_o B) (yb_x B) (yb_y B) (yb_z B) (yv_s V) (yv_n V) (yt_z T) (yt_k T) (yt_s T) (yt_n T) (yt_t T) (yt_e T) (yv_o V) (yk_w (yk_sg K d 1)) (yk_g (yk_sg K d 1)) (yk_s (yk_sg K d 1)) (yk_n (yk_sg K d 1)) (yl_a L) (yl_t L) (yl_l L)) ↔ post (yk A B V T (yk_dd (yk_sg K d 1) d) L) :=
    ⟨fun w => w _ dp.symm, fun w => nm_r (e' := nI d) dp w⟩
  refine And.intro (pk_in t 8 t8 tp) ?_
  rcases k7 with k | k
  · by_cases z : s = 0
    · refine br_t ((ix_ev tp).trans (hs.trans z)) ?_
      refine br_t (by rw [k]; rfl) ?_
      refine br_t rfl ?_
      exact st.mpr (ht1 (by rw [z, k]; decide))
    · refine br_f (fun w => z (hs.symm.trans ((ix_ev tp).symm.trans w))) ?_
      refine br_t (by rw [k]; rfl) ?_
      refine br_f (by decide) ?_
      exact ht0 (by rw [decide_eq_false z, k]; decide)
  · by_cases z : s = 0
    · refine br_t ((ix_ev tp).trans (hs.trans z)) ?_
      refine br_f (by rw [k]; decide) ?_
      refine br_f (by decide) ?_
      exact ht0 (by rw [z, k]; decide)
    · refine br_f (fun w => z (hs.symm.trans ((ix_ev tp).symm.trans w))) ?_
      refine br_f (by rw [k]; decide) ?_
      refine br_t rfl ?_
      exact st.mpr (ht1 (by rw [decide_eq_false z, k]; decide))
theorem ys_stop {e d t : Nat} {s : Int32} (hA : ar_1 A e) (he : e < 30) (hd : yk_d K = nI (d + 1)) (h8 : d < 8) (hw : yk_w K d = nI e) (hg : yk_g K d = nI 1) (k7 : ev_k A e = 7 ∨ ev_k A e = 8) (ht : yk_t K = nI (t + 1)) (t8 : t < 8) (hs : yk_s K t = s)
    (hc : decide (s = 0) = decide (ev_k A e = 7)) : ys_ A B V L T K T (yk_dd (yk_sg K d 1) d) :=
  fun post h => ys_ch hA he hd h8 hw hg k7 ht t8 hs (fun _ => h) (fun n => absurd hc n)
theorem ys_go {e d t : Nat} {s : Int32} (hA : ar_1 A e) (he : e < 30) (hd : yk_d K = nI (d + 1)) (h8 : d + 1 < 8) (hw : yk_w K d = nI e) (hg : yk_g K d = nI 1) (k7 : ev_k A e = 7 ∨ ev_k A e = 8) (ht : yk_t K = nI (t + 1)) (t8 : t < 8) (hs : yk_s K t = s)
    (hc : ¬ decide (s = 0) = decide (ev_k A e = 7)) : ys_ A B V L T K T (yk_bg (yk_tt (yk_sg K d 1) t) (d + 1) (nI (ev_cy A e))) := by
  intro post h
  refine ys_ch hA he hd (by omega) hw hg k7 ht t8 hs (fun w => absurd w hc) (fun _ => ?_)
  have hy := hA.2.2.2.2.2.2.2.1 (ys_p2 k7)
  refine br_t rfl (br_f (by decide) ?_)
  refine nm_r (e' := nI t) (by show yk_t K - 1 = nI t; rw [ht, nI_pred]) ?_
  refine And.intro (by_in he) ?_
  rw [ix_ev (a := ya_y A) (i := nI e) rfl, hy.1]
  exact ym_begin (K := yk_tt (yk_sg K d 1) t) hd h8 h
theorem ys_end {e d : Nat} (hA : ar_1 A e) (he : e < 30) (hd : yk_d K = nI (d + 1)) (h8 : d < 8) (hw : yk_w K d = nI e) (hg : yk_g K d = nI 2) (k7 : ev_k A e = 7 ∨ ev_k A e = 8) : ys_ A B V L T K T (yk_dd (yk_sg K d 2) d) := by
  intro post h
  have p2 := ys_p2 k7
  refine ys_pre hA he hd h8 hw hg (fun _ => ?_) (fun k => absurd k7 k)
  refine ym_parts (K := yk_sg K d 2) hA.2.1 ?_
  rw [p2]
  refine br_f (by decide) (br_f (by decide) ?_)
  refine ym_parts (K := yk_sg K d 2) hA.2.1 ?_
  rw [p2]
  refine br_f (by decide) (br_f (by decide) (br_t rfl ?_))
  exact nm_r (e' := nI d) (by show yk_d K - 1 = nI d; rw [hd, nI_pred]) h
theorem ys_by {e d : Nat} (hA : ar_1 A e) (he : e < 30) (hd : yk_d K = nI (d + 1)) (h8 : d + 1 < 8) (hw : yk_w K d = nI e) (hg : yk_g K d = nI 1) (p2 : ev_pt (ev_k A e) = 2) (hn : ¬ (ev_k A e = 7 ∨ ev_k A e = 8)) : ys_ A B V L T K T (yk_bg (yk_sg K d 1) (d + 1) (nI (ev_cy A e))) := by
  intro post h
  have hy := hA.2.2.2.2.2.2.2.1 p2
  refine ys_pre hA he hd (by omega) hw hg (fun k => absurd k hn) (fun _ => ?_)
  refine ym_parts (K := yk_sg K d 1) hA.2.1 ?_
  rw [p2]
  refine br_f (by decide) (br_f (by decide) ?_)
  refine ym_parts (K := yk_sg K d 1) hA.2.1 ?_
  rw [p2]
  refine br_f (by decide) (br_t rfl ?_)
  refine br_t rfl (br_t rfl ?_)
  refine And.intro (by_in he) ?_
  rw [ix_ev (a := ya_y A) (i := nI e) rfl, hy.1]
  exact ym_begin (K := yk_sg K d 1) hd h8 h
theorem ys_two {e d t : Nat} {s p s' p' : Int32} (hA : ar_1 A e) (he : e < 30) (hd : yk_d K = nI (d + 1)) (h8 : d < 8) (hw : yk_w K d = nI e) (hg : yk_g K d = nI 2) (p2 : ev_pt (ev_k A e) = 2) (hn : ¬ (ev_k A e = 7 ∨ ev_k A e = 8)) (ht : yk_t K = nI (t + 2)) (t8 : t + 1 < 8)
    (hs : yk_s K t = s) (hp : yk_n K t = p) (hs' : yk_s K (t + 1) = s') (hp' : yk_n K (t + 1) = p') (hv : s = 2 → ∃ x z, x < 24 ∧ p = nI x ∧ yt_z T x = nI z ∧ z ≤ 6) :
    ys_ A B V L T K T (yk_rs (yk_sg K d 2) d t (ev_2 T (ev_k A e) s p s' p')) := by
  intro post h
  refine ys_pre hA he hd h8 hw hg (fun k => absurd k hn) (fun _ => ?_)
  refine ym_parts (K := yk_sg K d 2) hA.2.1 ?_
  rw [p2]
  refine br_f (by decide) (br_f (by decide) ?_)
  refine ym_parts (K := yk_sg K d 2) hA.2.1 ?_
  rw [p2]
  refine br_f (by decide) (br_t rfl ?_)
  refine br_f (by decide) ?_
  exact ym_two (K := yk_sg K d 2) hA he p2 hn hd ht t8 hs hp hs' hp' hv h
end
end
section
/-! the reference: an expression is worked out -/
section
variable {A : gy_A} {B : gy_B} {V : gy_V} {L : gy_L}
def yw_ (A : gy_A) (B : gy_B) (V : gy_V) (L : gy_L) (c : Nat) (T : gy_T) (K : gy_K) (T' : gy_T) (K' : gy_K) : Prop :=
  ∀ (post : SY → Prop) (n x : Nat), x + c ≤ 21 → (wY_work_12 post n (nI (x + c)) (ya_n A) (yb_n B) (yv_h V) (yk_d K') (yk_t K') (yk_f K') (yl_n L) (ya_k A) (ya_x A) (ya_y A) (ya_w A) (yb_o B) (yb_x B) (yb_y B) (yb_z B) (yv_s V) (yv_n V) (yt_z T') (yt_k T') (yt_s T') (yt_n T') (yt_t T') (yt_e T') (yv_o V) (yk_w K') (yk_g K') (yk_s K') (yk_n K') (yl_a L) (yl_t L) (yl_l L)) → (wY_work_12 post (n + c) (nI x) (ya_n A) (yb_n B) (yv_h V) (yk_d K) (yk_t K) (yk_f K) (yl_n L) (ya_k A) (ya_x A) (ya_y A) (ya_w A) (yb_o B) (yb_x B) (yb_y B) (yb_z B) (yv_s V) (yv_n V) (yt_z T) (yt_k T) (yt_s T) (yt_n T) (yt_t T) (yt_e T) (yv_o V) (yk_w K) (yk_g K) (yk_s K) (yk_n K) (yl_a L) (yl_t L) (yl_l L))
theorem yw_1 {T T' : gy_T} {K K' : gy_K} {d : Nat} (h : ys_ A B V L T K T' K') (hd : yk_d K = nI (d + 1)) (h8 : d < 8) (hf : yk_f K = 0) : yw_ A B V L 1 T K T' K' := by
  intro post n x hx hk
  refine br_f (nI_ge (b := 21) (by omega) (by decide)) (br_f (by rw [hd]; exact nI_nle (by omega) (by omega)) (br_t hf ?_))
  refine h _ ?_
  exact nm_r (nI_1 x) hk
theorem yw_tr {T T1 T2 : gy_T} {K K1 K2 : gy_K} {c c' : Nat} (a : yw_ A B V L c T K T1 K1) (b : yw_ A B V L c' T1 K1 T2 K2) : yw_ A B V L (c + c') T K T2 K2 := by
  intro post n x hx hk
  have e : n + (c + c') = (n + c') + c := by omega
  rw [e]
  refine a post (n + c') x (by omega) ?_
  refine b post n (x + c) (by omega) ?_
  rw [show x + c + c' = x + (c + c') from by omega]
  exact hk
def yw_q (K K' : gy_K) (d t : Nat) (r : ev_R) : Prop :=
  (r.1 = true → (yk_d K' = nI d ∧ yk_t K' = nI (t + 1) ∧ yk_f K' = 0 ∧ yk_s K' t = r.2.1 ∧ yk_n K' t = r.2.2.1) ∧ (∀ j, j < t → yk_s K' j = yk_s K j ∧ yk_n K' j = yk_n K j) ∧ (∀ j, j < d → yk_w K' j = yk_w K j ∧ yk_g K' j = yk_g K j)) ∧
  (r.1 = false → yk_f K' = 1)
theorem yw_leaf {T : gy_T} {K : gy_K} {e d t : Nat} (hA : ar_1 A e) (he : e < 30) (p0 : ev_pt (ev_k A e) = 0) (hd : yk_d K = nI (d + 1)) (hw : yk_w K d = nI e) (hg : yk_g K d = nI 0) (ht : yk_t K = nI t) (hf : yk_f K = 0) (d8 : d < 8) (t8 : t < 8) :
    ∃ K', yw_ A B V L 1 T K (ev_ A V e T).2.2.2 K' ∧ yw_q K K' d t (ev_ A V e T) := by
  refine ⟨_, yw_1 (ys_leaf hA he hd d8 hw hg p0 ht t8) hd d8 hf, fun _ => ⟨⟨rfl, rfl, hf, pk_us, pk_us⟩, fun j hj => ⟨pk_un (by omega), pk_un (by omega)⟩, fun j hj => ⟨rfl, pk_un (by omega)⟩⟩, fun z => ?_⟩
  exfalso
  rcases ev_pt0 p0 with k | k | k
  · rw [ev_int k] at z; exact Bool.noConfusion (show true = false from z)
  · rw [ev_var k] at z; exact Bool.noConfusion (show true = false from z)
  · rw [ev_new k] at z; exact Bool.noConfusion (show true = false from z)
theorem yw_rs {K0 K K' : gy_K} {d t : Nat} {o : Bool × Int32 × Int32} {T : gy_T} (e : K' = yk_rs K d t o) (hf : yk_f K = 0) (hs : ∀ j, j < t → yk_s K j = yk_s K0 j ∧ yk_n K j = yk_n K0 j) (hw : ∀ j, j < d → yk_w K j = yk_w K0 j ∧ yk_g K j = yk_g K0 j) :
    yw_q K0 K' d t (o.1, o.2.1, o.2.2, T) := by
  subst e
  unfold yk_rs
  refine ⟨fun z => ?_, fun z => ?_⟩
  · have z : o.1 = true := z
    rw [if_pos z]
    refine ⟨⟨rfl, rfl, hf, pk_us, pk_us⟩, fun j hj => ?_, hw⟩
    have := hs j hj
    exact ⟨(pk_un (by omega)).trans this.1, (pk_un (by omega)).trans this.2⟩
  · have z : o.1 = false := z
    rw [if_neg (by rw [z]; decide)]
    rfl
/-- what the walk's lists still hold when a part has been worked out -/
theorem yw_keep {K K2 : gy_K} {d t e c g : Nat} {r : ev_R} (q : yw_q (yk_bg (yk_sg K d g) (d + 1) (nI c)) K2 (d + 1) t r) (hr : r.1 = true) (hw : yk_w K d = nI e) :
    yk_d K2 = nI (d + 1) ∧ yk_t K2 = nI (t + 1) ∧ yk_f K2 = 0 ∧ yk_s K2 t = r.2.1 ∧ yk_n K2 t = r.2.2.1 ∧ yk_w K2 d = nI e ∧ yk_g K2 d = nI (g + 1) ∧ (∀ j, j < t → yk_s K2 j = yk_s K j ∧ yk_n K2 j = yk_n K j) ∧ (∀ j, j < d → yk_w K2 j = yk_w K j ∧ yk_g K2 j = yk_g K j) := by
  obtain ⟨⟨q1, q2, q3, q4, q5⟩, q6, q7⟩ := q.1 hr
  refine ⟨q1, q2, q3, q4, q5, ?_, ?_, q6, ?_⟩
  · rw [(q7 d (by omega)).1]
    exact (pk_un (by omega)).trans hw
  · rw [(q7 d (by omega)).2]
    exact (pk_un (by omega)).trans pk_us
  · intro j hj
    rw [(q7 j (by omega)).1, (q7 j (by omega)).2]
    exact ⟨pk_un (by omega), (pk_un (by omega)).trans (pk_un (by omega))⟩
theorem yw_v2 {T : gy_T} {s p : Int32} (h : yg_v T s p) : s = 2 → ∃ x, x < 24 ∧ p = nI x := by
  intro z
  rcases h with w | w | ⟨_, x, hx, ex, _⟩
  · exact absurd (z.symm.trans w) (by decide)
  · exact absurd (z.symm.trans w) (by decide)
  · exact ⟨x, hx, ex⟩
theorem yw_v3 {T : gy_T} {s p : Int32} (g : yg_ V T) (h : yg_v T s p) : s = 2 → ∃ x z, x < 24 ∧ p = nI x ∧ yt_z T x = nI z ∧ z ≤ 6 := by
  intro z
  rcases h with w | w | ⟨_, x, hx, ex, k⟩
  · exact absurd (z.symm.trans w) (by decide)
  · exact absurd (z.symm.trans w) (by decide)
  · obtain ⟨y, hy, ey, _⟩ := g.2 x hx k
    exact ⟨x, y, hx, ex, ey, hy⟩
def yw_P (A : gy_A) (B : gy_B) (V : gy_V) (L : gy_L) (e : Nat) : Prop :=
  ∀ (d t : Nat) (T : gy_T) (K : gy_K), yk_d K = nI (d + 1) → yk_w K d = nI e → yk_g K d = nI 0 → yk_t K = nI t → yk_f K = 0 → d + ev_w A e ≤ 8 → 2 * t + ev_w A e ≤ 15 → yg_ V T → yg_c T + (ev_w A e + 1) / 2 ≤ 24 →
    ∃ n K', n ≤ 3 * ev_w A e ∧ yw_ A B V L n T K (ev_ A V e T).2.2.2 K' ∧ yw_q K K' d t (ev_ A V e T)
theorem yw_un {c e : Nat} (hA : ar_ok A c) (he : e < c) (p1 : ev_pt (ev_k A e) = 1) (ih : ∀ j, j < e → yw_P A B V L j) : yw_P A B V L e := by
  intro d t T K hd hw hg ht hf hd8 ht8 g hc
  have ha := hA.2.2 e he
  have e30 : e < 30 := by have := hA.2.1; omega
  have hx := ha.2.2.2.2.2.2.1 (by omega)
  have hww := ha.2.2.2.2.2.2.2.2
  rw [if_pos (by omega), if_neg (by omega)] at hww
  have wx := (hA.2.2 _ (Nat.lt_trans hx.2 he)).2.2.2.1
  have s1 := yw_1 (B := B) (L := L) (V := V) (T := T) (ys_bx ha e30 hd (by omega) hw hg (by omega)) hd (by omega) hf
  obtain ⟨n1, K2, hn1, y1, q1⟩ := ih _ hx.2 (d + 1) t T (yk_bg (yk_sg K d 0) (d + 1) (nI (ev_cx A e))) rfl pk_us pk_us ht hf (by omega) (by omega) g (by omega)
  have ygx := ev_yg (V := V) hA _ (Nat.lt_trans hx.2 he) T g (by omega)
  by_cases f : (ev_ A V (ev_cx A e) T).1 = false
  · rw [ev_sub (by omega) hx.2 f]
    refine ⟨1 + n1, K2, by omega, yw_tr s1 y1, fun z => ?_, q1.2⟩
    rw [f] at z; exact absurd z (by decide)
  · have ex := ev_ok f
    have f' : (ev_ A V (ev_cx A e) T).1 = true := by rw [ex]
    obtain ⟨k1, k2, k3, k4, k5, k6, k7, k8, k9⟩ := yw_keep q1 f' hw
    rw [ev_one p1 hx.2 ex]
    have s2 := yw_1 (B := B) (L := L) (V := V) (ys_one (T := (ev_ A V (ev_cx A e) T).2.2.2) ha e30 k1 (by omega) k6 k7 p1 k2 (by omega) k4 k5 (yw_v2 (ygx.2.2.2 f'))) k1 (by omega) k3
    refine ⟨1 + n1 + 1, _, by omega, yw_tr (yw_tr s1 y1) s2, ?_⟩
    exact yw_rs rfl k3 k8 (fun j hj => ⟨(k9 j hj).1, (pk_un (by omega)).trans (k9 j hj).2⟩)
theorem yw_ch {c e : Nat} (hA : ar_ok A c) (he : e < c) (k7' : ev_k A e = 7 ∨ ev_k A e = 8) (ih : ∀ j, j < e → yw_P A B V L j) : yw_P A B V L e := by
  intro d t T K hd hw hg ht hf hd8 ht8 g hc
  have p2 := ys_p2 k7'
  have ha := hA.2.2 e he
  have e30 : e < 30 := by have := hA.2.1; omega
  have hx := ha.2.2.2.2.2.2.1 (by omega)
  have hy := ha.2.2.2.2.2.2.2.1 p2
  have hww := ha.2.2.2.2.2.2.2.2
  rw [if_pos (by omega), if_pos p2] at hww
  have wx := (hA.2.2 _ (Nat.lt_trans hx.2 he)).2.2.2.1
  have wy := (hA.2.2 _ (Nat.lt_trans hy.2 he)).2.2.2.1
  have s1 := yw_1 (B := B) (L := L) (V := V) (T := T) (ys_bx ha e30 hd (by omega) hw hg (by omega)) hd (by omega) hf
  obtain ⟨n1, K2, hn1, y1, q1⟩ := ih _ hx.2 (d + 1) t T (yk_bg (yk_sg K d 0) (d + 1) (nI (ev_cx A e))) rfl pk_us pk_us ht hf (by omega) (by omega) g (by omega)
  have ygx := ev_yg (V := V) hA _ (Nat.lt_trans hx.2 he) T g (by omega)
  by_cases f : (ev_ A V (ev_cx A e) T).1 = false
  · rw [ev_sub (by omega) hx.2 f]
    refine ⟨1 + n1, K2, by omega, yw_tr s1 y1, fun z => ?_, q1.2⟩
    rw [f] at z; exact absurd z (by decide)
  · have ex := ev_ok f
    have f' : (ev_ A V (ev_cx A e) T).1 = true := by rw [ex]
    obtain ⟨k1, k2, k3, k4, k5, k6, k7, k8, k9⟩ := yw_keep q1 f' hw
    rw [ev_cs k7' hx.2 hy.2 ex]
    by_cases cc : decide ((ev_ A V (ev_cx A e) T).2.1 = 0) = decide (ev_k A e = 7)
    · rw [if_pos cc]
      have s2 := yw_1 (B := B) (L := L) (V := V) (ys_stop (T := (ev_ A V (ev_cx A e) T).2.2.2) ha e30 k1 (by omega) k6 k7 k7' k2 (by omega) k4 cc) k1 (by omega) k3
      refine ⟨1 + n1 + 1, _, by omega, yw_tr (yw_tr s1 y1) s2, fun _ => ⟨⟨rfl, k2, k3, k4, k5⟩, k8, fun j hj => ⟨(k9 j hj).1, (pk_un (by omega)).trans (k9 j hj).2⟩⟩, fun z => Bool.noConfusion (show true = false from z)⟩
    · rw [if_neg cc]
      have s2 := yw_1 (B := B) (L := L) (V := V) (ys_go (T := (ev_ A V (ev_cx A e) T).2.2.2) ha e30 k1 (by omega) k6 k7 k7' k2 (by omega) k4 cc) k1 (by omega) k3
      obtain ⟨n2, K4, hn2, y2, q2⟩ := ih _ hy.2 (d + 1) t (ev_ A V (ev_cx A e) T).2.2.2 (yk_bg (yk_tt (yk_sg K2 d 1) t) (d + 1) (nI (ev_cy A e))) rfl pk_us pk_us rfl k3 (by omega) (by omega) ygx.1 (by have := ygx.2.2.1; omega)
      by_cases f2 : (ev_ A V (ev_cy A e) (ev_ A V (ev_cx A e) T).2.2.2).1 = false
      · refine ⟨1 + n1 + 1 + n2, K4, by omega, yw_tr (yw_tr (yw_tr s1 y1) s2) y2, fun z => ?_, q2.2⟩
        rw [f2] at z; exact absurd z (by decide)
      · have f2' : (ev_ A V (ev_cy A e) (ev_ A V (ev_cx A e) T).2.2.2).1 = true := by
          rw [ev_ok f2]
        have q2' : yw_q (yk_bg (yk_sg (yk_tt K2 t) d 1) (d + 1) (nI (ev_cy A e))) K4 (d + 1) t (ev_ A V (ev_cy A e) (ev_ A V (ev_cx A e) T).2.2.2) := q2
        obtain ⟨m1, m2, m3, m4, m5, m6, m7, m8, m9⟩ := yw_keep q2' f2' (K := yk_tt K2 t) k6
        have s3 := yw_1 (B := B) (L := L) (V := V) (ys_end (T := (ev_ A V (ev_cy A e) (ev_ A V (ev_cx A e) T).2.2.2).2.2.2) ha e30 m1 (by omega) m6 m7 k7') m1 (by omega) m3
        refine ⟨1 + n1 + 1 + n2 + 1, _, by omega, yw_tr (yw_tr (yw_tr (yw_tr s1 y1) s2) y2) s3, fun _ => ⟨⟨rfl, m2, m3, m4, m5⟩, fun j hj => ⟨(m8 j hj).1.trans (k8 j hj).1, (m8 j hj).2.trans (k8 j hj).2⟩, fun j hj => ⟨(m9 j hj).1.trans (k9 j hj).1, (pk_un (by omega)).trans ((m9 j hj).2.trans (k9 j hj).2)⟩⟩, fun z => ?_⟩
        rw [f2'] at z; exact absurd z (by decide)
theorem yw_bi {c e : Nat} (hA : ar_ok A c) (he : e < c) (p2 : ev_pt (ev_k A e) = 2) (hn7 : ¬ (ev_k A e = 7 ∨ ev_k A e = 8)) (ih : ∀ j, j < e → yw_P A B V L j) : yw_P A B V L e := by
  intro d t T K hd hw hg ht hf hd8 ht8 g hc
  have ha := hA.2.2 e he
  have e30 : e < 30 := by have := hA.2.1; omega
  have hx := ha.2.2.2.2.2.2.1 (by omega)
  have hy := ha.2.2.2.2.2.2.2.1 p2
  have hww := ha.2.2.2.2.2.2.2.2
  rw [if_pos (by omega), if_pos p2] at hww
  have wx := (hA.2.2 _ (Nat.lt_trans hx.2 he)).2.2.2.1
  have wy := (hA.2.2 _ (Nat.lt_trans hy.2 he)).2.2.2.1
  have s1 := yw_1 (B := B) (L := L) (V := V) (T := T) (ys_bx ha e30 hd (by omega) hw hg (by omega)) hd (by omega) hf
  obtain ⟨n1, K2, hn1, y1, q1⟩ := ih _ hx.2 (d + 1) t T (yk_bg (yk_sg K d 0) (d + 1) (nI (ev_cx A e))) rfl pk_us pk_us ht hf (by omega) (by omega) g (by omega)
  have ygx := ev_yg (V := V) hA _ (Nat.lt_trans hx.2 he) T g (by omega)
  by_cases f : (ev_ A V (ev_cx A e) T).1 = false
  · rw [ev_sub (by omega) hx.2 f]
    refine ⟨1 + n1, K2, by omega, yw_tr s1 y1, fun z => ?_, q1.2⟩
    rw [f] at z; exact absurd z (by decide)
  · have ex := ev_ok f
    have f' : (ev_ A V (ev_cx A e) T).1 = true := by rw [ex]
    obtain ⟨k1, k2, k3, k4, k5, k6, k7, k8, k9⟩ := yw_keep q1 f' hw
    have s2 := yw_1 (B := B) (L := L) (V := V) (ys_by (T := (ev_ A V (ev_cx A e) T).2.2.2) ha e30 k1 (by omega) k6 k7 p2 hn7) k1 (by omega) k3
    have ygy := ev_yg (V := V) hA _ (Nat.lt_trans hy.2 he) (ev_ A V (ev_cx A e) T).2.2.2 ygx.1 (by have := ygx.2.2.1; omega)
    obtain ⟨n2, K4, hn2, y2, q2⟩ := ih _ hy.2 (d + 1) (t + 1) (ev_ A V (ev_cx A e) T).2.2.2 (yk_bg (yk_sg K2 d 1) (d + 1) (nI (ev_cy A e))) rfl pk_us pk_us k2 k3 (by omega) (by omega) ygx.1 (by have := ygx.2.2.1; omega)
    by_cases f2 : (ev_ A V (ev_cy A e) (ev_ A V (ev_cx A e) T).2.2.2).1 = false
    · rw [ev_two0 p2 hn7 hx.2 hy.2 ex f2]
      refine ⟨1 + n1 + 1 + n2, K4, by omega, yw_tr (yw_tr (yw_tr s1 y1) s2) y2, fun z => ?_, q2.2⟩
      rw [f2] at z; exact absurd z (by decide)
    · have f2' : (ev_ A V (ev_cy A e) (ev_ A V (ev_cx A e) T).2.2.2).1 = true := by
        rw [ev_ok f2]
      obtain ⟨m1, m2, m3, m4, m5, m6, m7, m8, m9⟩ := yw_keep q2 f2' k6
      rw [ev_two1 p2 hn7 hx.2 hy.2 ex (ev_ok f2)]
      have s3 := yw_1 (B := B) (L := L) (V := V) (ys_two (T := (ev_ A V (ev_cy A e) (ev_ A V (ev_cx A e) T).2.2.2).2.2.2) ha e30 m1 (by omega) m6 m7 p2 hn7 m2 (by omega) ((m8 t (by omega)).1.trans k4) ((m8 t (by omega)).2.trans k5) m4 m5 (yw_v3 ygy.1 (yg_v_le ygy.2.1 (ygx.2.2.2 f')))) m1 (by omega) m3
      refine ⟨1 + n1 + 1 + n2 + 1, _, by omega, yw_tr (yw_tr (yw_tr (yw_tr s1 y1) s2) y2) s3, ?_⟩
      exact yw_rs rfl m3 (fun j hj => ⟨(m8 j (by omega)).1.trans (k8 j hj).1, (m8 j (by omega)).2.trans (k8 j hj).2⟩) (fun j hj => ⟨(m9 j hj).1.trans (k9 j hj).1, (pk_un (by omega)).trans ((m9 j hj).2.trans (k9 j hj).2)⟩)
theorem yw_ev {c : Nat} (hA : ar_ok A c) : ∀ e, e < c → yw_P A B V L e := by
  intro e
  induction e using Nat.strongRecOn with
  | ind e ih =>
    intro he
    have ih' : ∀ j, j < e → yw_P A B V L j := fun j hj => ih j hj (by omega)
    rcases ev_ptc (ev_k A e) with p0 | p1 | p2
    · intro d t T K hd hw hg ht hf hd8 ht8 g hc
      have ha := hA.2.2 e he
      have w1 := ha.2.2.2.1
      obtain ⟨K', y, q⟩ := yw_leaf (B := B) (V := V) (L := L) (T := T) ha (by have := hA.2.1; omega) p0 hd hw hg ht hf (by omega) (by omega)
      exact ⟨1, K', by omega, y, q⟩
    · exact yw_un hA he p1 ih'
    · by_cases k7 : ev_k A e = 7 ∨ ev_k A e = 8
      · exact yw_ch hA he k7 ih'
      · exact yw_bi hA he p2 k7 ih'
/-- an expression's value is put behind those found so far -/
theorem yw_work {c e t : Nat} {T : gy_T} {K : gy_K} (hA : ar_ok A c) (he : e < c) (ht : yk_t K = nI t) (hf : yk_f K = 0) (ht8 : 2 * t + ev_w A e ≤ 15) (g : yg_ V T) (hc : yg_c T + (ev_w A e + 1) / 2 ≤ 24) :
    ∃ K', (∀ post : SY → Prop, post (yk A B V (ev_ A V e T).2.2.2 K' L) → wpY_work post (yk A B V T K L) (nI e)) ∧
      ((ev_ A V e T).1 = true → yk_t K' = nI (t + 1) ∧ yk_f K' = 0 ∧ yk_s K' t = (ev_ A V e T).2.1 ∧ yk_n K' t = (ev_ A V e T).2.2.1 ∧ (∀ j, j < t → yk_s K' j = yk_s K j ∧ yk_n K' j = yk_n K j)) ∧
      ((ev_ A V e T).1 = false → yk_f K' = 1) := by
  have w7 := (hA.2.2 e he).2.2.2.2.1
  obtain ⟨n, K', hn, y, q⟩ := yw_ev (B := B) (V := V) (L := L) hA e he 0 t T (yk_bg (yk_dd K 0) 0 (nI e)) rfl (pk_us (f := yk_w (yk_dd K 0)) (k := 0) (x := nI e)) (pk_us (f := yk_g (yk_dd K 0)) (k := 0) (x := 0)) ht hf (by omega) ht8 g hc
  refine ⟨K', fun post h => ?_, fun z => ?_, q.2⟩
  · unfold wpY_work yk
    dsimp only
    refine ym_begin (K := yk_dd K 0) (d := 0) rfl (by omega) ?_
    refine ⟨1 + n, ?_⟩
    have := y post 1 0 (by omega)
    rw [nI_0] at this
    refine this ?_
    cases hr : (ev_ A V e T).1 with
    | true =>
      obtain ⟨⟨r1, _⟩, _⟩ := q.1 hr
      refine pk_le 21 (0 + n) (fun _ => h) (fun _ => ?_)
      exact br_t (by rw [r1]; exact Int32.le_refl _) h
    | false =>
      have r1 := q.2 hr
      refine pk_le 21 (0 + n) (fun _ => h) (fun _ => ?_)
      refine br_c (fun _ => h) (fun _ => ?_)
      exact br_f (by rw [r1]; decide) h
  · obtain ⟨⟨_, r2, r3, r4, r5⟩, r6, _⟩ := q.1 z
    exact ⟨r2, r3, r4, r5, fun j hj => r6 j hj⟩
end
end
section
/-! the component: registers, one step of the machine -/
section
variable {E : gx_E} {S : gx_S} {C : gx_C} {W : gx_W} {O : gx_O} {M : gx_M} {H : gx_H}
def xm_rg (M : gx_M) (r : Nat) (s n : Int32) : gx_M := (xm_c M, xm_h M, upd (xm_s M) r s, upd (xm_n M) r n, xm_l M, xm_m M, xm_v M)
theorem xr_set {post : SX → Prop} {r : Nat} {s s' n : Int32} (hr : r < 18) (hs : vp_nar .byte s.toInt8.toInt32 = s') (h : post (xk E S C W O (xm_rg M r s' n) H)) : wpX_setRegister post (xk E S C W O M H) (nI r) s n := by
  refine ix_st r 18 s' hr ?_ rfl hs
  refine ix_st r 18 n hr ?_
  exact h
theorem xr_clear {post : SX → Prop} {r : Nat} (hr : r < 18) (h : post (xk E S C W O (xm_rg M r 0 0) H)) : wpX_clearRegister post (xk E S C W O M H) (nI r) := by
  refine ix_st r 18 0 hr ?_ rfl (by_v (n := 0) (by omega))
  refine ix_st r 18 0 hr ?_
  exact h
theorem xr_truth {post : SX → Prop} {r : Nat} (b : Bool) (hr : r < 18) (h : post (xk E S C W O (xm_rg M r (ev_tr b) (ev_tr b)) H)) : wpX_setTruth post (xk E S C W O M H) (nI r) (ev_tr b) := by
  cases b with
  | true =>
    refine br_f (by decide) ?_
    refine br_f (by decide) ?_
    exact xr_set hr (by_n (n := 1) (by omega)) h
  | false =>
    refine br_t rfl ?_
    refine br_t rfl ?_
    exact xr_set hr (by_n (n := 0) (by omega)) h
theorem xr_same {post : Int32 → Prop} {r q : Nat} (hr : r < 18) (hq : q < 18) (h : post (ev_tr (decide (xm_s M r = xm_s M q ∧ xm_n M r = xm_n M q)))) : wpX_sameValue post (xk E S C W O M H) (nI r) (nI q) := by
  refine And.intro (by_in hr) (And.intro (by_in hq) ?_)
  rw [ix_ev (a := xm_s M) (i := nI r) rfl, ix_ev (a := xm_s M) (i := nI q) rfl, ix_ev (a := xm_n M) (i := nI r) rfl, ix_ev (a := xm_n M) (i := nI q) rfl]
  by_cases a : xm_s M r = xm_s M q
  · refine br_t a ⟨by_in hr, by_in hq, ?_⟩
    by_cases b : xm_n M r = xm_n M q
    · rw [decide_eq_true ⟨a, b⟩] at h
      exact br_t b h
    · rw [decide_eq_false (fun w => b w.2)] at h
      exact br_f b h
  · rw [decide_eq_false (fun w => a w.1)] at h
    exact br_f a h
def xg_ (E : gx_E) (S : gx_S) (C : gx_C) (W : gx_W) (O : gx_O) (p : Nat) (M : gx_M) (H : gx_H) (q : Nat) (M' : gx_M) (H' : gx_H) : Prop :=
  ∀ (post : Int32 → SX → Prop) (n : Nat), (wX_execute_2 post n (nI q) (xe_n E) (xs_n S) (xc_f C) (xc_n C) (xo_n O) (xm_c M') (xm_h M') (xh_u H') (xh_r H') (xe_k E) (xe_x E) (xe_y E) (xe_w E) (xe_s E) (xe_i E) (xe_a E) (xs_o S) (xs_x S) (xs_y S) (xs_z S) (xc_o C) (xc_a C) (xc_b C) (xc_c C) (xc_k C) (xw_n W) (xw_r W) (xw_p W) (xw_t W) (xo_e O) (xo_l O) (xo_p O) (xm_s M') (xm_n M') (xm_l M') (xm_m M') (xm_v M') (xh_k H') (xh_s H') (xh_n H') (xh_c H')) → ∃ n', (wX_execute_2 post n' (nI p) (xe_n E) (xs_n S) (xc_f C) (xc_n C) (xo_n O) (xm_c M) (xm_h M) (xh_u H) (xh_r H) (xe_k E) (xe_x E) (xe_y E) (xe_w E) (xe_s E) (xe_i E) (xe_a E) (xs_o S) (xs_x S) (xs_y S) (xs_z S) (xc_o C) (xc_a C) (xc_b C) (xc_c C) (xc_k C) (xw_n W) (xw_r W) (xw_p W) (xw_t W) (xo_e O) (xo_l O) (xo_p O) (xm_s M) (xm_n M) (xm_l M) (xm_m M) (xm_v M) (xh_k H) (xh_s H) (xh_n H) (xh_c H))
def xf_ (E : gx_E) (S : gx_S) (C : gx_C) (W : gx_W) (O : gx_O) (p : Nat) (M : gx_M) (H : gx_H) (M' : gx_M) (H' : gx_H) : Prop :=
  ∀ (post : Int32 → SX → Prop), post (xm_c M') (xk E S C W O M' H') → ∃ n', (wX_execute_2 post n' (nI p) (xe_n E) (xs_n S) (xc_f C) (xc_n C) (xo_n O) (xm_c M) (xm_h M) (xh_u H) (xh_r H) (xe_k E) (xe_x E) (xe_y E) (xe_w E) (xe_s E) (xe_i E) (xe_a E) (xs_o S) (xs_x S) (xs_y S) (xs_z S) (xc_o C) (xc_a C) (xc_b C) (xc_c C) (xc_k C) (xw_n W) (xw_r W) (xw_p W) (xw_t W) (xo_e O) (xo_l O) (xo_p O) (xm_s M) (xm_n M) (xm_l M) (xm_m M) (xm_v M) (xh_k H) (xh_s H) (xh_n H) (xh_c H))
theorem xg_rf {p : Nat} : xg_ E S C W O p M H p M H := fun _ n h => ⟨n, h⟩
theorem xg_tr {p q r : Nat} {M1 M2 : gx_M} {H1 H2 : gx_H} (a : xg_ E S C W O p M H q M1 H1) (b : xg_ E S C W O q M1 H1 r M2 H2) : xg_ E S C W O p M H r M2 H2 := by
  intro post n h
  obtain ⟨n', h'⟩ := b post n h
  exact a post n' h'
theorem xg_f {p q : Nat} {M1 M2 : gx_M} {H1 H2 : gx_H} (a : xg_ E S C W O p M H q M1 H1) (b : xf_ E S C W O q M1 H1 M2 H2) : xf_ E S C W O p M H M2 H2 := by
  intro post h
  obtain ⟨n', h'⟩ := b post h
  exact a post n' h'
theorem xi_jump {p q z : Nat} (hz : xc_n C = nI z) (hp : p < z) (h350 : z ≤ 350) (ho : xc_o C p = 17) (hq : xc_k C p = nI q) : xg_ E S C W O p M H q M H := by
  intro post n h
  refine ⟨n + 1, br_f (by rw [hz]; exact nI_ge hp (by omega)) (And.intro (by_in (by omega)) (nm_r ((ix_ev rfl).trans ho) (nm_e (br_t rfl (And.intro (by_in (by omega)) (nm_r ((ix_ev rfl).trans hq) ?_))))))⟩
  exact br_t rfl h
theorem xi_ifn {p q z r : Nat} (hz : xc_n C = nI z) (hp : p < z) (h350 : z ≤ 350) (ho : xc_o C p = 19) (hr : xc_a C p = nI r) (hr18 : r < 18) (hq : xc_k C p = nI q) : xg_ E S C W O p M H (if xm_s M r = 0 then q else p + 1) M H := by
  intro post n h
  refine ⟨n + 1, br_f (by rw [hz]; exact nI_ge hp (by omega)) (And.intro (by_in (by omega)) (nm_r ((ix_ev rfl).trans ho) (nm_r (nI_1 p) (br_f (by decide) (br_t rfl (And.intro (by_in (by omega)) ?_))))))⟩
  rw [ix_ev (a := xc_a C) (i := nI p) rfl, hr, ix_ev (a := xm_s M) (i := nI r) rfl, ix_ev (a := xc_k C) (i := nI p) rfl, hq]
  refine ⟨by_in hr18, ?_⟩
  by_cases e : xm_s M r = 0
  · rw [if_pos e] at h
    exact br_t e ⟨by_in (by omega), br_t rfl h⟩
  · rw [if_neg e] at h
    exact br_f e (br_t rfl h)
theorem xi_ifs {p q z r : Nat} (hz : xc_n C = nI z) (hp : p < z) (h350 : z ≤ 350) (ho : xc_o C p = 20) (hr : xc_a C p = nI r) (hr18 : r < 18) (hq : xc_k C p = nI q) : xg_ E S C W O p M H (if xm_s M r = 0 then p + 1 else q) M H := by
  intro post n h
  refine ⟨n + 1, br_f (by rw [hz]; exact nI_ge hp (by omega)) (And.intro (by_in (by omega)) (nm_r ((ix_ev rfl).trans ho) (nm_r (nI_1 p) (br_f (by decide) (br_f (by decide) (br_t rfl (And.intro (by_in (by omega)) ?_)))))))⟩
  rw [ix_ev (a := xc_a C) (i := nI p) rfl, hr, ix_ev (a := xm_s M) (i := nI r) rfl, ix_ev (a := xc_k C) (i := nI p) rfl, hq]
  refine ⟨by_in hr18, ?_⟩
  by_cases e : xm_s M r = 0
  · rw [if_pos e] at h
    exact br_t e (br_t rfl h)
  · rw [if_neg e] at h
    exact br_f e ⟨by_in (by omega), br_t rfl h⟩
/-- operations that only work out a value -/
theorem xi_calc1 {p z o : Nat} {M' : gx_M} {H' : gx_H} (hz : xc_n C = nI z) (hp : p < z) (h350 : z ≤ 350) (ho : xc_o C p = nI o) (h10 : o ≤ 10) (hc : ∀ post : Int32 → SX → Prop, post 1 (xk E S C W O M' H') → wpX_calculate post (xk E S C W O M H) (nI o) (nI p)) : xg_ E S C W O p M H (p + 1) M' H' := by
  intro post n h
  refine ⟨n + 1, br_f (by rw [hz]; exact nI_ge hp (by omega)) (And.intro (by_in (by omega)) (nm_r ((ix_ev rfl).trans ho) (nm_r (nI_1 p) ?_)))⟩
  refine pk_eq o 17 (fun _ => by omega) (fun _ => ?_)
  refine pk_eq o 19 (fun _ => by omega) (fun _ => ?_)
  refine pk_eq o 20 (fun _ => by omega) (fun _ => ?_)
  refine pk_eq o 16 (fun _ => by omega) (fun _ => ?_)
  refine pk_lt 10 o (fun _ => by omega) (fun _ => ?_)
  refine hc _ ?_
  exact br_f (by decide) (br_t rfl h)
theorem xi_calc0 {p z o : Nat} {M' : gx_M} {H' : gx_H} (hz : xc_n C = nI z) (hp : p < z) (h350 : z ≤ 350) (ho : xc_o C p = nI o) (h10 : o ≤ 10) (hc : ∀ post : Int32 → SX → Prop, post 0 (xk E S C W O M' H') → wpX_calculate post (xk E S C W O M H) (nI o) (nI p)) : xf_ E S C W O p M H M' H' := by
  intro post h
  refine ⟨1, br_f (by rw [hz]; exact nI_ge hp (by omega)) (And.intro (by_in (by omega)) (nm_r ((ix_ev rfl).trans ho) (nm_r (nI_1 p) ?_)))⟩
  refine pk_eq o 17 (fun _ => by omega) (fun _ => ?_)
  refine pk_eq o 19 (fun _ => by omega) (fun _ => ?_)
  refine pk_eq o 20 (fun _ => by omega) (fun _ => ?_)
  refine pk_eq o 16 (fun _ => by omega) (fun _ => ?_)
  refine pk_lt 10 o (fun _ => by omega) (fun _ => ?_)
  refine hc _ ?_
  exact br_t rfl (br_f (by decide) h)
/-- operations that do something -/
theorem xi_act1 {p z o : Nat} {M' : gx_M} {H' : gx_H} (hz : xc_n C = nI z) (hp : p < z) (h350 : z ≤ 350) (ho : xc_o C p = nI o) (h10 : 10 < o) (h18 : o ≤ 18) (n16 : o ≠ 16) (n17 : o ≠ 17) (hc : ∀ post : Int32 → SX → Prop, post 1 (xk E S C W O M' H') → wpX_act post (xk E S C W O M H) (nI o) (nI p)) : xg_ E S C W O p M H (p + 1) M' H' := by
  intro post n h
  refine ⟨n + 1, br_f (by rw [hz]; exact nI_ge hp (by omega)) (And.intro (by_in (by omega)) (nm_r ((ix_ev rfl).trans ho) (nm_r (nI_1 p) ?_)))⟩
  refine pk_eq o 17 (fun _ => by omega) (fun _ => ?_)
  refine pk_eq o 19 (fun _ => by omega) (fun _ => ?_)
  refine pk_eq o 20 (fun _ => by omega) (fun _ => ?_)
  refine pk_eq o 16 (fun _ => by omega) (fun _ => ?_)
  refine pk_lt 10 o (fun _ => ?_) (fun _ => by omega)
  refine hc _ ?_
  exact br_f (by decide) (br_t rfl h)
theorem xi_act0 {p z o : Nat} {M' : gx_M} {H' : gx_H} (hz : xc_n C = nI z) (hp : p < z) (h350 : z ≤ 350) (ho : xc_o C p = nI o) (h10 : 10 < o) (h18 : o ≤ 18) (n16 : o ≠ 16) (n17 : o ≠ 17) (hc : ∀ post : Int32 → SX → Prop, post 0 (xk E S C W O M' H') → wpX_act post (xk E S C W O M H) (nI o) (nI p)) : xf_ E S C W O p M H M' H' := by
  intro post h
  refine ⟨1, br_f (by rw [hz]; exact nI_ge hp (by omega)) (And.intro (by_in (by omega)) (nm_r ((ix_ev rfl).trans ho) (nm_r (nI_1 p) ?_)))⟩
  refine pk_eq o 17 (fun _ => by omega) (fun _ => ?_)
  refine pk_eq o 19 (fun _ => by omega) (fun _ => ?_)
  refine pk_eq o 20 (fun _ => by omega) (fun _ => ?_)
  refine pk_eq o 16 (fun _ => by omega) (fun _ => ?_)
  refine pk_lt 10 o (fun _ => ?_) (fun _ => by omega)
  refine hc _ ?_
  exact br_t rfl (br_f (by decide) h)
end
end
section
/-! the component: the operations that work out a value -/
section
variable {E : gx_E} {S : gx_S} {C : gx_C} {W : gx_W} {O : gx_O} {M : gx_M} {H : gx_H}
def in_ (C : gx_C) (p o a b c : Nat) (k : Int32) : Prop := xc_o C p = nI o ∧ xc_a C p = nI a ∧ xc_b C p = nI b ∧ xc_c C p = nI c ∧ xc_k C p = k
def cb_ (C : gx_C) (p : Nat) : Prop := ∃ z, xc_n C = nI z ∧ p < z ∧ z ≤ 350
theorem bs_ {s : Int32} (h : s = 0 ∨ s = 1 ∨ s = 2) : vp_nar .byte s.toInt8.toInt32 = s := by
  rcases h with e | e | e
  · rw [e]; exact by_n (n := 0) (by omega)
  · rw [e]; exact by_n (n := 1) (by omega)
  · rw [e]; exact by_n (n := 2) (by omega)
theorem xo_pre {post : Int32 → SX → Prop} {p a b c : Nat} {P : Int32 → Int32 → Int32 → Prop} (hp : p < 350) (ha : xc_a C p = nI a) (hb : xc_b C p = nI b) (hc : xc_c C p = nI c) (h : P (nI a) (nI b) (nI c)) :
    vp_in (nI p) 350 ∧ ∀ x3 : Int32, x3 = xc_a C (nI p).toNatClampNeg → (vp_in (nI p) 350 ∧ ∀ x4 : Int32, x4 = xc_b C (nI p).toNatClampNeg → (vp_in (nI p) 350 ∧ ∀ x5 : Int32, x5 = xc_c C (nI p).toNatClampNeg → P x3 x4 x5)) := by
  refine ⟨by_in hp, nm_r ((ix_ev rfl).trans ha) ⟨by_in hp, nm_r ((ix_ev rfl).trans hb) ⟨by_in hp, nm_r ((ix_ev rfl).trans hc) h⟩⟩⟩
theorem xi_load {p a : Nat} {k : Int32} (hc : cb_ C p) (hi : in_ C p 0 a 0 0 k) (ha : a < 18) : xg_ E S C W O p M H (p + 1) (xm_rg M a 1 k) H := by
  obtain ⟨z, hz, hp, h350⟩ := hc
  obtain ⟨i1, i2, i3, i4, i5⟩ := hi
  refine xi_calc1 hz hp h350 i1 (by omega) (fun post h => ?_)
  refine And.intro (by_in (by omega)) (nm_r ((ix_ev rfl).trans i2) (And.intro (by_in (by omega)) (nm_r ((ix_ev rfl).trans i3) (And.intro (by_in (by omega)) (nm_r ((ix_ev rfl).trans i4) ?_)))))
  refine br_t rfl ⟨by_in (by omega), ?_⟩
  rw [ix_ev (a := xc_k C) (i := nI p) rfl, i5]
  exact xr_set ha (by_n (n := 1) (by omega)) h
theorem xi_nothing {p a : Nat} {k : Int32} (hc : cb_ C p) (hi : in_ C p 7 a 0 0 k) (ha : a < 18) : xg_ E S C W O p M H (p + 1) (xm_rg M a 0 0) H := by
  obtain ⟨z, hz, hp, h350⟩ := hc
  obtain ⟨i1, i2, i3, i4, i5⟩ := hi
  refine xi_calc1 hz hp h350 i1 (by omega) (fun post h => ?_)
  refine And.intro (by_in (by omega)) (nm_r ((ix_ev rfl).trans i2) (And.intro (by_in (by omega)) (nm_r ((ix_ev rfl).trans i3) (And.intro (by_in (by omega)) (nm_r ((ix_ev rfl).trans i4) ?_)))))
  refine br_f (by decide) (br_t rfl ?_)
  exact xr_clear ha h
theorem xi_move {p a b : Nat} {k : Int32} (hc : cb_ C p) (hi : in_ C p 1 a b 0 k) (ha : a < 18) (hb : b < 18) (hs : xm_s M b = 0 ∨ xm_s M b = 1 ∨ xm_s M b = 2) : xg_ E S C W O p M H (p + 1) (xm_rg M a (xm_s M b) (xm_n M b)) H := by
  obtain ⟨z, hz, hp, h350⟩ := hc
  obtain ⟨i1, i2, i3, i4, i5⟩ := hi
  refine xi_calc1 hz hp h350 i1 (by omega) (fun post h => ?_)
  refine And.intro (by_in (by omega)) (nm_r ((ix_ev rfl).trans i2) (And.intro (by_in (by omega)) (nm_r ((ix_ev rfl).trans i3) (And.intro (by_in (by omega)) (nm_r ((ix_ev rfl).trans i4) ?_)))))
  refine br_f (by decide) (br_f (by decide) (br_t rfl ⟨by_in hb, by_in hb, ?_⟩))
  rw [ix_ev (a := xm_s M) (i := nI b) rfl, ix_ev (a := xm_n M) (i := nI b) rfl]
  exact xr_set ha (bs_ hs) h
theorem xr_setSame {post : SX → Prop} {a b c : Nat} (ha : a < 18) (hb : b < 18) (hc : c < 18) (h : post (xk E S C W O (xm_rg M a (ev_tr (decide (xm_s M b = xm_s M c ∧ xm_n M b = xm_n M c))) (ev_tr (decide (xm_s M b = xm_s M c ∧ xm_n M b = xm_n M c)))) H)) : wpX_setSame post (xk E S C W O M H) (nI a) (nI b) (nI c) := by
  unfold wpX_setSame xk
  dsimp only
  refine xr_same (E := E) (S := S) (C := C) (W := W) (O := O) (M := M) (H := H) hb hc ?_
  exact xr_truth _ ha h
theorem xi_same {p a b c : Nat} {k : Int32} (hc : cb_ C p) (hi : in_ C p 6 a b c k) (ha : a < 18) (hb : b < 18) (hc18 : c < 18) : xg_ E S C W O p M H (p + 1) (xm_rg M a (ev_tr (decide (xm_s M b = xm_s M c ∧ xm_n M b = xm_n M c))) (ev_tr (decide (xm_s M b = xm_s M c ∧ xm_n M b = xm_n M c)))) H := by
  obtain ⟨z, hz, hp, h350⟩ := hc
  obtain ⟨i1, i2, i3, i4, i5⟩ := hi
  refine xi_calc1 hz hp h350 i1 (by omega) (fun post h => ?_)
  refine And.intro (by_in (by omega)) (nm_r ((ix_ev rfl).trans i2) (And.intro (by_in (by omega)) (nm_r ((ix_ev rfl).trans i3) (And.intro (by_in (by omega)) (nm_r ((ix_ev rfl).trans i4) ?_)))))
  refine br_f (by decide) (br_f (by decide) (br_f (by decide) (br_t rfl ?_)))
  exact xr_setSame ha hb hc18 h
theorem xi_not {p a b : Nat} {k : Int32} (hc : cb_ C p) (hi : in_ C p 9 a b 0 k) (ha : a < 18) (hb : b < 18) : xg_ E S C W O p M H (p + 1) (xm_rg M a (ev_tr (decide (xm_s M b = 0))) (ev_tr (decide (xm_s M b = 0)))) H := by
  obtain ⟨z, hz, hp, h350⟩ := hc
  obtain ⟨i1, i2, i3, i4, i5⟩ := hi
  refine xi_calc1 hz hp h350 i1 (by omega) (fun post h => ?_)
  refine And.intro (by_in (by omega)) (nm_r ((ix_ev rfl).trans i2) (And.intro (by_in (by omega)) (nm_r ((ix_ev rfl).trans i3) (And.intro (by_in (by omega)) (nm_r ((ix_ev rfl).trans i4) ?_)))))
  refine br_f (by decide) (br_f (by decide) (br_f (by decide) (br_f (by decide) (br_t rfl ⟨by_in hb, ?_⟩))))
  rw [ix_ev (a := xm_s M) (i := nI b) rfl]
  by_cases e : xm_s M b = 0
  · refine br_t e ?_
    rw [decide_eq_true e] at h
    exact xr_truth true ha h
  · refine br_f e ?_
    rw [decide_eq_false e] at h
    exact xr_truth false ha h
theorem xi_ar {p a b c o : Nat} {k : Int32} (hc : cb_ C p) (hi : in_ C p o a b c k) (h2 : 2 ≤ o) (h4 : o ≤ 4) (ha : a < 18) (hb : b < 18) (hc18 : c < 18) (s1 : xm_s M b = 1) (s2 : xm_s M c = 1) :
    xg_ E S C W O p M H (p + 1) (xm_rg M a 1 (if o = 2 then xm_n M b + xm_n M c else if o = 3 then xm_n M b - xm_n M c else xm_n M b * xm_n M c)) H := by
  obtain ⟨z, hz, hp, h350⟩ := hc
  obtain ⟨i1, i2, i3, i4, i5⟩ := hi
  refine xi_calc1 hz hp h350 i1 (by omega) (fun post h => ?_)
  refine And.intro (by_in (by omega)) (nm_r ((ix_ev rfl).trans i2) (And.intro (by_in (by omega)) (nm_r ((ix_ev rfl).trans i3) (And.intro (by_in (by omega)) (nm_r ((ix_ev rfl).trans i4) ?_)))))
  refine pk_eq o 0 (fun _ => by omega) (fun _ => pk_eq o 7 (fun _ => by omega) (fun _ => pk_eq o 1 (fun _ => by omega) (fun _ => pk_eq o 6 (fun _ => by omega) (fun _ => pk_eq o 9 (fun _ => by omega) (fun _ => pk_eq o 10 (fun _ => by omega) (fun _ => ?_))))))
  refine ⟨by_in hb, br_t (ix_rd s1) ⟨by_in hc18, br_t (ix_rd s2) ⟨by_in hb, nm_r (ix_ev rfl) ⟨by_in hc18, nm_r (ix_ev rfl) ?_⟩⟩⟩⟩
  refine pk_eq o 5 (fun _ => by omega) (fun _ => ?_)
  refine pk_eq o 2 (fun e => ?_) (fun e => ?_)
  · rw [if_pos e] at h
    exact xr_set ha (by_n (n := 1) (by omega)) h
  · rw [if_neg e] at h
    refine pk_eq o 3 (fun e => ?_) (fun e => ?_)
    · rw [if_pos e] at h
      exact xr_set ha (by_n (n := 1) (by omega)) h
    · rw [if_neg e] at h
      exact xr_set ha (by_n (n := 1) (by omega)) h
theorem xi_less {p a b c : Nat} {k : Int32} (hc : cb_ C p) (hi : in_ C p 5 a b c k) (ha : a < 18) (hb : b < 18) (hc18 : c < 18) (s1 : xm_s M b = 1) (s2 : xm_s M c = 1) :
    xg_ E S C W O p M H (p + 1) (xm_rg M a (ev_tr (decide (xm_n M b < xm_n M c))) (ev_tr (decide (xm_n M b < xm_n M c)))) H := by
  obtain ⟨z, hz, hp, h350⟩ := hc
  obtain ⟨i1, i2, i3, i4, i5⟩ := hi
  refine xi_calc1 hz hp h350 i1 (by omega) (fun post h => ?_)
  refine And.intro (by_in (by omega)) (nm_r ((ix_ev rfl).trans i2) (And.intro (by_in (by omega)) (nm_r ((ix_ev rfl).trans i3) (And.intro (by_in (by omega)) (nm_r ((ix_ev rfl).trans i4) ?_)))))
  refine br_f (by decide) (br_f (by decide) (br_f (by decide) (br_f (by decide) (br_f (by decide) (br_f (by decide) ?_)))))
  refine ⟨by_in hb, br_t (ix_rd s1) ⟨by_in hc18, br_t (ix_rd s2) ⟨by_in hb, nm_r (ix_ev rfl) ⟨by_in hc18, nm_r (ix_ev rfl) ?_⟩⟩⟩⟩
  refine br_t rfl ?_
  by_cases e : xm_n M c ≤ xm_n M b
  · refine br_t e ?_
    rw [decide_eq_false (fun w => absurd e (Int32.not_le.mpr w))] at h
    exact xr_truth false ha h
  · refine br_f e ?_
    rw [decide_eq_true (Int32.not_le.mp e)] at h
    exact xr_truth true ha h
theorem xi_arf {p a b c o : Nat} {k : Int32} (hc : cb_ C p) (hi : in_ C p o a b c k) (h2 : 2 ≤ o) (h5 : o ≤ 5) (hb : b < 18) (hc18 : c < 18) (hn : ¬ (xm_s M b = 1 ∧ xm_s M c = 1)) : xf_ E S C W O p M H M H := by
  obtain ⟨z, hz, hp, h350⟩ := hc
  obtain ⟨i1, i2, i3, i4, i5⟩ := hi
  refine xi_calc0 hz hp h350 i1 (by omega) (fun post h => ?_)
  refine And.intro (by_in (by omega)) (nm_r ((ix_ev rfl).trans i2) (And.intro (by_in (by omega)) (nm_r ((ix_ev rfl).trans i3) (And.intro (by_in (by omega)) (nm_r ((ix_ev rfl).trans i4) ?_)))))
  refine pk_eq o 0 (fun _ => by omega) (fun _ => pk_eq o 7 (fun _ => by omega) (fun _ => pk_eq o 1 (fun _ => by omega) (fun _ => pk_eq o 6 (fun _ => by omega) (fun _ => pk_eq o 9 (fun _ => by omega) (fun _ => pk_eq o 10 (fun _ => by omega) (fun _ => ?_))))))
  refine ⟨by_in hb, ?_⟩
  by_cases s1 : xm_s M b = 1
  · refine br_t (ix_rd s1) ⟨by_in hc18, br_f (ix_rn (fun w => hn ⟨s1, w⟩)) h⟩
  · exact br_f (ix_rn s1) h
theorem xp_loop {post : Int32 → Prop} {t : Nat} {key : Int32} {i : Nat} (ht : t < 32) (hat : hs_at (xh_s H) (xh_k H) (8 * t) key i) (h : post (nI (8 * t + (hs_h key + i) % 8))) : ∀ (d i' : Nat), i' + d = i →
    (wX_placeOf_6 post (nI t) key (xe_n E) (xs_n S) (xc_f C) (xc_n C) (xo_n O) (xm_c M) (xm_h M) (xh_u H) (xh_r H) (xe_k E) (xe_x E) (xe_y E) (xe_w E) (xe_s E) (xe_i E) (xe_a E) (xs_o S) (xs_x S) (xs_y S) (xs_z S) (xc_o C) (xc_a C) (xc_b C) (xc_c C) (xc_k C) (xw_n W) (xw_r W) (xw_p W) (xw_t W) (xo_e O) (xo_l O) (xo_p O) (xm_s M) (xm_n M) (xm_l M) (xm_m M) (xm_v M) (xh_k H) (xh_s H) (xh_n H) (xh_c H) (d + 1) (nI ((hs_h key + i') % 8))) := by
  have ie : ∀ j, (8 : Int32) * nI t + nI j = nI (8 * t + j) := fun j => by
    show nI 8 * nI t + nI j = _
    rw [pk_mul, nI_add]
  intro d
  induction d with
  | zero =>
    intro i' hi
    have e : i' = i := by omega
    subst e
    refine And.intro (pk_in (8 * t + (hs_h key + i') % 8) 256 (by omega) (ie _)) ?_
    by_cases z : xh_s H (8 * t + (hs_h key + i') % 8) = 0
    · refine br_t ((ix_ev (ie _)).trans z) ?_
      rw [ie]
      exact h
    · refine br_f (fun w => z ((ix_ev (ie _)).symm.trans w)) ?_
      refine And.intro (pk_in (8 * t + (hs_h key + i') % 8) 256 (by omega) (ie _)) (br_t ((ix_ev (ie _)).trans (hat.2.1.resolve_left z)) ?_)
      rw [ie]
      exact h
  | succ d ih =>
    intro i' hi
    have q := hat.2.2 i' (by omega)
    refine And.intro (pk_in (8 * t + (hs_h key + i') % 8) 256 (by omega) (ie _)) (br_f (fun w => q.1 ((ix_ev (ie _)).symm.trans w)) ?_)
    refine And.intro (pk_in (8 * t + (hs_h key + i') % 8) 256 (by omega) (ie _)) (br_f (fun w => q.2 ((ix_ev (ie _)).symm.trans w)) ?_)
    refine nm_r (e' := nI ((hs_h key + (i' + 1)) % 8)) ?_ ?_
    · rw [nI_1, pk_andN (by omega) (m := 7) 3 (by decide)]
      exact congrArg nI (by omega)
    · exact ih (i' + 1) (by omega)
theorem xp_place {post : Int32 → Prop} {t : Nat} {key : Int32} {i : Nat} (ht : t < 32) (hat : hs_at (xh_s H) (xh_k H) (8 * t) key i) (h : post (nI (8 * t + (hs_h key + i) % 8))) : wpX_placeOf post (xk E S C W O M H) (nI t) key := by
  unfold wpX_placeOf xk
  dsimp only
  unfold wpX_slotOf
  dsimp only
  refine ⟨i + 1, ?_⟩
  have := xp_loop (E := E) (S := S) (C := C) (W := W) (O := O) (M := M) ht hat h i 0 (by omega)
  rw [show (hs_h key + 0) % 8 = hs_h key from by have := hs_lt key; omega, ← hs_slot] at this
  exact this
theorem xi_entry {p a b c t : Nat} {k : Int32} (hc : cb_ C p) (hi : in_ C p 10 a b c k) (ha : a < 18) (hb : b < 18) (hc18 : c < 18) (s1 : xm_s M b = 2) (s2 : xm_s M c = 1) (ht : t < 32) (hn : xm_n M b = nI t) (ok : hs_ok (xh_s H) (xh_k H) (xh_n H) (8 * t))
    (hs : (hs_l (xh_s H) (xh_k H) (xh_n H) (8 * t) (xm_n M c)).1 = 0 ∨ (hs_l (xh_s H) (xh_k H) (xh_n H) (8 * t) (xm_n M c)).1 = 1 ∨ (hs_l (xh_s H) (xh_k H) (xh_n H) (8 * t) (xm_n M c)).1 = 2) :
    xg_ E S C W O p M H (p + 1) (xm_rg M a (hs_l (xh_s H) (xh_k H) (xh_n H) (8 * t) (xm_n M c)).1 (hs_l (xh_s H) (xh_k H) (xh_n H) (8 * t) (xm_n M c)).2) H := by
  obtain ⟨z, hz, hp, h350⟩ := hc
  obtain ⟨i1, i2, i3, i4, i5⟩ := hi
  obtain ⟨i, hat⟩ := hs_place (ky := xh_k H) ok.2.2.2 (xm_n M c)
  have hl := hs_found ok hat
  refine xi_calc1 hz hp h350 i1 (by omega) (fun post h => ?_)
  refine And.intro (by_in (by omega)) (nm_r ((ix_ev rfl).trans i2) (And.intro (by_in (by omega)) (nm_r ((ix_ev rfl).trans i3) (And.intro (by_in (by omega)) (nm_r ((ix_ev rfl).trans i4) ?_)))))
  refine br_f (by decide) (br_f (by decide) (br_f (by decide) (br_f (by decide) (br_f (by decide) (br_t rfl ?_)))))
  refine And.intro (by_in hb) (br_t (ix_rd s1) ⟨by_in hc18, br_t (ix_rd s2) ⟨by_in hb, by_in hc18, ?_⟩⟩)
  rw [ix_ev (a := xm_n M) (i := nI b) rfl, hn, ix_ev (a := xm_n M) (i := nI c) rfl]
  refine xp_place ht hat ?_
  refine ⟨by_in (by omega), by_in (by omega), ?_⟩
  rw [ix_ev (a := xh_s H) (i := nI (8 * t + (hs_h (xm_n M c) + i) % 8)) rfl, ix_ev (a := xh_n H) (i := nI (8 * t + (hs_h (xm_n M c) + i) % 8)) rfl]
  rw [hl] at h hs
  refine xr_set ha (bs_ hs) ?_
  exact ⟨rfl, h⟩
theorem xi_entryf {p a b c : Nat} {k : Int32} (hc : cb_ C p) (hi : in_ C p 10 a b c k) (hb : b < 18) (hc18 : c < 18) (hn : ¬ (xm_s M b = 2 ∧ xm_s M c = 1)) : xf_ E S C W O p M H M H := by
  obtain ⟨z, hz, hp, h350⟩ := hc
  obtain ⟨i1, i2, i3, i4, i5⟩ := hi
  refine xi_calc0 hz hp h350 i1 (by omega) (fun post h => ?_)
  refine And.intro (by_in (by omega)) (nm_r ((ix_ev rfl).trans i2) (And.intro (by_in (by omega)) (nm_r ((ix_ev rfl).trans i3) (And.intro (by_in (by omega)) (nm_r ((ix_ev rfl).trans i4) ?_)))))
  refine br_f (by decide) (br_f (by decide) (br_f (by decide) (br_f (by decide) (br_f (by decide) (br_t rfl ?_)))))
  refine And.intro (by_in hb) ?_
  by_cases s1 : xm_s M b = 2
  · refine br_t (ix_rd s1) ⟨by_in hc18, br_f (ix_rn (fun w => hn ⟨s1, w⟩)) ⟨rfl, h⟩⟩
  · exact br_f (ix_rn s1) ⟨rfl, h⟩
end
end
section
/-! the component: which tables are come to -/
theorem b_1 : ∀ i, i < 32 → bt 1 i = decide (i = 0) := by decide +kernel
theorem bb_t0 (x : Int32) : (x &&& 1) = 0 ↔ bt x 0 = false := by
  constructor
  · intro h
    have a := b_and x 1 0
    rw [h, b_0, b_1 0 (by omega)] at a
    simpa using a.symm
  · intro h
    apply b_ext
    intro i hi
    rw [b_and, b_1 i hi, b_0]
    by_cases e : i = 0
    · rw [e, h]; rfl
    · simp [e]
theorem bb_test (m : Int32) (l : Nat) (hl : l < 32) : ((m.toUInt32 >>> ((nI l).toUInt32 &&& Int32.toUInt32 31)).toInt32 &&& 1) = 0 ↔ bt m l = false := by
  rw [bb_t0, b_ushr l hl, Nat.add_zero]
theorem bb_val (m : Int32) (l : Nat) (hl : l < 32) : ((m.toUInt32 >>> ((nI l).toUInt32 &&& Int32.toUInt32 31)).toInt32 &&& 1) = nI (if bt m l = true then 1 else 0) := by
  apply b_ext
  intro i hi
  rw [b_and, b_ushr l hl, b_1 i hi]
  by_cases e : i = 0
  · rw [e, Nat.add_zero]
    cases bt m l <;> decide
  · have : bt (nI (if bt m l = true then 1 else 0)) i = false := by
      cases bt m l
      · exact b_0 i
      · show bt 1 i = false
        rw [b_1 i hi]
        simp [e]
    rw [this]
    simp [e]
def bb_s (f : Int32) (t : Nat) : Int32 := f ||| ((1 : Int32) <<< (nI t &&& 31))
theorem bb_set (f : Int32) {t i : Nat} (ht : t < 32) (hi : i < 32) : bt (bb_s f t) i = (bt f i || decide (i = t)) := by
  unfold bb_s
  rw [b_or, b_shl t ht 1 hi, b_1 _ (by omega)]
  by_cases e : i = t
  · subst e; simp
  · have : ¬ (t ≤ i ∧ i - t = 0) := by omega
    by_cases c : t ≤ i
    · have d : i - t ≠ 0 := by omega
      simp [e, c, d]
    · simp [e, c]
theorem bb_mono (f : Int32) {t i : Nat} (ht : t < 32) (hi : i < 32) (h : bt f i = true) : bt (bb_s f t) i = true := by rw [bb_set f ht hi, h]; rfl
theorem bb_new (f : Int32) {t : Nat} (ht : t < 32) : bt (bb_s f t) t = true := by rw [bb_set f ht ht]; simp
theorem bb_inv (f : Int32) {t i : Nat} (ht : t < 32) (hi : i < 32) (h : bt (bb_s f t) i = true) : bt f i = true ∨ i = t := by
  rw [bb_set f ht hi] at h
  simpa using h
/-- the least set with some members, closed under some steps -/
def cl_ (R : Nat → Prop) (e : Nat → Nat → Prop) (t : Nat) : Prop := ∀ Q : Nat → Prop, (∀ t, R t → Q t) → (∀ t t', Q t → e t t' → Q t') → Q t
theorem cl_r {R : Nat → Prop} {e : Nat → Nat → Prop} {t : Nat} (h : R t) : cl_ R e t := fun _ a _ => a t h
theorem cl_s {R : Nat → Prop} {e : Nat → Nat → Prop} {t t' : Nat} (h : cl_ R e t) (k : e t t') : cl_ R e t' := fun Q a b => b t t' (h Q a b) k
def ex_ (H : gx_H) (t t' : Nat) : Prop := t < 32 ∧ ∃ j, j < 8 ∧ xh_s H (8 * t + j) = 2 ∧ xh_n H (8 * t + j) = nI t' ∧ t' < 32
def gd_ (H : gx_H) (D : Nat → Prop) : Prop := ∀ t, D t → t < 32 ∧ ∀ j, j < 8 → xh_s H (8 * t + j) = 2 → ∃ t', xh_n H (8 * t + j) = nI t' ∧ D t'
def xh_rc (H : gx_H) (f : Int32) : gx_H := (xh_u H, f, xh_k H, xh_s H, xh_n H, xh_c H)
section
variable {E : gx_E} {S : gx_S} {C : gx_C} {W : gx_W} {O : gx_O} {M : gx_M} {H : gx_H}
def xq_P (H : gx_H) (pl : Nat) (f f' : Int32) : Prop :=
  (∀ t, t < 32 → bt f t = true → bt f' t = true) ∧
  (∀ Q : Nat → Prop, (∀ t t', Q t → ex_ H t t' → Q t') → (∀ t, t < 32 → bt f t = true → Q t) → ∀ t, t < 32 → bt f' t = true → Q t) ∧
  (∀ q, pl ≤ q → q < 256 → bt f (q / 8) = true → xh_s H q = 2 → ∃ t', t' < 32 ∧ xh_n H q = nI t' ∧ bt f' t' = true)
theorem xq_62 {D : Nat → Prop} (gd : gd_ H D) : ∀ (d pl : Nat) (f : Int32), pl + d = 256 → (∀ t, t < 32 → bt f t = true → D t) →
    ∃ f', xq_P H pl f f' ∧ ∀ (post : SX → Prop) (J : Int32 → Int32 → Prop) (x2 : Int32), J x2 f' → (wX_reach_62 post J x2 (xe_n E) (xs_n S) (xc_f C) (xc_n C) (xo_n O) (xm_c M) (xm_h M) (xh_u H) (xe_k E) (xe_x E) (xe_y E) (xe_w E) (xe_s E) (xe_i E) (xe_a E) (xs_o S) (xs_x S) (xs_y S) (xs_z S) (xc_o C) (xc_a C) (xc_b C) (xc_c C) (xc_k C) (xw_n W) (xw_r W) (xw_p W) (xw_t W) (xo_e O) (xo_l O) (xo_p O) (xm_s M) (xm_n M) (xm_l M) (xm_m M) (xm_v M) (xh_k H) (xh_s H) (xh_n H) (xh_c H) (d + 1) (nI pl) (f)) := by
  intro d
  induction d with
  | zero =>
    intro pl f hd hD
    refine ⟨f, ⟨fun _ _ h => h, fun Q _ a t ht h => a t ht h, fun q h1 h2 => by omega⟩, fun post J x2 h => ?_⟩
    exact br_t (nI_le (a := 256) (by omega) (by omega)) h
  | succ d ih =>
    intro pl f hd hD
    have e8 : nI pl / 8 = nI (pl / 8) := pk_div (d := 8) (by omega) (by omega) (by omega)
    have hi := bb_test f (pl / 8) (by omega)
    by_cases c : bt f (pl / 8) = true
    · by_cases s2 : xh_s H pl = 2
      · have g := gd _ (hD _ (by omega) c)
        have hpl : 8 * (pl / 8) + pl % 8 = pl := by omega
        obtain ⟨t', et, dt⟩ := g.2 (pl % 8) (by omega) (by rw [hpl]; exact s2)
        rw [hpl] at et
        have t32 := (gd _ dt).1
        obtain ⟨f', ⟨p1, p2, p3⟩, hk⟩ := ih (pl + 1) (bb_s f t') (by omega) (by
          intro t ht h
          rcases bb_inv f t32 ht h with a | a
          · exact hD t ht a
          · rw [a]; exact dt)
        refine ⟨f', ⟨fun t ht h => p1 t ht (bb_mono f t32 ht h), fun Q cQ a => p2 Q cQ ?_, fun q h1 h2 hb hs => ?_⟩, fun post J x2 h => ?_⟩
        · intro t ht h
          rcases bb_inv f t32 ht h with b | b
          · exact a t ht b
          · rw [b]
            exact cQ (pl / 8) t' (a _ (by omega) c) ⟨by omega, pl % 8, by omega, by rw [hpl]; exact s2, by rw [hpl]; exact et, t32⟩
        · by_cases z : q = pl
          · subst z
            exact ⟨t', t32, et, p1 t' t32 (bb_new f t32)⟩
          · exact p3 q (by omega) h2 (bb_mono f t32 (by omega) hb) hs
        · refine br_f (nI_ge (b := 256) (by omega) (by decide)) ⟨by decide, ?_⟩
          rw [e8]
          refine br_f (fun w => by rw [hi.mp w] at c; exact absurd c (by decide)) ⟨by_in (by omega), br_t (ix_rd s2) ⟨by_in (by omega), ?_⟩⟩
          rw [ix_ev (a := xh_n H) (i := nI pl) rfl, et]
          exact nm_e (nm_r (nI_1 pl) (hk post J x2 h))
      · obtain ⟨f', ⟨p1, p2, p3⟩, hk⟩ := ih (pl + 1) f (by omega) hD
        refine ⟨f', ⟨p1, p2, fun q h1 h2 hb hs => ?_⟩, fun post J x2 h => ?_⟩
        · by_cases z : q = pl
          · subst z; exact absurd hs s2
          · exact p3 q (by omega) h2 hb hs
        · refine br_f (nI_ge (b := 256) (by omega) (by decide)) ⟨by decide, ?_⟩
          rw [e8]
          refine br_f (fun w => by rw [hi.mp w] at c; exact absurd c (by decide)) ⟨by_in (by omega), br_f (ix_rn s2) ?_⟩
          exact nm_r (nI_1 pl) (hk post J x2 h)
    · obtain ⟨f', ⟨p1, p2, p3⟩, hk⟩ := ih (pl + 1) f (by omega) hD
      refine ⟨f', ⟨p1, p2, fun q h1 h2 hb hs => ?_⟩, fun post J x2 h => ?_⟩
      · by_cases z : q = pl
        · subst z; exact absurd hb c
        · exact p3 q (by omega) h2 hb hs
      · refine br_f (nI_ge (b := 256) (by omega) (by decide)) ⟨by decide, ?_⟩
        rw [e8]
        refine br_t (hi.mpr (by cases hb : bt f (pl / 8) with | false => rfl | true => exact absurd hb c)) ?_
        exact nm_r (nI_1 pl) (hk post J x2 h)
/-- rounds until nothing new is found -/
theorem xq_47 {D : Nat → Prop} (gd : gd_ H D) : ∀ (m : Nat) (x2 f : Int32), 32 ≤ m + kc_n (bt f) 32 → (∀ t, t < 32 → bt f t = true → D t) →
    (∀ q, q < 256 → bt x2 (q / 8) = true → xh_s H q = 2 → ∃ t', t' < 32 ∧ xh_n H q = nI t' ∧ bt f t' = true) →
    ∃ f', (∀ t, t < 32 → bt f t = true → bt f' t = true) ∧
      (∀ Q : Nat → Prop, (∀ t t', Q t → ex_ H t t' → Q t') → (∀ t, t < 32 → bt f t = true → Q t) → ∀ t, t < 32 → bt f' t = true → Q t) ∧
      (∀ q, q < 256 → bt f' (q / 8) = true → xh_s H q = 2 → ∃ t', t' < 32 ∧ xh_n H q = nI t' ∧ bt f' t' = true) ∧
      ∀ (post : SX → Prop), post (xk E S C W O M (xh_rc H f')) → ∃ n, (wX_reach_47 post (xe_n E) (xs_n S) (xc_f C) (xc_n C) (xo_n O) (xm_c M) (xm_h M) (xh_u H) (xe_k E) (xe_x E) (xe_y E) (xe_w E) (xe_s E) (xe_i E) (xe_a E) (xs_o S) (xs_x S) (xs_y S) (xs_z S) (xc_o C) (xc_a C) (xc_b C) (xc_c C) (xc_k C) (xw_n W) (xw_r W) (xw_p W) (xw_t W) (xo_e O) (xo_l O) (xo_p O) (xm_s M) (xm_n M) (xm_l M) (xm_m M) (xm_v M) (xh_k H) (xh_s H) (xh_n H) (xh_c H) n x2 (f)) := by
  intro m
  induction m with
  | zero =>
    intro x2 f hm hD hx
    by_cases e : f = x2
    · subst e
      exact ⟨f, fun _ _ h => h, fun Q _ a t ht h => a t ht h, hx, fun post h => ⟨1, br_t rfl h⟩⟩
    · obtain ⟨f', ⟨p1, p2, p3⟩, hk⟩ := xq_62 (E := E) (S := S) (C := C) (W := W) (O := O) (M := M) gd 256 0 f (by omega) hD
      have all : ∀ t, t < 32 → bt f t = true := by
        intro t ht
        cases hb : bt f t with
        | true => rfl
        | false =>
          have := kc_lt (f := bt f) (g := fun _ => true) (n := 32) (a := t) (fun _ _ _ => rfl) ht hb rfl
          have := kc_le (fun _ => true) 32
          omega
      have ff : f' = f := b_ext (fun t ht => by rw [all t ht, p1 t ht (all t ht)])
      subst ff
      refine ⟨f', fun _ _ h => h, fun Q _ a t ht h => a t ht h, fun q hq => p3 q (by omega) hq, fun post h => ⟨2, br_f e ⟨257, ?_⟩⟩⟩
      refine hk post _ f' ?_
      exact br_t rfl h
  | succ m ih =>
    intro x2 f hm hD hx
    by_cases e : f = x2
    · subst e
      exact ⟨f, fun _ _ h => h, fun Q _ a t ht h => a t ht h, hx, fun post h => ⟨1, br_t rfl h⟩⟩
    · obtain ⟨f', ⟨p1, p2, p3⟩, hk⟩ := xq_62 (E := E) (S := S) (C := C) (W := W) (O := O) (M := M) gd 256 0 f (by omega) hD
      by_cases ff : f' = f
      · subst ff
        refine ⟨f', fun _ _ h => h, fun Q _ a t ht h => a t ht h, fun q hq => p3 q (by omega) hq, fun post h => ⟨2, br_f e ⟨257, ?_⟩⟩⟩
        refine hk post _ f' ?_
        exact br_t rfl h
      · have big : kc_n (bt f) 32 < kc_n (bt f') 32 := by
          have : ∃ t, t < 32 ∧ bt f t = false ∧ bt f' t = true := by
            apply Classical.byContradiction
            intro no
            apply ff
            apply b_ext
            intro t ht
            cases hb : bt f t with
            | true => exact p1 t ht hb
            | false =>
              cases hb' : bt f' t with
              | false => rfl
              | true => exact absurd ⟨t, ht, hb, hb'⟩ no
          obtain ⟨t, ht, h0, h1⟩ := this
          exact kc_lt p1 ht h0 h1
        have cD : ∀ t t', D t → ex_ H t t' → D t' := by
          intro t t' dt et
          obtain ⟨_, j, hj, es, en, h32⟩ := et
          obtain ⟨t2, e2, d2⟩ := (gd t dt).2 j hj es
          have : t' = t2 := (nI_eq (by omega) (by have := (gd t2 d2).1; omega)).mp (en.symm.trans e2)
          rw [this]; exact d2
        obtain ⟨g, q1, q2, q3, q4⟩ := ih f f' (by omega) (p2 D cD hD) (fun q hq => p3 q (by omega) hq)
        refine ⟨g, fun t ht h => q1 t ht (p1 t ht h), fun Q cQ a => q2 Q cQ (p2 Q cQ a), q3, fun post h => ?_⟩
        obtain ⟨n, hn⟩ := q4 post h
        exact ⟨n + 1, br_f e ⟨257, hk post _ f hn⟩⟩
def rx_ (M : gx_M) (k : Nat) (t : Nat) : Prop := t < 32 ∧ ∃ r, r < k ∧ xm_s M r = 2 ∧ xm_n M r = nI t
theorem xq_7 {D : Nat → Prop} {k : Nat} (k18 : k ≤ 18) (gd : gd_ H D) (hr : ∀ r, r < k → xm_s M r = 2 → ∃ t, xm_n M r = nI t ∧ D t) : ∀ (d r : Nat) (f : Int32), r + d = k → (∀ t, t < 32 → bt f t = true → D t) →
    (∀ t, t < 32 → (bt f t = true ↔ rx_ M r t)) →
    ∃ f', (∀ t, t < 32 → (bt f' t = true ↔ cl_ (rx_ M k) (ex_ H) t)) ∧
      ∀ (post : SX → Prop), post (xk E S C W O M (xh_rc H f')) → ∃ n, (wX_reach_7 post (nI k) (xe_n E) (xs_n S) (xc_f C) (xc_n C) (xo_n O) (xm_c M) (xm_h M) (xh_u H) (xe_k E) (xe_x E) (xe_y E) (xe_w E) (xe_s E) (xe_i E) (xe_a E) (xs_o S) (xs_x S) (xs_y S) (xs_z S) (xc_o C) (xc_a C) (xc_b C) (xc_c C) (xc_k C) (xw_n W) (xw_r W) (xw_p W) (xw_t W) (xo_e O) (xo_l O) (xo_p O) (xm_s M) (xm_n M) (xm_l M) (xm_m M) (xm_v M) (xh_k H) (xh_s H) (xh_n H) (xh_c H) n (nI r) (f)) := by
  intro d
  induction d with
  | zero =>
    intro r f hd hD hf
    have e : r = k := by omega
    subst e
    obtain ⟨g, q1, q2, q3, q4⟩ := xq_47 (E := E) (S := S) (C := C) (W := W) (O := O) (M := M) gd 32 0 f (by omega) hD (fun q _ h => by rw [b_0] at h; exact absurd h (by decide))
    refine ⟨g, fun t ht => ⟨fun h => ?_, fun h => ?_⟩, fun post h => ?_⟩
    · intro Q a b
      exact q2 Q b (fun t' ht' h' => a t' ((hf t' ht').mp h')) t ht h
    · refine (h (fun t => t < 32 ∧ bt g t = true) (fun t' h' => ?_) (fun t1 t2 h1 h2 => ?_)).2
      · exact ⟨h'.1, q1 t' h'.1 ((hf t' h'.1).mpr h')⟩
      · obtain ⟨_, j, hj, es, en, t32⟩ := h2
        obtain ⟨t3, h3, e3, b3⟩ := q3 (8 * t1 + j) (by omega) (by rw [show (8 * t1 + j) / 8 = t1 from by omega]; exact h1.2) es
        have : t2 = t3 := (nI_eq (by omega) (by omega)).mp (en.symm.trans e3)
        rw [this]; exact ⟨h3, b3⟩
    · obtain ⟨n, hn⟩ := q4 post h
      exact ⟨1, br_t (Int32.le_refl _) ⟨n, hn⟩⟩
  | succ d ih =>
    intro r f hd hD hf
    by_cases s2 : xm_s M r = 2
    · obtain ⟨t', et, dt⟩ := hr r (by omega) s2
      have t32 := (gd t' dt).1
      obtain ⟨g, q1, q2⟩ := ih (r + 1) (bb_s f t') (by omega) (by
          intro t ht h
          rcases bb_inv f t32 ht h with a | a
          · exact hD t ht a
          · rw [a]; exact dt) (by
          intro t ht
          constructor
          · intro h
            rcases bb_inv f t32 ht h with a | a
            · obtain ⟨_, r', h1, h2⟩ := (hf t ht).mp a
              exact ⟨ht, r', by omega, h2⟩
            · exact ⟨ht, r, by omega, s2, by rw [a]; exact et⟩
          · rintro ⟨_, r', h1, h2, h3⟩
            by_cases e : r' = r
            · rw [e, et] at h3
              have : t' = t := (nI_eq (by omega) (by omega)).mp h3
              rw [← this]; exact bb_new f t32
            · exact bb_mono f t32 ht ((hf t ht).mpr ⟨ht, r', by omega, h2, h3⟩))
      refine ⟨g, q1, fun post h => ?_⟩
      obtain ⟨n, hn⟩ := q2 post h
      refine ⟨n + 1, br_f (nI_ge (by omega) (by omega)) ⟨by_in (by omega), br_t (ix_rd s2) ⟨by_in (by omega), ?_⟩⟩⟩
      rw [ix_ev (a := xm_n M) (i := nI r) rfl, et]
      exact nm_e (nm_r (nI_1 r) hn)
    · obtain ⟨g, q1, q2⟩ := ih (r + 1) f (by omega) hD (by
          intro t ht
          constructor
          · intro h
            obtain ⟨_, r', h1, h2⟩ := (hf t ht).mp h
            exact ⟨ht, r', by omega, h2⟩
          · rintro ⟨_, r', h1, h2, h3⟩
            by_cases e : r' = r
            · rw [e] at h2; exact absurd h2 s2
            · exact (hf t ht).mpr ⟨ht, r', by omega, h2, h3⟩)
      refine ⟨g, q1, fun post h => ?_⟩
      obtain ⟨n, hn⟩ := q2 post h
      refine ⟨n + 1, br_f (nI_ge (by omega) (by omega)) ⟨by_in (by omega), br_f (ix_rn s2) ?_⟩⟩
      exact nm_r (nI_1 r) hn
theorem xq_reach {D : Nat → Prop} {k : Nat} (k18 : k ≤ 18) (gd : gd_ H D) (hr : ∀ r, r < k → xm_s M r = 2 → ∃ t, xm_n M r = nI t ∧ D t) :
    ∃ f, (∀ t, t < 32 → (bt f t = true ↔ cl_ (rx_ M k) (ex_ H) t)) ∧ ∀ (post : SX → Prop), post (xk E S C W O M (xh_rc H f)) → wpX_reach post (xk E S C W O M H) (nI k) := by
  obtain ⟨g, q1, q2⟩ := xq_7 (E := E) (S := S) (C := C) (W := W) (O := O) k18 gd hr k 0 0 (by omega) (fun t _ h => by rw [b_0] at h; exact absurd h (by decide)) (by
    intro t ht
    rw [b_0]
    constructor
    · intro h; exact absurd h (by decide)
    · rintro ⟨_, r', h1, _⟩; omega)
  exact ⟨g, q1, fun post h => q2 post h⟩
theorem xq_tl {post : Int32 → SX → Prop} (h : post (nI (kc_n (bt (xh_r H)) 32)) (xk E S C W O M H)) : ∀ (d i : Nat), i + d = 32 → (wX_tables_10 post (xe_n E) (xs_n S) (xc_f C) (xc_n C) (xo_n O) (xm_c M) (xm_h M) (xh_u H) (xh_r H) (xe_k E) (xe_x E) (xe_y E) (xe_w E) (xe_s E) (xe_i E) (xe_a E) (xs_o S) (xs_x S) (xs_y S) (xs_z S) (xc_o C) (xc_a C) (xc_b C) (xc_c C) (xc_k C) (xw_n W) (xw_r W) (xw_p W) (xw_t W) (xo_e O) (xo_l O) (xo_p O) (xm_s M) (xm_n M) (xm_l M) (xm_m M) (xm_v M) (xh_k H) (xh_s H) (xh_n H) (xh_c H) (d + 1) (nI (kc_n (bt (xh_r H)) i)) (nI i)) := by
  intro d
  induction d with
  | zero =>
    intro i hi
    have e : i = 32 := by omega
    subst e
    exact br_t (Int32.le_refl _) h
  | succ d ih =>
    intro i hi
    refine br_f (nI_ge (b := 32) (by omega) (by decide)) (nm_r (e' := nI (kc_n (bt (xh_r H)) (i + 1))) ?_ (nm_r (nI_1 i) (ih (i + 1) (by omega))))
    rw [bb_val _ i (by omega), nI_add]
    rfl
theorem xq_tables {D : Nat → Prop} (gd : gd_ H D) (hr : ∀ r, r < 6 → xm_s M r = 2 → ∃ t, xm_n M r = nI t ∧ D t) :
    ∃ f, (∀ t, t < 32 → (bt f t = true ↔ cl_ (rx_ M 6) (ex_ H) t)) ∧ ∀ (post : Int32 → SX → Prop), post (nI (kc_n (bt f) 32)) (xk E S C W O M (xh_rc H f)) → wpX_tables post (xk E S C W O M H) := by
  obtain ⟨f, hf, hk⟩ := xq_reach (E := E) (S := S) (C := C) (W := W) (O := O) (k := 6) (by omega) gd hr
  refine ⟨f, hf, fun post h => ?_⟩
  refine hk _ ?_
  exact ⟨33, xq_tl (H := xh_rc H f) h 32 0 (by omega)⟩
end
end
section
/-! the component: a statement begins; a free table -/
section
variable {E : gx_E} {S : gx_S} {C : gx_C} {W : gx_W} {O : gx_O} {M : gx_M} {H : gx_H}
def xm_cu (M : gx_M) (i : Int32) : gx_M := (i, xm_h M, xm_s M, xm_n M, xm_l M, xm_m M, xm_v M)
/-- all but some registers as before, those clear -/
def xb_ (M M' : gx_M) (lo hi : Nat) : Prop :=
  xm_c M' = xm_c M ∧ xm_h M' = xm_h M ∧ xm_l M' = xm_l M ∧ xm_m M' = xm_m M ∧ xm_v M' = xm_v M ∧
  (∀ r, lo ≤ r → r < hi → xm_s M' r = 0 ∧ xm_n M' r = 0) ∧ (∀ r, r < lo ∨ hi ≤ r → xm_s M' r = xm_s M r ∧ xm_n M' r = xm_n M r)
theorem xb_0 {lo : Nat} : xb_ M M lo lo := ⟨rfl, rfl, rfl, rfl, rfl, fun r _ _ => by omega, fun r _ => ⟨rfl, rfl⟩⟩
theorem xb_s {M1 : gx_M} {lo hi : Nat} (h : xb_ M M1 lo hi) (hl : lo ≤ hi) : xb_ M (xm_rg M1 hi 0 0) lo (hi + 1) := by
  obtain ⟨h1, h2, h3, h4, h5, h6, h7⟩ := h
  refine ⟨h1, h2, h3, h4, h5, fun r a b => ?_, fun r a => ?_⟩
  · by_cases e : r = hi
    · subst e; exact ⟨pk_us, pk_us⟩
    · have := h6 r a (by omega)
      exact ⟨(pk_un e).trans this.1, (pk_un e).trans this.2⟩
  · have := h7 r (by omega)
    have e : r ≠ hi := by omega
    exact ⟨(pk_un e).trans this.1, (pk_un e).trans this.2⟩
theorem xb_loop : ∀ (d r : Nat) (M1 : gx_M), 6 ≤ r → r + d = 18 → xb_ M M1 6 r →
    ∃ M', xb_ M M' 6 18 ∧ ∀ (post : Int32 → SX → Prop), wpX_tables (fun r_2 u => ((8 < r_2 → post 0 u) ∧ (¬ 8 < r_2 → post 1 u))) (xk E S C W O M' H) → (wX_beginStatement_8 post (d + 1) (nI r) (xe_n E) (xs_n S) (xc_f C) (xc_n C) (xo_n O) (xm_c M1) (xm_h M1) (xh_u H) (xh_r H) (xe_k E) (xe_x E) (xe_y E) (xe_w E) (xe_s E) (xe_i E) (xe_a E) (xs_o S) (xs_x S) (xs_y S) (xs_z S) (xc_o C) (xc_a C) (xc_b C) (xc_c C) (xc_k C) (xw_n W) (xw_r W) (xw_p W) (xw_t W) (xo_e O) (xo_l O) (xo_p O) (xm_s M1) (xm_n M1) (xm_l M1) (xm_m M1) (xm_v M1) (xh_k H) (xh_s H) (xh_n H) (xh_c H)) := by
  intro d
  induction d with
  | zero =>
    intro r M1 h6 hd hb
    have e : r = 18 := by omega
    subst e
    refine ⟨M1, hb, fun post h => ?_⟩
    exact br_t (Int32.le_refl _) h
  | succ d ih =>
    intro r M1 h6 hd hb
    obtain ⟨M', h1, h2⟩ := ih (r + 1) (xm_rg M1 r 0 0) (by omega) (by omega) (xb_s hb h6)
    refine ⟨M', h1, fun post h => ?_⟩
    refine br_f (nI_ge (b := 18) (by omega) (by decide)) ?_
    refine xr_clear (by omega) ?_
    exact nm_r (nI_1 r) (h2 post h)
theorem xb_begin {D : Nat → Prop} (i : Int32) (gd : gd_ H D) (hr : ∀ r, r < 6 → xm_s M r = 2 → ∃ t, xm_n M r = nI t ∧ D t) :
    ∃ M' f, xb_ (xm_cu M i) M' 6 18 ∧ (∀ t, t < 32 → (bt f t = true ↔ cl_ (rx_ M' 6) (ex_ H) t)) ∧
      ∀ (post : Int32 → SX → Prop), post (if 8 < kc_n (bt f) 32 then 0 else 1) (xk E S C W O M' (xh_rc H f)) → wpX_beginStatement post (xk E S C W O M H) i := by
  obtain ⟨M', h1, h2⟩ := xb_loop (E := E) (S := S) (C := C) (W := W) (O := O) (H := H) (M := xm_cu M i) 12 6 (xm_cu M i) (by omega) (by omega) xb_0
  have hr' : ∀ r, r < 6 → xm_s M' r = 2 → ∃ t, xm_n M' r = nI t ∧ D t := by
    intro r h6
    have := h1.2.2.2.2.2.2 r (by omega)
    rw [this.1, this.2]
    exact hr r h6
  obtain ⟨f, hf, hk⟩ := xq_tables (E := E) (S := S) (C := C) (W := W) (O := O) gd hr'
  refine ⟨M', f, h1, hf, fun post h => ⟨13, ?_⟩⟩
  refine h2 post ?_
  refine hk _ ?_
  have k32 := kc_le (bt f) 32
  by_cases c : 8 < kc_n (bt f) 32
  · rw [if_pos c] at h
    exact br_t (nI_lt (a := 8) c (by omega)) h
  · rw [if_neg c] at h
    exact br_f (nI_nlt (a := 8) (by omega) (by decide)) h
/-! freeTable -/
def xh_fr (H : gx_H) (t : Nat) (es en : Nat → Int32) : gx_H := (bb_s (xh_u H) t, xh_r H, xh_k H, es, en, upd (xh_c H) t 0)
theorem xt_65 {t : Nat} (ht : t < 32) : ∀ (d j : Nat) (es en : Nat → Int32), j + d = 8 → 
    ∃ es' en', (∀ q, 8 * t + j ≤ q → q < 8 * t + 8 → es' q = 0 ∧ en' q = 0) ∧ (∀ q, q < 8 * t + j ∨ 8 * t + 8 ≤ q → es' q = es q ∧ en' q = en q) ∧
    ∀ (post : Int32 → SX → Prop), post (nI t) (xk E S C W O M (xh_u H, xh_r H, xh_k H, es', en', xh_c H)) → (wX_freeTable_65 post (nI t) (xe_n E) (xs_n S) (xc_f C) (xc_n C) (xo_n O) (xm_c M) (xm_h M) (xh_u H) (xh_r H) (d + 1) (nI (8 * t + j)) (xe_k E) (xe_x E) (xe_y E) (xe_w E) (xe_s E) (xe_i E) (xe_a E) (xs_o S) (xs_x S) (xs_y S) (xs_z S) (xc_o C) (xc_a C) (xc_b C) (xc_c C) (xc_k C) (xw_n W) (xw_r W) (xw_p W) (xw_t W) (xo_e O) (xo_l O) (xo_p O) (xm_s M) (xm_n M) (xm_l M) (xm_m M) (xm_v M) (xh_k H) (es) (en) (xh_c H)) := by
  have i8 : (8 : Int32) * nI t + 8 = nI (8 * t + 8) := by
    show nI 8 * nI t + nI 8 = _
    rw [pk_mul, nI_add]
  intro d
  induction d with
  | zero =>
    intro j es en hj
    have e : j = 8 := by omega
    subst e
    refine ⟨es, en, fun q _ _ => by omega, fun q _ => ⟨rfl, rfl⟩, fun post h => ?_⟩
    exact br_t (by rw [i8]; exact Int32.le_refl _) h
  | succ d ih =>
    intro j es en hj
    obtain ⟨es', en', h1, h2, h3⟩ := ih (j + 1) (upd es (8 * t + j) 0) (upd en (8 * t + j) 0) (by omega)
    refine ⟨es', en', fun q a b => ?_, fun q a => ?_, fun post h => ?_⟩
    · by_cases e : q = 8 * t + j
      · have := h2 q (by omega)
        rw [this.1, this.2, e]
        exact ⟨pk_us, pk_us⟩
      · exact h1 q (by omega) b
    · have := h2 q (by omega)
      rw [this.1, this.2]
      exact ⟨pk_un (by omega), pk_un (by omega)⟩
    · refine br_f (by rw [i8]; exact nI_ge (by omega) (by omega)) ?_
      refine ix_st (8 * t + j) 256 0 (by omega) ?_ rfl (by_v (n := 0) (by omega))
      refine ix_st (8 * t + j) 256 0 (by omega) ?_
      exact nm_r (nI_1 (8 * t + j)) (h3 post h)
theorem xt_24 {t : Nat} (ht : t < 32) (hf : bt (xh_u H) t = false) (hm : ∀ i, i < t → bt (xh_u H) i = true) :
    ∃ es' en', (∀ q, 8 * t ≤ q → q < 8 * t + 8 → es' q = 0 ∧ en' q = 0) ∧ (∀ q, q < 8 * t ∨ 8 * t + 8 ≤ q → es' q = xh_s H q ∧ en' q = xh_n H q) ∧
    ∀ (post : Int32 → SX → Prop), post (nI t) (xk E S C W O M (xh_fr H t es' en')) → ∀ (d i : Nat), i + d = t → (wX_freeTable_24 post (xe_n E) (xs_n S) (xc_f C) (xc_n C) (xo_n O) (xm_c M) (xm_h M) (xh_u H) (xh_r H) (xe_k E) (xe_x E) (xe_y E) (xe_w E) (xe_s E) (xe_i E) (xe_a E) (xs_o S) (xs_x S) (xs_y S) (xs_z S) (xc_o C) (xc_a C) (xc_b C) (xc_c C) (xc_k C) (xw_n W) (xw_r W) (xw_p W) (xw_t W) (xo_e O) (xo_l O) (xo_p O) (xm_s M) (xm_n M) (xm_l M) (xm_m M) (xm_v M) (xh_k H) (xh_s H) (xh_n H) (xh_c H) (d + 1) (nI i)) := by
  obtain ⟨es', en', h1, h2, h3⟩ := xt_65 (E := E) (S := S) (C := C) (W := W) (O := O) (M := M) (H := (bb_s (xh_u H) t, xh_r H, xh_k H, xh_s H, xh_n H, upd (xh_c H) t 0)) ht 8 0 (xh_s H) (xh_n H) (by omega)
  refine ⟨es', en', h1, h2, fun post h d => ?_⟩
  induction d with
  | zero =>
    intro i hi
    have e : i = t := by omega
    subst e
    refine br_t ((bb_test _ i ht).mpr hf) (nm_e ?_)
    refine ix_st i 32 0 ht ?_ rfl (by_v (n := 0) (by omega))
    refine nm_r (e' := nI (8 * i)) (pk_mul 8 i) ?_
    exact ⟨9, h3 post h⟩
  | succ d ih =>
    intro i hi
    refine br_f (fun w => ?_) (nm_r (nI_1 i) (ih (i + 1) (by omega)))
    have a := (bb_test _ i (by omega)).mp w
    rw [hm i (by omega)] at a
    exact absurd a (by decide)
theorem xt_least (u : Int32) (h : ∃ t, t < 32 ∧ bt u t = false) : ∃ t, t < 32 ∧ bt u t = false ∧ ∀ i, i < t → bt u i = true := by
  obtain ⟨t, ⟨h1, h2⟩, h3⟩ := pk_least (fun t => t < 32 ∧ bt u t = false) h
  refine ⟨t, h1, h2, fun i hi => ?_⟩
  cases hb : bt u i with
  | true => rfl
  | false => exact absurd ⟨by omega, hb⟩ (h3 i hi)
theorem xt_m1 {u : Int32} (h : ¬ u = -1) : ∃ t, t < 32 ∧ bt u t = false := by
  apply Classical.byContradiction
  intro no
  apply h
  apply b_ext
  intro i hi
  rw [b_m1 i hi]
  cases hb : bt u i with
  | true => rfl
  | false => exact absurd ⟨i, hi, hb⟩ no
/-- what freeTable does: u, r are inUse and reached as they are when a free one is looked for -/
def xt_ (E : gx_E) (S : gx_S) (C : gx_C) (W : gx_W) (O : gx_O) (M : gx_M) (H : gx_H) (u r : Int32) : Prop :=
  ∃ t es' en', t < 32 ∧ bt u t = false ∧ (∀ q, 8 * t ≤ q → q < 8 * t + 8 → es' q = 0 ∧ en' q = 0) ∧ (∀ q, q < 8 * t ∨ 8 * t + 8 ≤ q → es' q = xh_s H q ∧ en' q = xh_n H q) ∧
    ∀ (post : Int32 → SX → Prop), post (nI t) (xk E S C W O M (bb_s u t, r, xh_k H, es', en', upd (xh_c H) t 0)) → wpX_freeTable post (xk E S C W O M H)
theorem xt_some (h : ¬ xh_u H = -1) : xt_ E S C W O M H (xh_u H) (xh_r H) := by
  obtain ⟨t, h1, h2, h3⟩ := xt_least _ (xt_m1 h)
  obtain ⟨es', en', q1, q2, q3⟩ := xt_24 (E := E) (S := S) (C := C) (W := W) (O := O) (M := M) h1 h2 h3
  refine ⟨t, es', en', h1, h2, q1, q2, fun post hp => ?_⟩
  exact br_f h ⟨t + 1, q3 post hp t 0 (by omega)⟩
theorem xt_gc {D : Nat → Prop} (h : xh_u H = -1) (gd : gd_ H D) (hr : ∀ r, r < 18 → xm_s M r = 2 → ∃ t, xm_n M r = nI t ∧ D t) (hfree : ∃ t, t < 32 ∧ ¬ D t) :
    ∃ f, (∀ t, t < 32 → (bt f t = true ↔ cl_ (rx_ M 18) (ex_ H) t)) ∧ xt_ E S C W O M H f f := by
  obtain ⟨f, hf, hk⟩ := xq_reach (E := E) (S := S) (C := C) (W := W) (O := O) (k := 18) (by omega) gd hr
  have sub : ∀ t, t < 32 → bt f t = true → D t := by
    intro t ht hb
    refine ((hf t ht).mp hb) D (fun t' h' => ?_) (fun t1 t2 h1 h2 => ?_)
    · obtain ⟨h32, r, hr1, hr2, hr3⟩ := h'
      obtain ⟨t2, e2, d2⟩ := hr r hr1 hr2
      have : t' = t2 := (nI_eq (by omega) (by have := (gd t2 d2).1; omega)).mp (hr3.symm.trans e2)
      rw [this]; exact d2
    · obtain ⟨_, j, hj, es, en, h32⟩ := h2
      obtain ⟨t3, e3, d3⟩ := (gd t1 h1).2 j hj es
      have : t2 = t3 := (nI_eq (by omega) (by have := (gd t3 d3).1; omega)).mp (en.symm.trans e3)
      rw [this]; exact d3
  refine ⟨f, hf, ?_⟩
  obtain ⟨t0, ht0, nd⟩ := hfree
  obtain ⟨t, h1, h2, h3⟩ := xt_least f ⟨t0, ht0, by
    cases hb : bt f t0 with
    | false => rfl
    | true => exact absurd (sub t0 ht0 hb) nd⟩
  obtain ⟨es', en', q1, q2, q3⟩ := xt_24 (E := E) (S := S) (C := C) (W := W) (O := O) (M := M) (H := (f, f, xh_k H, xh_s H, xh_n H, xh_c H)) h1 h2 h3
  refine ⟨t, es', en', h1, h2, q1, q2, fun post hp => ?_⟩
  refine br_t h ?_
  refine hk _ ?_
  exact ⟨t + 1, q3 post hp t 0 (by omega)⟩
end
end
section
/-! values and tables of the two sides that belong to each other -/
def vr_ (β : Nat → Nat → Prop) (s n s' n' : Int32) : Prop := s = s' ∧ ((s = 0 ∧ n = 0) ∨ (s = 1 ∧ n = n') ∨ (s = 2 ∧ ∃ x y, n = nI x ∧ n' = nI y ∧ β x y))
def yo_ (T : gy_T) (y : Nat) : Prop := ∃ z, z ≤ 6 ∧ yt_z T y = nI z ∧ (∀ j, j < z → yt_s T (6 * y + j) ≠ 0) ∧ (∀ i j, i < z → j < z → yt_k T (6 * y + i) = yt_k T (6 * y + j) → i = j)
def tc_ (β : Nat → Nat → Prop) (H : gx_H) (T : gy_T) (x y : Nat) : Prop :=
  x < 32 ∧ y < 24 ∧ bt (xh_u H) x = true ∧ hs_ok (xh_s H) (xh_k H) (xh_n H) (8 * x) ∧ yo_ T y ∧ xh_c H x = yt_z T y ∧ nI (hs_c (xh_s H) (8 * x)) = yt_z T y ∧
  ∀ key, vr_ β (hs_l (xh_s H) (xh_k H) (xh_n H) (8 * x) key).1 (hs_l (xh_s H) (xh_k H) (xh_n H) (8 * x) key).2 (yf_l T y key).1 (yf_l T y key).2
def mr_ (β : Nat → Nat → Prop) (M : gx_M) (H : gx_H) (V : gy_V) (T : gy_T) : Prop :=
  (∀ x y x' y', β x y → β x' y' → (x = x' ↔ y = y')) ∧ (∀ x y, β x y → tc_ β H T x y) ∧
  (∀ r, r < 6 → vr_ β (xm_s M r) (xm_n M r) (yv_s V r) (yv_n V r)) ∧ (∀ r, r < 18 → ∃ s n, vr_ β (xm_s M r) (xm_n M r) s n)
def mt_ (β : Nat → Nat → Prop) (T : gy_T) : Prop := ∀ x y, β x y → yt_t T y ≠ 0
theorem vr_mono {β β' : Nat → Nat → Prop} (h : ∀ x y, β x y → β' x y) {s n s' n' : Int32} (v : vr_ β s n s' n') : vr_ β' s n s' n' := by
  obtain ⟨e, a | a | ⟨a, x, y, h1, h2, h3⟩⟩ := v
  · exact ⟨e, Or.inl a⟩
  · exact ⟨e, Or.inr (Or.inl a)⟩
  · exact ⟨e, Or.inr (Or.inr ⟨a, x, y, h1, h2, h x y h3⟩)⟩
theorem vr_s {β : Nat → Nat → Prop} {s n s' n' : Int32} (v : vr_ β s n s' n') : s = 0 ∨ s = 1 ∨ s = 2 := by
  obtain ⟨_, a | a | a⟩ := v
  · exact Or.inl a.1
  · exact Or.inr (Or.inl a.1)
  · exact Or.inr (Or.inr a.1)
theorem vr_0 {β : Nat → Nat → Prop} (n' : Int32) : vr_ β 0 0 0 n' := ⟨rfl, Or.inl ⟨rfl, rfl⟩⟩
theorem vr_1 {β : Nat → Nat → Prop} (n : Int32) : vr_ β 1 n 1 n := ⟨rfl, Or.inr (Or.inl ⟨rfl, rfl⟩)⟩
theorem vr_2 {β : Nat → Nat → Prop} {x y : Nat} (h : β x y) : vr_ β 2 (nI x) 2 (nI y) := ⟨rfl, Or.inr (Or.inr ⟨rfl, x, y, rfl, rfl, h⟩)⟩
theorem vr_tr {β : Nat → Nat → Prop} (b : Bool) : vr_ β (ev_tr b) (ev_tr b) (ev_tr b) (ev_tr b) := by
  cases b
  · exact vr_0 0
  · exact vr_1 1
theorem vr_i {β : Nat → Nat → Prop} {s n s' n' : Int32} (v : vr_ β s n s' n') (h : s = 1) : n = n' := by
  obtain ⟨_, a | a | a⟩ := v
  · exact absurd (a.1.symm.trans h) (by decide)
  · exact a.2
  · exact absurd (a.1.symm.trans h) (by decide)
theorem vr_t {β : Nat → Nat → Prop} {s n s' n' : Int32} (v : vr_ β s n s' n') (h : s = 2) : ∃ x y, n = nI x ∧ n' = nI y ∧ β x y := by
  obtain ⟨_, a | a | a⟩ := v
  · exact absurd (a.1.symm.trans h) (by decide)
  · exact absurd (a.1.symm.trans h) (by decide)
  · exact a.2
section
variable {β : Nat → Nat → Prop} {M : gx_M} {H : gx_H} {V : gy_V} {T : gy_T}
/-- both are the same on one side if they are on the other -/
theorem vr_eq (R : mr_ β M H V T) {s n s' n' t m t' m' : Int32} (v : vr_ β s n s' n') (w : vr_ β t m t' m') : (s = t ∧ n = m) ↔ (s' = t' ∧ (s' = 0 ∨ n' = m')) := by
  obtain ⟨e1, a⟩ := v
  obtain ⟨e2, b⟩ := w
  subst e1 e2
  constructor
  · rintro ⟨rfl, rfl⟩
    refine ⟨rfl, ?_⟩
    rcases a with ⟨a1, a2⟩ | ⟨a1, a2⟩ | ⟨a1, x, y, a2, a3, a4⟩
    · exact Or.inl a1
    · rcases b with ⟨b1, b2⟩ | ⟨b1, b2⟩ | ⟨b1, _⟩
      · exact Or.inl b1
      · exact Or.inr (a2.symm.trans b2)
      · exact absurd (a1.symm.trans b1) (by decide)
    · rcases b with ⟨b1, b2⟩ | ⟨b1, b2⟩ | ⟨b1, x', y', b2, b3, b4⟩
      · exact Or.inl b1
      · exact absurd (a1.symm.trans b1) (by decide)
      · have t1 := (R.2.1 x y a4).1
        have t2 := (R.2.1 x' y' b4).1
        have : x = x' := (nI_eq (by omega) (by omega)).mp (a2.symm.trans b2)
        have := (R.1 _ _ _ _ a4 b4).mp this
        exact Or.inr (by rw [a3, b3, this])
  · rintro ⟨rfl, h⟩
    refine ⟨rfl, ?_⟩
    rcases a with ⟨a1, a2⟩ | ⟨a1, a2⟩ | ⟨a1, x, y, a2, a3, a4⟩
    · rcases b with ⟨b1, b2⟩ | ⟨b1, b2⟩ | ⟨b1, _⟩
      · exact a2.trans b2.symm
      · exact absurd (a1.symm.trans b1) (by decide)
      · exact absurd (a1.symm.trans b1) (by decide)
    · rcases b with ⟨b1, b2⟩ | ⟨b1, b2⟩ | ⟨b1, _⟩
      · exact absurd (a1.symm.trans b1) (by decide)
      · rcases h with h | h
        · exact absurd (a1.symm.trans h) (by decide)
        · exact a2.trans (h.trans b2.symm)
      · exact absurd (a1.symm.trans b1) (by decide)
    · rcases b with ⟨b1, b2⟩ | ⟨b1, b2⟩ | ⟨b1, x', y', b2, b3, b4⟩
      · exact absurd (a1.symm.trans b1) (by decide)
      · exact absurd (a1.symm.trans b1) (by decide)
      · rcases h with h | h
        · exact absurd (a1.symm.trans h) (by decide)
        · have t1 := (R.2.1 x y a4).2.1
          have t2 := (R.2.1 x' y' b4).2.1
          have : y = y' := (nI_eq (by omega) (by omega)).mp (a3.symm.trans (h.trans b3))
          have := (R.1 _ _ _ _ a4 b4).mpr this
          rw [a2, b2, this]
/-- the entries of a table of the component -/
theorem mr_ex (R : mr_ β M H V T) {x y j : Nat} (h : β x y) (hj : j < 8) (h2 : xh_s H (8 * x + j) = 2) : ∃ x' y', xh_n H (8 * x + j) = nI x' ∧ β x' y' ∧ (yf_l T y (xh_k H (8 * x + j))).1 = 2 ∧ (yf_l T y (xh_k H (8 * x + j))).2 = nI y' := by
  obtain ⟨_, _, _, ok, _, _, _, v⟩ := R.2.1 x y h
  have l := hs_l_pos (nm := xh_n H) ok.2.1 hj (by rw [h2]; decide) rfl
  have v := v (xh_k H (8 * x + j))
  rw [l] at v
  obtain ⟨x', y', e1, e2, b⟩ := vr_t v h2
  exact ⟨x', y', e1, b, v.1.symm.trans h2, e2⟩
theorem mr_gd (R : mr_ β M H V T) : gd_ H (fun x => ∃ y, β x y) := by
  rintro x ⟨y, h⟩
  refine ⟨(R.2.1 x y h).1, fun j hj h2 => ?_⟩
  obtain ⟨x', y', e, b, _⟩ := mr_ex R h hj h2
  exact ⟨x', e, y', b⟩
theorem mr_reg (R : mr_ β M H V T) {r : Nat} (hr : r < 18) (h : xm_s M r = 2) : ∃ t, xm_n M r = nI t ∧ ∃ y, β t y := by
  obtain ⟨s, n, v⟩ := R.2.2.2 r hr
  obtain ⟨x, y, e1, _, b⟩ := vr_t v h
  exact ⟨x, e1, y, b⟩
/-- an entry of a table of the reference -/
theorem yo_l {y z j : Nat} (hz : yt_z T y = nI z) (hy : y < 24) (h6 : z ≤ 6) (hd : ∀ i j, i < z → j < z → yt_k T (6 * y + i) = yt_k T (6 * y + j) → i = j) (hj : j < z) : yf_l T y (yt_k T (6 * y + j)) = (yt_s T (6 * y + j), yt_n T (6 * y + j)) := by
  rcases yf_l_cases hz hy h6 (yt_k T (6 * y + j)) with ⟨i, h1, h2, _, h4, _⟩ | ⟨_, _, h⟩
  · have : i = j := hd i j h1 hj h2
    rw [this] at h4
    exact h4
  · exact absurd rfl (h j hj)
theorem mr_ye (R : mr_ β M H V T) {x y : Nat} (h : β x y) : ∃ z, z ≤ 6 ∧ yt_z T y = nI z ∧ ∀ j, j < z → yt_s T (6 * y + j) ≠ 0 ∧
    vr_ β (hs_l (xh_s H) (xh_k H) (xh_n H) (8 * x) (yt_k T (6 * y + j))).1 (hs_l (xh_s H) (xh_k H) (xh_n H) (8 * x) (yt_k T (6 * y + j))).2 (yt_s T (6 * y + j)) (yt_n T (6 * y + j)) := by
  obtain ⟨_, y24, _, _, ⟨z, h6, hz, hs, hd⟩, _, _, v⟩ := R.2.1 x y h
  refine ⟨z, h6, hz, fun j hj => ⟨hs j hj, ?_⟩⟩
  have v := v (yt_k T (6 * y + j))
  rw [yo_l hz y24 h6 hd hj] at v
  exact v
theorem mr_rg {M' : gx_M} {r : Nat} {s n s' n' : Int32} (R : mr_ β M H V T) (h6 : 6 ≤ r) (v : vr_ β s' n' s n) (e : M' = xm_rg M r s' n') : mr_ β M' H V T := by
  subst e
  refine ⟨R.1, R.2.1, fun q hq => ?_, fun q hq => ?_⟩
  · have e1 : xm_s (xm_rg M r s' n') q = xm_s M q := pk_un (by omega)
    have e2 : xm_n (xm_rg M r s' n') q = xm_n M q := pk_un (by omega)
    rw [e1, e2]
    exact R.2.2.1 q hq
  · by_cases c : q = r
    · have e1 : xm_s (xm_rg M r s' n') q = s' := by rw [c]; exact pk_us
      have e2 : xm_n (xm_rg M r s' n') q = n' := by rw [c]; exact pk_us
      rw [e1, e2]
      exact ⟨s, n, v⟩
    · have e1 : xm_s (xm_rg M r s' n') q = xm_s M q := pk_un c
      have e2 : xm_n (xm_rg M r s' n') q = xm_n M q := pk_un c
      rw [e1, e2]
      exact R.2.2.2 q hq
theorem vr_P {P : Nat → Prop} {s n s' n' : Int32} (v : vr_ β s n s' n') (h : ∀ x y, s = 2 → n = nI x → β x y → P x) : vr_ (fun x y => β x y ∧ P x) s n s' n' := by
  obtain ⟨e, a | a | ⟨a, x, y, h1, h2, h3⟩⟩ := v
  · exact ⟨e, Or.inl a⟩
  · exact ⟨e, Or.inr (Or.inl a)⟩
  · exact ⟨e, Or.inr (Or.inr ⟨a, x, y, h1, h2, h3, h x y a h1 h3⟩)⟩
/-- fewer tables: those of a set that is closed and holds the registers' -/
theorem mr_P {P : Nat → Prop} {u r : Int32} (R : mr_ β M H V T) (hP : ∀ t t', P t → ex_ H t t' → P t') (hr : ∀ t, rx_ M 18 t → P t) (hu : ∀ x y, β x y → P x → bt u x = true) :
    mr_ (fun x y => β x y ∧ P x) M (u, r, xh_k H, xh_s H, xh_n H, xh_c H) V T := by
  have reg : ∀ q, q < 18 → ∀ x y, xm_s M q = 2 → xm_n M q = nI x → β x y → P x := fun q hq x y h1 h2 h3 => hr x ⟨(R.2.1 x y h3).1, q, hq, h1, h2⟩
  refine ⟨fun x y x' y' h h' => R.1 x y x' y' h.1 h'.1, ?_, fun q hq => vr_P (R.2.2.1 q hq) (reg q (by omega)), fun q hq => ?_⟩
  · rintro x y ⟨h, p⟩
    obtain ⟨t1, t2, t3, t4, t5, t6, t7, t8⟩ := R.2.1 x y h
    refine ⟨t1, t2, hu x y h p, t4, t5, t6, t7, fun key => vr_P (t8 key) (fun x' y' h1 h2 h3 => ?_)⟩
    change (hs_l (xh_s H) (xh_k H) (xh_n H) (8 * x) key).1 = 2 at h1
    change (hs_l (xh_s H) (xh_k H) (xh_n H) (8 * x) key).2 = nI x' at h2
    rcases hs_l_cases (xh_s H) (xh_k H) (xh_n H) (8 * x) key with ⟨j, hj, _, _, l⟩ | ⟨_, l⟩
    · rw [l] at h1 h2
      exact hP x x' p ⟨t1, j, hj, h1, h2, (R.2.1 x' y' h3).1⟩
    · rw [l] at h1
      exact absurd h1 (by decide)
  · obtain ⟨s, n, v⟩ := R.2.2.2 q hq
    exact ⟨s, n, vr_P v (reg q hq)⟩
/-- a new table -/
theorem yf_nw {y : Nat} {key : Int32} (h : y ≠ ev_nt T) : yf_l (ev_nw T) y key = yf_l T y key := by
  have e : yt_z (ev_nw T) y = yt_z T y := pk_un h
  unfold yf_l yf_f
  rw [e]
  rfl
theorem mr_new {H' : gx_H} {t : Nat} {es en : Nat → Int32} {u r : Int32} (R : mr_ β M H V T) (hm : mt_ β T) (hc : yg_c T < 24) (ht : t < 32) (hf : bt u t = false) (hu : ∀ x y, β x y → bt u x = true)
    (h0 : ∀ q, 8 * t ≤ q → q < 8 * t + 8 → es q = 0 ∧ en q = 0) (h1 : ∀ q, q < 8 * t ∨ 8 * t + 8 ≤ q → es q = xh_s H q ∧ en q = xh_n H q) (e : H' = (bb_s u t, r, xh_k H, es, en, upd (xh_c H) t 0)) :
    mr_ (fun x y => β x y ∨ (x = t ∧ y = ev_nt T)) M H' V (ev_nw T) ∧ mt_ (fun x y => β x y ∨ (x = t ∧ y = ev_nt T)) (ev_nw T) := by
  subst e
  obtain ⟨n24, n0⟩ := yg_nt hc
  have nx : ∀ x y, β x y → x ≠ t := fun x y h w => by rw [w] at h; have := hu t y h; rw [hf] at this; exact absurd this (by decide)
  have ny : ∀ x y, β x y → y ≠ ev_nt T := fun x y h w => by rw [w] at h; exact hm x _ h n0
  have up : ∀ x y, β x y → β x y ∨ (x = t ∧ y = ev_nt T) := fun x y h => Or.inl h
  refine ⟨⟨?_, ?_, fun q hq => vr_mono up (R.2.2.1 q hq), fun q hq => ?_⟩, ?_⟩
  · rintro x y x' y' (h | ⟨rfl, rfl⟩) (h' | ⟨rfl, rfl⟩)
    · exact R.1 x y x' y' h h'
    · exact ⟨fun w => absurd w (nx x y h), fun w => absurd w (ny x y h)⟩
    · exact ⟨fun w => absurd w.symm (nx x' y' h'), fun w => absurd w.symm (ny x' y' h')⟩
    · exact ⟨fun _ => rfl, fun _ => rfl⟩
  · rintro x y (h | ⟨rfl, rfl⟩)
    · obtain ⟨t1, t2, t3, t4, t5, t6, t7, t8⟩ := R.2.1 x y h
      have nxt := nx x y h
      have cg : ∀ j, j < 8 → es (8 * x + j) = xh_s H (8 * x + j) ∧ xh_k H (8 * x + j) = xh_k H (8 * x + j) ∧ en (8 * x + j) = xh_n H (8 * x + j) := fun j hj => ⟨(h1 _ (by omega)).1, rfl, (h1 _ (by omega)).2⟩
      have ez : yt_z (ev_nw T) y = yt_z T y := pk_un (ny x y h)
      refine ⟨t1, t2, bb_mono u ht t1 (hu x y h), hs_ok_congr cg t4, ?_, ?_, ?_, fun key => ?_⟩
      · obtain ⟨z, z6, hz, hs, hd⟩ := t5
        exact ⟨z, z6, ez.trans hz, hs, hd⟩
      · rw [ez]
        exact (pk_un nxt).trans t6
      · rw [ez, ← t7]
        exact congrArg nI (hs_c_congr (fun j hj => (cg j hj).1))
      · have l : hs_l es (xh_k H) en (8 * x) key = hs_l (xh_s H) (xh_k H) (xh_n H) (8 * x) key := hs_l_congr cg
        have v := vr_mono up (t8 key)
        rw [← l, ← yf_nw (ny x y h)] at v
        exact v
    · have e0 : ∀ j, j < 8 → es (8 * x + j) = 0 := fun j hj => (h0 _ (by omega) (by omega)).1
      have c0 : hs_c es (8 * x) = 0 := kc_all0 (fun j hj => by rw [e0 j hj]; decide)
      have l : ∀ key, hs_l es (xh_k H) en (8 * x) key = (0, 0) := fun key => hs_l_neg (fun j hj w => absurd (e0 j hj) w)
      have ez : yt_z (ev_nw T) (ev_nt T) = nI 0 := yg_nw_z
      refine ⟨ht, n24, bb_new u ht, ⟨fun j q hj _ w => absurd (e0 j hj) w, fun i j hi _ w => absurd (e0 i hi) w, fun j hj _ => (h0 _ (by omega) (by omega)).2, ?_⟩, ⟨0, by omega, ez, fun j hj => by omega, fun i j hi => by omega⟩, ?_, ?_, fun key => ?_⟩
      · show hs_c es (8 * x) ≤ 6
        omega
      · rw [ez]; exact pk_us
      · show nI (hs_c es (8 * x)) = _
        rw [c0, ez]
      · have l := l key
        have l2 : yf_l (ev_nw T) (ev_nt T) key = (0, 0) := by
          rcases yf_l_cases ez n24 (by omega) key with ⟨j, hj, _⟩ | ⟨_, h2, _⟩
          · omega
          · exact h2
        show vr_ _ (hs_l es (xh_k H) en (8 * x) key).1 (hs_l es (xh_k H) en (8 * x) key).2 _ _
        rw [l, l2]
        exact vr_0 0
  · obtain ⟨s, n, v⟩ := R.2.2.2 q hq
    exact ⟨s, n, vr_mono up v⟩
  · rintro x y (h | ⟨rfl, rfl⟩)
    · exact ((yg_nw_le hc).2.2.2.2 y (R.2.1 x y h).2.1 (hm x y h)).1
    · rw [yg_nw_t]; decide
end
end
section
/-! the code of an expression, and what it does -/
section
variable {E : gx_E} {S : gx_S} {C : gx_C} {W : gx_W} {O : gx_O} {M : gx_M} {H : gx_H} {V : gy_V} {T : gy_T} {β : Nat → Nat → Prop}
theorem xi_newt {p a : Nat} {k u r : Int32} (hc : cb_ C p) (hi : in_ C p 11 a 0 0 k) (ha : a < 18) (hx : xt_ E S C W O M H u r) :
    ∃ t es en, t < 32 ∧ bt u t = false ∧ (∀ q, 8 * t ≤ q → q < 8 * t + 8 → es q = 0 ∧ en q = 0) ∧ (∀ q, q < 8 * t ∨ 8 * t + 8 ≤ q → es q = xh_s H q ∧ en q = xh_n H q) ∧
      xg_ E S C W O p M H (p + 1) (xm_rg M a 2 (nI t)) (bb_s u t, r, xh_k H, es, en, upd (xh_c H) t 0) := by
  obtain ⟨z, hz, hp, h350⟩ := hc
  obtain ⟨i1, i2, i3, i4, i5⟩ := hi
  obtain ⟨t, es, en, h1, h2, h3, h4, h5⟩ := hx
  refine ⟨t, es, en, h1, h2, h3, h4, xi_act1 hz hp h350 i1 (by omega) (by omega) (by omega) (by omega) (fun post h => ?_)⟩
  refine And.intro (by_in (by omega)) (nm_r ((ix_ev rfl).trans i2) (br_f (by decide) (br_t rfl ?_)))
  refine h5 _ ?_
  exact xr_set (H := (bb_s u t, r, xh_k H, es, en, upd (xh_c H) t 0)) ha (by_n (n := 2) (by omega)) h
theorem xi_count {p a b t : Nat} {k : Int32} (hc : cb_ C p) (hi : in_ C p 12 a b 0 k) (ha : a < 18) (hb : b < 18) (s2 : xm_s M b = 2) (hn : xm_n M b = nI t) (ht : t < 32) : xg_ E S C W O p M H (p + 1) (xm_rg M a 1 (xh_c H t)) H := by
  obtain ⟨z, hz, hp, h350⟩ := hc
  obtain ⟨i1, i2, i3, i4, i5⟩ := hi
  refine xi_act1 hz hp h350 i1 (by omega) (by omega) (by omega) (by omega) (fun post h => ?_)
  refine And.intro (by_in (by omega)) (nm_r ((ix_ev rfl).trans i2) (br_f (by decide) (br_f (by decide) (br_t rfl ⟨by_in (by omega), ?_⟩))))
  rw [ix_ev (a := xc_b C) (i := nI p) rfl, i3]
  refine ⟨by_in hb, br_t (ix_rd s2) ⟨by_in (by omega), by_in hb, ?_⟩⟩
  rw [ix_ev (a := xm_n M) (i := nI b) rfl, hn, ix_ev (a := xh_c H) (i := nI t) rfl]
  exact ⟨by_in ht, xr_set ha (by_n (n := 1) (by omega)) h⟩
theorem xi_countf {p a b : Nat} {k : Int32} (hc : cb_ C p) (hi : in_ C p 12 a b 0 k) (hb : b < 18) (s2 : ¬ xm_s M b = 2) : xf_ E S C W O p M H M H := by
  obtain ⟨z, hz, hp, h350⟩ := hc
  obtain ⟨i1, i2, i3, i4, i5⟩ := hi
  refine xi_act0 hz hp h350 i1 (by omega) (by omega) (by omega) (by omega) (fun post h => ?_)
  refine And.intro (by_in (by omega)) (nm_r ((ix_ev rfl).trans i2) (br_f (by decide) (br_f (by decide) (br_t rfl ⟨by_in (by omega), ?_⟩))))
  rw [ix_ev (a := xc_b C) (i := nI p) rfl, i3]
  exact ⟨by_in hb, br_f (ix_rn s2) h⟩
/-- an expression's code: fuel, expression, register, from, to -/
abbrev sp_ (E : gx_E) (x : Nat) : Prop := xe_s E x = 0 ∧ ev_k (xe_A E) x = 1
def oa_ (E : gx_E) (x r : Nat) : Nat := if sp_ E x then ev_cx (xe_A E) x else r
def lf_ (E : gx_E) (C : gx_C) (e r p : Nat) : Prop :=
  (xe_s E e = 1 → in_ C p 0 r 0 0 (xe_i E e)) ∧ (xe_s E e = 2 → in_ C p 7 r 0 0 0) ∧
  (xe_s E e = 0 → (ev_k (xe_A E) e = 1 → in_ C p 1 r (ev_cx (xe_A E) e) 0 0) ∧ (ev_k (xe_A E) e = 11 → in_ C p 11 r 0 0 0))
def ce_ (E : gx_E) (C : gx_C) : Nat → Nat → Nat → Nat → Nat → Prop
  | 0, _, _, _, _ => False
  | f + 1, e, r, p, q =>
    (xe_s E e ≠ 0 ∨ ev_k (xe_A E) e = 1 ∨ ev_k (xe_A E) e = 11 → q = p + 1 ∧ lf_ E C e r p) ∧
    (¬ (xe_s E e ≠ 0 ∨ ev_k (xe_A E) e = 1 ∨ ev_k (xe_A E) e = 11) →
      (ev_k (xe_A E) e = 7 ∨ ev_k (xe_A E) e = 8 → ∃ m, ce_ E C f (kn_a E (ev_cx (xe_A E) e)) r p m ∧ in_ C m (if ev_k (xe_A E) e = 7 then 19 else 20) r 0 0 (nI q) ∧ ce_ E C f (kn_a E (ev_cy (xe_A E) e)) r (m + 1) q) ∧
      (ev_k (xe_A E) e = 9 ∨ ev_k (xe_A E) e = 12 → ∃ m, ce_ E C f (kn_a E (ev_cx (xe_A E) e)) r p m ∧ in_ C m (ev_k (xe_A E) e) r r 0 0 ∧ q = m + 1) ∧
      (¬ (ev_k (xe_A E) e = 7 ∨ ev_k (xe_A E) e = 8) → ¬ (ev_k (xe_A E) e = 9 ∨ ev_k (xe_A E) e = 12) → ∃ m1 m2,
        ((sp_ E (kn_a E (ev_cx (xe_A E) e)) → m1 = p) ∧ (¬ sp_ E (kn_a E (ev_cx (xe_A E) e)) → ce_ E C f (kn_a E (ev_cx (xe_A E) e)) r p m1)) ∧
        ((sp_ E (kn_a E (ev_cy (xe_A E) e)) → m2 = m1) ∧ (¬ sp_ E (kn_a E (ev_cy (xe_A E) e)) → ce_ E C f (kn_a E (ev_cy (xe_A E) e)) (r + 1) m1 m2)) ∧
        in_ C m2 (ev_k (xe_A E) e) r (oa_ E (kn_a E (ev_cx (xe_A E) e)) r) (oa_ E (kn_a E (ev_cy (xe_A E) e)) (r + 1)) 0 ∧ q = m2 + 1))
theorem ce_lt : ∀ (f e r p q : Nat), ce_ E C f e r p q → p < q
  | 0, _, _, _, _, h => h.elim
  | f + 1, e, r, p, q, h => by
    by_cases l : xe_s E e ≠ 0 ∨ ev_k (xe_A E) e = 1 ∨ ev_k (xe_A E) e = 11
    · have := (h.1 l).1; omega
    · have h := h.2 l
      by_cases k7 : ev_k (xe_A E) e = 7 ∨ ev_k (xe_A E) e = 8
      · obtain ⟨m, h1, _, h2⟩ := h.1 k7
        have := ce_lt f _ _ _ _ h1
        have := ce_lt f _ _ _ _ h2
        omega
      · by_cases k9 : ev_k (xe_A E) e = 9 ∨ ev_k (xe_A E) e = 12
        · obtain ⟨m, h1, _, h2⟩ := h.2.1 k9
          have := ce_lt f _ _ _ _ h1
          omega
        · obtain ⟨m1, m2, h1, h2, _, h3⟩ := h.2.2 k7 k9
          have a1 : p ≤ m1 := by
            by_cases c : sp_ E (kn_a E (ev_cx (xe_A E) e))
            · have := h1.1 c; omega
            · have := ce_lt f _ _ _ _ (h1.2 c); omega
          have a2 : m1 ≤ m2 := by
            by_cases c : sp_ E (kn_a E (ev_cy (xe_A E) e))
            · have := h2.1 c; omega
            · have := ce_lt f _ _ _ _ (h2.2 c); omega
          omega
def fr_ (M M' : gx_M) : Prop := xm_c M' = xm_c M ∧ xm_h M' = xm_h M ∧ xm_l M' = xm_l M ∧ xm_m M' = xm_m M ∧ xm_v M' = xm_v M
theorem fr_rf : fr_ M M := ⟨rfl, rfl, rfl, rfl, rfl⟩
theorem fr_tr {M1 M2 : gx_M} (a : fr_ M M1) (b : fr_ M1 M2) : fr_ M M2 := ⟨b.1.trans a.1, b.2.1.trans a.2.1, b.2.2.1.trans a.2.2.1, b.2.2.2.1.trans a.2.2.2.1, b.2.2.2.2.trans a.2.2.2.2⟩
theorem fr_rg {r : Nat} {s n : Int32} : fr_ M (xm_rg M r s n) := ⟨rfl, rfl, rfl, rfl, rfl⟩
def ke_ (β β' : Nat → Nat → Prop) (M M' : gx_M) (r : Nat) : Prop := ∀ r', r' < r → ∀ s n, vr_ β (xm_s M r') (xm_n M r') s n → vr_ β' (xm_s M' r') (xm_n M' r') s n
theorem ke_tr {β1 β2 : Nat → Nat → Prop} {M1 M2 : gx_M} {r r1 : Nat} (a : ke_ β β1 M M1 r) (b : ke_ β1 β2 M1 M2 r1) (h : r ≤ r1) : ke_ β β2 M M2 r := fun r' hr s n v => b r' (by omega) s n (a r' hr s n v)
theorem ke_rg {r : Nat} {s0 n0 : Int32} : ke_ β β M (xm_rg M r s0 n0) r := by
  intro r' hr s n v
  have e1 : xm_s (xm_rg M r s0 n0) r' = xm_s M r' := pk_un (by omega)
  have e2 : xm_n (xm_rg M r s0 n0) r' = xm_n M r' := pk_un (by omega)
  rw [e1, e2]
  exact v
def sm_ (E : gx_E) (S : gx_S) (C : gx_C) (W : gx_W) (O : gx_O) (V : gy_V) (β : Nat → Nat → Prop) (M : gx_M) (H : gx_H) (p q r a : Nat) (R : ev_R) : Prop :=
  ∃ β' M' H', mr_ β' M' H' V R.2.2.2 ∧ mt_ β' R.2.2.2 ∧ fr_ M M' ∧
    (R.1 = true → xg_ E S C W O p M H q M' H' ∧ vr_ β' (xm_s M' a) (xm_n M' a) R.2.1 R.2.2.1 ∧ ke_ β β' M M' r) ∧
    (R.1 = false → xf_ E S C W O p M H M' H')
end
end
section
/-! what the code of an expression does, beside its value on the other side -/
section
variable {E : gx_E} {S : gx_S} {C : gx_C} {W : gx_W} {O : gx_O} {M : gx_M} {H : gx_H} {V : gy_V} {T : gy_T} {β : Nat → Nat → Prop}
theorem sm_set {p q r : Nat} {s n s' n' : Int32} (R : mr_ β M H V T) (hm : mt_ β T) (h6 : 6 ≤ r) (g : xg_ E S C W O p M H q (xm_rg M r s n) H) (v : vr_ β s n s' n') : sm_ E S C W O V β M H p q r r (true, s', n', T) := by
  refine ⟨β, xm_rg M r s n, H, mr_rg R h6 v rfl, hm, fr_rg, fun _ => ⟨g, ?_, ke_rg⟩, fun z => Bool.noConfusion (show true = false from z)⟩
  have e1 : xm_s (xm_rg M r s n) r = s := pk_us
  have e2 : xm_n (xm_rg M r s n) r = n := pk_us
  rw [e1, e2]
  exact v
theorem sm_fail {p q r a : Nat} {s n : Int32} (R : mr_ β M H V T) (hm : mt_ β T) (g : xf_ E S C W O p M H M H) : sm_ E S C W O V β M H p q r a (false, s, n, T) :=
  ⟨β, M, H, R, hm, fr_rf, fun z => Bool.noConfusion (show false = true from z), fun _ => g⟩
theorem mr_free (R : mr_ β M H V T) : ∃ t, t < 32 ∧ ¬ ∃ y, β t y := by
  apply Classical.byContradiction
  intro no
  have all : ∀ t, t < 32 → ∃ y, β t y := fun t ht => Classical.byContradiction (fun w => no ⟨t, ht, w⟩)
  have := kc_inj β (fun i i' j h h' => (R.1 i j i' j h h').mpr rfl) (fun _ => true) 24 32 (fun _ => true) (fun i hi _ => by
    obtain ⟨y, hy⟩ := all i hi
    exact ⟨y, (R.2.1 i y hy).2.1, rfl, hy⟩)
  exact absurd this (by decide)
theorem sm_new {p r : Nat} {k : Int32} (R : mr_ β M H V T) (hm : mt_ β T) (hc24 : yg_c T < 24) (h6 : 6 ≤ r) (hr : r < 18) (hc : cb_ C p) (hi : in_ C p 11 r 0 0 k) : sm_ E S C W O V β M H p (p + 1) r r (true, 2, nI (ev_nt T), ev_nw T) := by
  by_cases hu : xh_u H = -1
  · obtain ⟨f, hf, hx⟩ := xt_gc (E := E) (S := S) (C := C) (W := W) (O := O) hu (mr_gd R) (fun r hr h => mr_reg R hr h) (mr_free R)
    obtain ⟨t, es, en, h1, h2, h3, h4, g⟩ := xi_newt hc hi hr hx
    have R0 := mr_P (P := cl_ (rx_ M 18) (ex_ H)) (u := f) (r := f) R (fun t t' a b => cl_s a b) (fun t a => cl_r a) (fun x y hb hp => (hf x (R.2.1 x y hb).1).mpr hp)
    obtain ⟨R1, m1⟩ := mr_new (r := f) R0 (fun x y h => hm x y h.1) hc24 h1 h2 (fun x y h => (hf x (R.2.1 x y h.1).1).mpr h.2) h3 h4 rfl
    refine ⟨_, xm_rg M r 2 (nI t), _, mr_rg R1 h6 (vr_2 (x := t) (y := ev_nt T) (Or.inr ⟨rfl, rfl⟩)) rfl, m1, fr_rg, fun _ => ⟨g, ?_, ?_⟩, fun z => Bool.noConfusion (show true = false from z)⟩
    · have e1 : xm_s (xm_rg M r 2 (nI t)) r = 2 := pk_us
      have e2 : xm_n (xm_rg M r 2 (nI t)) r = nI t := pk_us
      rw [e1, e2]
      exact vr_2 (Or.inr ⟨rfl, rfl⟩)
    · intro r' hr' s n v
      have e1 : xm_s (xm_rg M r 2 (nI t)) r' = xm_s M r' := pk_un (by omega)
      have e2 : xm_n (xm_rg M r 2 (nI t)) r' = xm_n M r' := pk_un (by omega)
      rw [e1, e2]
      refine vr_mono (fun x y h => Or.inl h) (vr_P v (fun x y a b d => cl_r ⟨(R.2.1 x y d).1, r', by omega, a, b⟩))
  · have hx := xt_some (E := E) (S := S) (C := C) (W := W) (O := O) (M := M) hu
    obtain ⟨t, es, en, h1, h2, h3, h4, g⟩ := xi_newt hc hi hr hx
    obtain ⟨R1, m1⟩ := mr_new (r := xh_r H) R hm hc24 h1 h2 (fun x y h => (R.2.1 x y h).2.2.1) h3 h4 rfl
    refine ⟨_, xm_rg M r 2 (nI t), _, mr_rg R1 h6 (vr_2 (x := t) (y := ev_nt T) (Or.inr ⟨rfl, rfl⟩)) rfl, m1, fr_rg, fun _ => ⟨g, ?_, ?_⟩, fun z => Bool.noConfusion (show true = false from z)⟩
    · have e1 : xm_s (xm_rg M r 2 (nI t)) r = 2 := pk_us
      have e2 : xm_n (xm_rg M r 2 (nI t)) r = nI t := pk_us
      rw [e1, e2]
      exact vr_2 (Or.inr ⟨rfl, rfl⟩)
    · intro r' hr' s n v
      have e1 : xm_s (xm_rg M r 2 (nI t)) r' = xm_s M r' := pk_un (by omega)
      have e2 : xm_n (xm_rg M r 2 (nI t)) r' = xm_n M r' := pk_un (by omega)
      rw [e1, e2]
      exact vr_mono (fun x y h => Or.inl h) v
theorem sm_un {p r a k : Nat} {s n : Int32} (R : mr_ β M H V T) (hm : mt_ β T) (h6 : 6 ≤ r) (hr : r < 18) (ha : a < 18) (hc : cb_ C p) (hi : in_ C p k r a 0 0) (hk : k = 9 ∨ k = 12) (v : vr_ β (xm_s M a) (xm_n M a) s n) :
    sm_ E S C W O V β M H p (p + 1) r r ((ev_1 T k s n).1, (ev_1 T k s n).2.1, (ev_1 T k s n).2.2, T) := by
  unfold ev_1
  rcases hk with k9 | k12
  · subst k9
    rw [if_pos rfl, ← v.1]
    exact sm_set R hm h6 (xi_not hc hi hr ha) (vr_tr _)
  · subst k12
    rw [if_neg (by decide)]
    by_cases c : s = 2
    · rw [if_pos c]
      have c' : xm_s M a = 2 := v.1.trans c
      obtain ⟨x, y, e1, e2, b⟩ := vr_t v c'
      have tc := R.2.1 x y b
      refine sm_set R hm h6 (xi_count hc hi hr ha c' e1 tc.1) ?_
      rw [tc.2.2.2.2.2.1, e2, nI_clamp (by have := tc.2.1; omega)]
      exact vr_1 _
    · rw [if_neg c]
      exact sm_fail R hm (xi_countf hc hi ha (fun w => c (v.1.symm.trans w)))
theorem sm_bin {p r a b k : Nat} {s n t m : Int32} (R : mr_ β M H V T) (hm : mt_ β T) (h6 : 6 ≤ r) (hr : r < 18) (ha : a < 18) (hb : b < 18) (hc : cb_ C p) (hi : in_ C p k r a b 0) (hk : (2 ≤ k ∧ k ≤ 6) ∨ k = 10) (v : vr_ β (xm_s M a) (xm_n M a) s n) (w : vr_ β (xm_s M b) (xm_n M b) t m) :
    sm_ E S C W O V β M H p (p + 1) r r ((ev_2 T k s n t m).1, (ev_2 T k s n t m).2.1, (ev_2 T k s n t m).2.2, T) := by
  unfold ev_2
  by_cases k6 : k = 6
  · subst k6
    rw [if_pos rfl]
    have e := vr_eq R v w
    have d : decide (s = t ∧ (s = 0 ∨ n = m)) = decide (xm_s M a = xm_s M b ∧ xm_n M a = xm_n M b) := by
      by_cases c : xm_s M a = xm_s M b ∧ xm_n M a = xm_n M b
      · rw [decide_eq_true c, decide_eq_true (e.mp c)]
      · rw [decide_eq_false c, decide_eq_false (fun z => c (e.mpr z))]
    rw [d]
    exact sm_set R hm h6 (xi_same hc hi hr ha hb) (vr_tr _)
  · rw [if_neg k6]
    by_cases k10 : k = 10
    · subst k10
      rw [if_pos rfl]
      by_cases c : s = 2 ∧ t = 1
      · rw [if_pos c]
        have c1 : xm_s M a = 2 := v.1.trans c.1
        have c2 : xm_s M b = 1 := w.1.trans c.2
        obtain ⟨x, y, e1, e2, bb⟩ := vr_t v c1
        have tc := R.2.1 x y bb
        have key := vr_i w c2
        have vv := tc.2.2.2.2.2.2.2 (xm_n M b)
        rw [e2, nI_clamp (by have := tc.2.1; omega), ← key]
        exact sm_set R hm h6 (xi_entry hc hi hr ha hb c1 c2 tc.1 e1 tc.2.2.2.1 (vr_s vv)) vv
      · rw [if_neg c]
        exact sm_fail R hm (xi_entryf hc hi ha hb (fun z => c ⟨v.1.symm.trans z.1, w.1.symm.trans z.2⟩))
    · rw [if_neg k10]
      by_cases c : s = 1 ∧ t = 1
      · rw [if_pos c]
        have c1 : xm_s M a = 1 := v.1.trans c.1
        have c2 : xm_s M b = 1 := w.1.trans c.2
        have n1 := vr_i v c1
        have n2 := vr_i w c2
        by_cases k5 : k = 5
        · subst k5
          rw [if_pos rfl, ← n1, ← n2]
          exact sm_set R hm h6 (xi_less hc hi hr ha hb c1 c2) (vr_tr _)
        · rw [if_neg k5, ← n1, ← n2]
          exact sm_set R hm h6 (xi_ar hc hi (by omega) (by omega) hr ha hb c1 c2) (vr_1 _)
      · rw [if_neg c]
        exact sm_fail R hm (xi_arf hc hi (by omega) (by omega) ha hb (fun z => c ⟨v.1.symm.trans z.1, w.1.symm.trans z.2⟩))
/-- one after another -/
theorem sm_seq {β1 : Nat → Nat → Prop} {M1 : gx_M} {H1 : gx_H} {p q q' r r1 a : Nat} {R : ev_R} (f : fr_ M M1) (g : xg_ E S C W O p M H q M1 H1) (k : ke_ β β1 M M1 r) (hr : r ≤ r1) (h : sm_ E S C W O V β1 M1 H1 q q' r1 a R) : sm_ E S C W O V β M H p q' r a R := by
  obtain ⟨β', M', H', h1, h2, h3, h4, h5⟩ := h
  refine ⟨β', M', H', h1, h2, fr_tr f h3, fun z => ?_, fun z => xg_f g (h5 z)⟩
  obtain ⟨a1, a2, a3⟩ := h4 z
  exact ⟨xg_tr g a1, a2, ke_tr k a3 hr⟩
theorem sm_leaf {c z e r p : Nat} (hA : ar_ok (xe_A E) c) (hK : kn_ok E c) (hz : xc_n C = nI z) (z350 : z ≤ 350) (hl : lf_ E C e r p) (he : e < c) (hq : p + 1 ≤ z) (h6 : 6 ≤ r) (hr : r < 18)
    (l : xe_s E e ≠ 0 ∨ ev_k (xe_A E) e = 1 ∨ ev_k (xe_A E) e = 11) (R : mr_ β M H V T) (hm : mt_ β T) (hc : yg_c T + 1 ≤ 24) : sm_ E S C W O V β M H p (p + 1) r r (ev_ (xe_A E) V e T) := by
  have cb : cb_ C p := ⟨z, hz, by omega, z350⟩
  have km := (kn_ev hA hK e he).1
  have k1 := (hK e he).1
  obtain ⟨l1, l2, l3⟩ := hl
  by_cases s0 : xe_s E e = 0
  · rcases l with l | l | l
    · exact absurd s0 l
    · rw [ev_var l]
      have hv := (hA.2.2 e he).2.2.2.2.2.1 l
      have v := R.2.2.1 _ hv.2
      exact sm_set R hm h6 (xi_move cb ((l3 s0).1 l) hr (by omega) (vr_s v)) v
    · rw [ev_new l]
      exact sm_new R hm (by omega) h6 hr cb ((l3 s0).2 l)
  · rw [km s0 V T]
    rcases k1.1 with s | s | s
    · exact absurd s s0
    · rw [if_pos s]
      exact sm_set R hm h6 (xi_load cb (l1 s) hr) (vr_1 _)
    · rw [if_neg (by rw [s]; decide), k1.2.1 s]
      exact sm_set R hm h6 (xi_nothing cb (l2 s) hr) (vr_0 _)
end
end
section
/-! expressions: code beside value, the induction -/
section
variable {E : gx_E} {S : gx_S} {C : gx_C} {W : gx_W} {O : gx_O} {V : gy_V}
def se_P (E : gx_E) (S : gx_S) (C : gx_C) (W : gx_W) (O : gx_O) (V : gy_V) (c z f : Nat) : Prop :=
  ∀ (e r p q : Nat) (β : Nat → Nat → Prop) (M : gx_M) (H : gx_H) (T : gy_T), ce_ E C f e r p q → e < c → q ≤ z → 6 ≤ r → 2 * r + ev_w (xe_A E) e ≤ 35 →
    mr_ β M H V T → mt_ β T → yg_ V T → yg_c T + (ev_w (xe_A E) e + 1) / 2 ≤ 24 → sm_ E S C W O V β M H p q r r (ev_ (xe_A E) V e T)
/-- a part: its other expression that gives the same -/
theorem se_al {c x : Nat} (hA : ar_ok (xe_A E) c) (hK : kn_ok E c) (hx : x < c) : kn_a E x < c ∧ ev_w (xe_A E) (kn_a E x) ≤ ev_w (xe_A E) x ∧ ∀ V T, ev_ (xe_A E) V x T = ev_ (xe_A E) V (kn_a E x) T := by
  have m := kn_ev hA hK x hx
  have a := (hK x hx).1.2.2.2
  exact ⟨by omega, m.2.1.2.2.2, m.2.2⟩
theorem se_x {c z f x r p m : Nat} {β : Nat → Nat → Prop} {M : gx_M} {H : gx_H} {T : gy_T} (hA : ar_ok (xe_A E) c) (hK : kn_ok E c) (ih : se_P E S C W O V c z f) (hc : ce_ E C f (kn_a E x) r p m) (hx : x < c) (hm : m ≤ z) (h6 : 6 ≤ r) (hr : 2 * r + ev_w (xe_A E) x ≤ 35)
    (R : mr_ β M H V T) (mt : mt_ β T) (g : yg_ V T) (hc24 : yg_c T + (ev_w (xe_A E) x + 1) / 2 ≤ 24) : sm_ E S C W O V β M H p m r r (ev_ (xe_A E) V x T) := by
  obtain ⟨a1, a2, a3⟩ := se_al hA hK hx
  rw [a3]
  exact ih _ r p m β M H T hc a1 hm h6 (by omega) R mt g (by omega)
theorem se_ch {c z f e r p q : Nat} {β : Nat → Nat → Prop} {M : gx_M} {H : gx_H} {T : gy_T} (hA : ar_ok (xe_A E) c) (hK : kn_ok E c) (hz : xc_n C = nI z) (z350 : z ≤ 350) (ih : se_P E S C W O V c z f) (k7 : ev_k (xe_A E) e = 7 ∨ ev_k (xe_A E) e = 8)
    (hm : ∃ m, ce_ E C f (kn_a E (ev_cx (xe_A E) e)) r p m ∧ in_ C m (if ev_k (xe_A E) e = 7 then 19 else 20) r 0 0 (nI q) ∧ ce_ E C f (kn_a E (ev_cy (xe_A E) e)) r (m + 1) q)
    (he : e < c) (hq : q ≤ z) (h6 : 6 ≤ r) (hr : 2 * r + ev_w (xe_A E) e ≤ 35) (R : mr_ β M H V T) (mt : mt_ β T) (g : yg_ V T) (hc24 : yg_c T + (ev_w (xe_A E) e + 1) / 2 ≤ 24) : sm_ E S C W O V β M H p q r r (ev_ (xe_A E) V e T) := by
  obtain ⟨m, c1, ci, c2⟩ := hm
  have ha := hA.2.2 e he
  have p2 := ys_p2 k7
  have hx := ha.2.2.2.2.2.2.1 (by omega)
  have hy := ha.2.2.2.2.2.2.2.1 p2
  have hww := ha.2.2.2.2.2.2.2.2
  rw [if_pos (by omega), if_pos p2] at hww
  have wx := (hA.2.2 _ (Nat.lt_trans hx.2 he)).2.2.2.1
  have wy := (hA.2.2 _ (Nat.lt_trans hy.2 he)).2.2.2.1
  have m1 := ce_lt _ _ _ _ _ c1
  have m2 := ce_lt _ _ _ _ _ c2
  have sx := se_x (W := W) (O := O) (S := S) hA hK ih c1 (Nat.lt_trans hx.2 he) (by omega) h6 (by omega) R mt g (by omega)
  have yx := ev_yg (V := V) hA _ (Nat.lt_trans hx.2 he) T g (by omega)
  by_cases fx : (ev_ (xe_A E) V (ev_cx (xe_A E) e) T).1 = false
  · rw [ev_sub (by omega) hx.2 fx]
    obtain ⟨β', M', H', h1, h2, h3, _, h5⟩ := sx
    exact ⟨β', M', H', h1, h2, h3, fun w => by rw [fx] at w; exact absurd w (by decide), fun _ => h5 fx⟩
  · have ex := ev_ok fx
    have fx' : (ev_ (xe_A E) V (ev_cx (xe_A E) e) T).1 = true := by rw [ex]
    rw [ev_cs k7 hx.2 hy.2 ex]
    obtain ⟨β1, M1, H1, h1, h2, h3, h4, _⟩ := sx
    obtain ⟨g1, v1, k1⟩ := h4 fx'
    have cbm : m < z := by omega
    obtain ⟨i1, i2, i3, i4, i5⟩ := ci
    have r18 : r < 18 := by omega
    have sv := v1.1
    have yg1 := yx.1
    have yc1 := yx.2.2.1
    generalize ev_ (xe_A E) V (ev_cx (xe_A E) e) T = Rx at *
    by_cases cc : decide (Rx.2.1 = 0) = decide (ev_k (xe_A E) e = 7)
    · rw [if_pos cc]
      have jump : xg_ E S C W O m M1 H1 q M1 H1 := by
        rcases k7 with k | k
        · rw [if_pos k] at i1
          have gg := xi_ifn (E := E) (S := S) (W := W) (O := O) (M := M1) (H := H1) hz cbm z350 i1 i2 r18 i5
          rw [k] at cc
          rw [if_pos (by rw [sv]; simpa using cc)] at gg
          exact gg
        · rw [if_neg (by omega)] at i1
          have gg := xi_ifs (E := E) (S := S) (W := W) (O := O) (M := M1) (H := H1) hz cbm z350 i1 i2 r18 i5
          rw [k] at cc
          rw [if_neg (by rw [sv]; simpa using cc)] at gg
          exact gg
      exact ⟨β1, M1, H1, h1, h2, h3, fun _ => ⟨xg_tr g1 jump, v1, k1⟩, fun w => Bool.noConfusion (show true = false from w)⟩
    · rw [if_neg cc]
      have jump : xg_ E S C W O m M1 H1 (m + 1) M1 H1 := by
        rcases k7 with k | k
        · rw [if_pos k] at i1
          have gg := xi_ifn (E := E) (S := S) (W := W) (O := O) (M := M1) (H := H1) hz cbm z350 i1 i2 r18 i5
          rw [k] at cc
          rw [if_neg (by rw [sv]; simpa using cc)] at gg
          exact gg
        · rw [if_neg (by omega)] at i1
          have gg := xi_ifs (E := E) (S := S) (W := W) (O := O) (M := M1) (H := H1) hz cbm z350 i1 i2 r18 i5
          rw [k] at cc
          rw [if_pos (by rw [sv]; simpa using cc)] at gg
          exact gg
      have sy := se_x (W := W) (O := O) (S := S) hA hK ih c2 (Nat.lt_trans hy.2 he) hq h6 (by omega) h1 h2 yg1 (by omega)
      exact sm_seq h3 (xg_tr g1 jump) k1 (Nat.le_refl _) sy
theorem se_opd {c z f x r p m : Nat} {β : Nat → Nat → Prop} {M : gx_M} {H : gx_H} {T : gy_T} (hA : ar_ok (xe_A E) c) (hK : kn_ok E c) (ih : se_P E S C W O V c z f) (h1 : sp_ E (kn_a E x) → m = p) (h2 : ¬ sp_ E (kn_a E x) → ce_ E C f (kn_a E x) r p m) (hx : x < c) (hm : m ≤ z) (h6 : 6 ≤ r) (hr : 2 * r + ev_w (xe_A E) x ≤ 35)
    (R : mr_ β M H V T) (mt : mt_ β T) (g : yg_ V T) (hc24 : yg_c T + (ev_w (xe_A E) x + 1) / 2 ≤ 24) : sm_ E S C W O V β M H p m r (oa_ E (kn_a E x) r) (ev_ (xe_A E) V x T) := by
  unfold oa_
  by_cases s : sp_ E (kn_a E x)
  · rw [if_pos s]
    have e := h1 s
    subst e
    obtain ⟨a1, a2, a3⟩ := se_al hA hK hx
    rw [a3, ev_var s.2]
    have hv := (hA.2.2 _ a1).2.2.2.2.2.1 s.2
    exact ⟨β, M, H, R, mt, fr_rf, fun _ => ⟨xg_rf, R.2.2.1 _ hv.2, fun r' _ s n v => v⟩, fun z => Bool.noConfusion (show true = false from z)⟩
  · rw [if_neg s]
    exact se_x hA hK ih (h2 s) hx hm h6 hr R mt g hc24
theorem oa_lt {c x r : Nat} (hA : ar_ok (xe_A E) c) (hx : kn_a E x < c) : oa_ E (kn_a E x) r < 6 ∨ oa_ E (kn_a E x) r = r := by
  unfold oa_
  by_cases s : sp_ E (kn_a E x)
  · rw [if_pos s]
    exact Or.inl ((hA.2.2 _ hx).2.2.2.2.2.1 s.2).2
  · rw [if_neg s]
    exact Or.inr rfl
theorem se_bi {c z f e r p q : Nat} {β : Nat → Nat → Prop} {M : gx_M} {H : gx_H} {T : gy_T} (hA : ar_ok (xe_A E) c) (hK : kn_ok E c) (hz : xc_n C = nI z) (z350 : z ≤ 350) (ih : se_P E S C W O V c z f) (p2 : ev_pt (ev_k (xe_A E) e) = 2) (n7 : ¬ (ev_k (xe_A E) e = 7 ∨ ev_k (xe_A E) e = 8))
    (hm : ∃ m1 m2, ((sp_ E (kn_a E (ev_cx (xe_A E) e)) → m1 = p) ∧ (¬ sp_ E (kn_a E (ev_cx (xe_A E) e)) → ce_ E C f (kn_a E (ev_cx (xe_A E) e)) r p m1)) ∧
        ((sp_ E (kn_a E (ev_cy (xe_A E) e)) → m2 = m1) ∧ (¬ sp_ E (kn_a E (ev_cy (xe_A E) e)) → ce_ E C f (kn_a E (ev_cy (xe_A E) e)) (r + 1) m1 m2)) ∧
        in_ C m2 (ev_k (xe_A E) e) r (oa_ E (kn_a E (ev_cx (xe_A E) e)) r) (oa_ E (kn_a E (ev_cy (xe_A E) e)) (r + 1)) 0 ∧ q = m2 + 1)
    (he : e < c) (hq : q ≤ z) (h6 : 6 ≤ r) (hr : 2 * r + ev_w (xe_A E) e ≤ 35) (R : mr_ β M H V T) (mt : mt_ β T) (g : yg_ V T) (hc24 : yg_c T + (ev_w (xe_A E) e + 1) / 2 ≤ 24) : sm_ E S C W O V β M H p q r r (ev_ (xe_A E) V e T) := by
  obtain ⟨m1, m2, ⟨c1, c1'⟩, ⟨c2, c2'⟩, ci, eq⟩ := hm
  have ha := hA.2.2 e he
  have k12 := ha.2.1
  have hx := ha.2.2.2.2.2.2.1 (by omega)
  have hy := ha.2.2.2.2.2.2.2.1 p2
  have hww := ha.2.2.2.2.2.2.2.2
  rw [if_pos (by omega), if_pos p2] at hww
  have xc := Nat.lt_trans hx.2 he
  have yc := Nat.lt_trans hy.2 he
  have wx := (hA.2.2 _ xc).2.2.2.1
  have wy := (hA.2.2 _ yc).2.2.2.1
  have m12 : m1 ≤ m2 := by
    by_cases s : sp_ E (kn_a E (ev_cy (xe_A E) e))
    · have := c2 s; omega
    · have := ce_lt _ _ _ _ _ (c2' s); omega
  have sx := se_opd (W := W) (O := O) (S := S) hA hK ih c1 c1' xc (by omega) h6 (by omega) R mt g (by omega)
  have yx := ev_yg (V := V) hA _ xc T g (by omega)
  by_cases fx : (ev_ (xe_A E) V (ev_cx (xe_A E) e) T).1 = false
  · rw [ev_sub (by omega) hx.2 fx]
    obtain ⟨β', M', H', h1, h2, h3, _, h5⟩ := sx
    exact ⟨β', M', H', h1, h2, h3, fun w => by rw [fx] at w; exact absurd w (by decide), fun _ => h5 fx⟩
  · have ex := ev_ok fx
    have fx' : (ev_ (xe_A E) V (ev_cx (xe_A E) e) T).1 = true := by rw [ex]
    obtain ⟨β1, M1, H1, h1, h2, h3, h4, _⟩ := sx
    obtain ⟨g1, v1, k1⟩ := h4 fx'
    have sy := se_opd (W := W) (O := O) (S := S) hA hK ih c2 c2' yc (by omega) (by omega) (by omega) h1 h2 yx.1 (by have := yx.2.2.1; omega)
    by_cases fy : (ev_ (xe_A E) V (ev_cy (xe_A E) e) (ev_ (xe_A E) V (ev_cx (xe_A E) e) T).2.2.2).1 = false
    · rw [ev_two0 p2 n7 hx.2 hy.2 ex fy]
      have sy' : sm_ E S C W O V β1 M1 H1 m1 q (r + 1) r (ev_ (xe_A E) V (ev_cy (xe_A E) e) (ev_ (xe_A E) V (ev_cx (xe_A E) e) T).2.2.2) := by
        obtain ⟨β', M', H', q1, q2, q3, _, q5⟩ := sy
        exact ⟨β', M', H', q1, q2, q3, fun w => by rw [fy] at w; exact absurd w (by decide), fun _ => q5 fy⟩
      exact sm_seq h3 g1 k1 (by omega) sy'
    · have ey := ev_ok fy
      have fy' : (ev_ (xe_A E) V (ev_cy (xe_A E) e) (ev_ (xe_A E) V (ev_cx (xe_A E) e) T).2.2.2).1 = true := by rw [ey]
      rw [ev_two1 p2 n7 hx.2 hy.2 ex ey]
      obtain ⟨β2, M2, H2, l1, l2, l3, l4, _⟩ := sy
      obtain ⟨g2, v2, k2⟩ := l4 fy'
      have o1 := oa_lt (r := r) hA (se_al hA hK xc).1
      have o2 := oa_lt (r := r + 1) hA (se_al hA hK yc).1
      have v1' := k2 _ (by omega) _ _ v1
      have kk := ev_pt2 p2
      subst eq
      have fin := sm_bin (E := E) (S := S) (W := W) (O := O) l1 l2 h6 (by omega) (by omega) (by omega) ⟨z, hz, by omega, z350⟩ ci (by omega) v1' v2
      exact sm_seq (fr_tr h3 l3) (xg_tr g1 g2) (ke_tr k1 k2 (by omega)) (Nat.le_refl _) fin
theorem se_ {c z : Nat} (hA : ar_ok (xe_A E) c) (hK : kn_ok E c) (hz : xc_n C = nI z) (z350 : z ≤ 350) : ∀ f, se_P E S C W O V c z f := by
  intro f
  induction f with
  | zero => intro e r p q β M H T h; exact h.elim
  | succ f ih =>
    intro e r p q β M H T h he hq h6 hr R mt g hc24
    have ha := hA.2.2 e he
    have k12 := ha.2.1
    have w1 := ha.2.2.2.1
    by_cases l : xe_s E e ≠ 0 ∨ ev_k (xe_A E) e = 1 ∨ ev_k (xe_A E) e = 11
    · obtain ⟨eq, lf⟩ := h.1 l
      subst eq
      exact sm_leaf hA hK hz z350 lf he hq h6 (by omega) l R mt (by omega)
    · have h := h.2 l
      have n0 : ev_k (xe_A E) e ≠ 0 := by
        intro k0
        have := ((hK e he).2.1 k0).1
        exact l (Or.inl (by rw [this]; decide))
      by_cases k7 : ev_k (xe_A E) e = 7 ∨ ev_k (xe_A E) e = 8
      · exact se_ch hA hK hz z350 ih k7 (h.1 k7) he hq h6 hr R mt g hc24
      · by_cases k9 : ev_k (xe_A E) e = 9 ∨ ev_k (xe_A E) e = 12
        · obtain ⟨m, c1, ci, eq⟩ := h.2.1 k9
          have p1 : ev_pt (ev_k (xe_A E) e) = 1 := by unfold ev_pt; rw [if_neg (by omega), if_pos k9]
          have hx := ha.2.2.2.2.2.2.1 (by omega)
          have hww := ha.2.2.2.2.2.2.2.2
          rw [if_pos (by omega), if_neg (by omega)] at hww
          have xc := Nat.lt_trans hx.2 he
          have m1 := ce_lt _ _ _ _ _ c1
          have sx := se_x (W := W) (O := O) (S := S) hA hK ih c1 xc (by omega) h6 (by omega) R mt g (by omega)
          by_cases fx : (ev_ (xe_A E) V (ev_cx (xe_A E) e) T).1 = false
          · rw [ev_sub (by omega) hx.2 fx]
            obtain ⟨β', M', H', h1, h2, h3, _, h5⟩ := sx
            exact ⟨β', M', H', h1, h2, h3, fun w => by rw [fx] at w; exact absurd w (by decide), fun _ => h5 fx⟩
          · have ex := ev_ok fx
            have fx' : (ev_ (xe_A E) V (ev_cx (xe_A E) e) T).1 = true := by rw [ex]
            rw [ev_one p1 hx.2 ex]
            obtain ⟨β1, M1, H1, h1, h2, h3, h4, _⟩ := sx
            obtain ⟨g1, v1, k1⟩ := h4 fx'
            subst eq
            exact sm_seq h3 g1 k1 (Nat.le_refl _) (sm_un h1 h2 h6 (by omega) (by omega) ⟨z, hz, by omega, z350⟩ ci k9 v1)
        · have p2 : ev_pt (ev_k (xe_A E) e) = 2 := by clear h ih; unfold ev_pt; rw [if_neg (by omega), if_neg k9]
          exact se_bi hA hK hz z350 ih p2 k7 (h.2.2 k7 k9) he hq h6 hr R mt g hc24
end
end
section
/-! compiling: writing code -/
section
variable {E : gx_E} {S : gx_S} {C : gx_C} {W : gx_W} {O : gx_O} {M : gx_M} {H : gx_H}
def cw_ (C : gx_C) (p o a b c : Nat) (k : Int32) : gx_C := (xc_f C, nI (p + 1), upd (xc_o C) p (nI o), upd (xc_a C) p (nI a), upd (xc_b C) p (nI b), upd (xc_c C) p (nI c), upd (xc_k C) p k)
theorem xw_write {post : SX → Prop} {p o a b c : Nat} {k : Int32} (hp : xc_n C = nI p) (h350 : p < 350) (ho : o < 128) (ha : a < 128) (hb : b < 128) (hc : c < 128) (h : post (xk E S (cw_ C p o a b c k) W O M H)) : wpX_write post (xk E S C W O M H) (nI o) (nI a) (nI b) (nI c) k := by
  refine ix_st p 350 (nI o) h350 ?_ hp (by_n ho)
  refine ix_st p 350 (nI a) h350 ?_ hp (by_n ha)
  refine ix_st p 350 (nI b) h350 ?_ hp (by_n hb)
  refine ix_st p 350 (nI c) h350 ?_ hp (by_n hc)
  refine ix_st p 350 k h350 ?_ hp
  refine nm_r (e' := nI (p + 1)) (by rw [hp, nI_1]) ?_
  exact h
def ag_ (C C' : gx_C) (lo hi : Nat) : Prop := ∀ j, lo ≤ j → j < hi → xc_o C' j = xc_o C j ∧ xc_a C' j = xc_a C j ∧ xc_b C' j = xc_b C j ∧ xc_c C' j = xc_c C j ∧ xc_k C' j = xc_k C j
theorem ag_rf {lo hi : Nat} : ag_ C C lo hi := fun _ _ _ => ⟨rfl, rfl, rfl, rfl, rfl⟩
theorem ag_tr {C1 C2 : gx_C} {lo hi : Nat} (a : ag_ C C1 lo hi) (b : ag_ C1 C2 lo hi) : ag_ C C2 lo hi := fun j h1 h2 =>
  ⟨(b j h1 h2).1.trans (a j h1 h2).1, (b j h1 h2).2.1.trans (a j h1 h2).2.1, (b j h1 h2).2.2.1.trans (a j h1 h2).2.2.1, (b j h1 h2).2.2.2.1.trans (a j h1 h2).2.2.2.1, (b j h1 h2).2.2.2.2.trans (a j h1 h2).2.2.2.2⟩
theorem ag_sub {C' : gx_C} {lo hi lo' hi' : Nat} (a : ag_ C C' lo hi) (h1 : lo ≤ lo') (h2 : hi' ≤ hi) : ag_ C C' lo' hi' := fun j a1 a2 => a j (by omega) (by omega)
theorem ag_w {p o a b c lo : Nat} {k : Int32} : ag_ C (cw_ C p o a b c k) lo p := fun j _ h2 => ⟨pk_un (by omega), pk_un (by omega), pk_un (by omega), pk_un (by omega), pk_un (by omega)⟩
theorem in_w {p o a b c : Nat} {k : Int32} : in_ (cw_ C p o a b c k) p o a b c k := ⟨pk_us, pk_us, pk_us, pk_us, pk_us⟩
theorem in_ag {C' : gx_C} {lo hi p o a b c : Nat} {k : Int32} (g : ag_ C C' lo hi) (h1 : lo ≤ p) (h2 : p < hi) (h : in_ C p o a b c k) : in_ C' p o a b c k := by
  obtain ⟨g1, g2, g3, g4, g5⟩ := g p h1 h2
  exact ⟨g1.trans h.1, g2.trans h.2.1, g3.trans h.2.2.1, g4.trans h.2.2.2.1, g5.trans h.2.2.2.2⟩
theorem lf_ag {C' : gx_C} {lo hi e r p : Nat} (g : ag_ C C' lo hi) (h1 : lo ≤ p) (h2 : p < hi) (h : lf_ E C e r p) : lf_ E C' e r p :=
  ⟨fun z => in_ag g h1 h2 (h.1 z), fun z => in_ag g h1 h2 (h.2.1 z), fun z => ⟨fun w => in_ag g h1 h2 ((h.2.2 z).1 w), fun w => in_ag g h1 h2 ((h.2.2 z).2 w)⟩⟩
theorem ce_ag {C' : gx_C} {lo hi : Nat} (g : ag_ C C' lo hi) : ∀ (f e r p q : Nat), lo ≤ p → q ≤ hi → ce_ E C f e r p q → ce_ E C' f e r p q
  | 0, _, _, _, _, _, _, h => h.elim
  | f + 1, e, r, p, q, hp, hq, h => by
    have lt := ce_lt _ _ _ _ _ h
    refine ⟨fun l => ⟨(h.1 l).1, lf_ag g hp (by omega) (h.1 l).2⟩, fun l => ?_⟩
    have h := h.2 l
    refine ⟨fun k7 => ?_, fun k9 => ?_, fun k7 k9 => ?_⟩
    · obtain ⟨m, h1, h2, h3⟩ := h.1 k7
      have l1 := ce_lt _ _ _ _ _ h1
      have l2 := ce_lt _ _ _ _ _ h3
      exact ⟨m, ce_ag g f _ _ _ _ hp (by omega) h1, in_ag g (by omega) (by omega) h2, ce_ag g f _ _ _ _ (by omega) hq h3⟩
    · obtain ⟨m, h1, h2, h3⟩ := h.2.1 k9
      have l1 := ce_lt _ _ _ _ _ h1
      exact ⟨m, ce_ag g f _ _ _ _ hp (by omega) h1, in_ag g (by omega) (by omega) h2, h3⟩
    · obtain ⟨m1, m2, h1, h2, h3, h4⟩ := h.2.2 k7 k9
      have a1 : p ≤ m1 := by
        by_cases c : sp_ E (kn_a E (ev_cx (xe_A E) e))
        · have := h1.1 c; omega
        · have := ce_lt f _ _ _ _ (h1.2 c); omega
      have a2 : m1 ≤ m2 := by
        by_cases c : sp_ E (kn_a E (ev_cy (xe_A E) e))
        · have := h2.1 c; omega
        · have := ce_lt f _ _ _ _ (h2.2 c); omega
      exact ⟨m1, m2, ⟨h1.1, fun c => ce_ag g f _ _ _ _ hp (by omega) (h1.2 c)⟩, ⟨h2.1, fun c => ce_ag g f _ _ _ _ (by omega) (by omega) (h2.2 c)⟩, in_ag g (by omega) (by omega) h3, h4⟩
theorem xw_leaf {e r p c : Nat} (hA : ar_ok (xe_A E) c) (hK : kn_ok E c) (he : e < c) (hr : r < 128) (hp : xc_n C = nI p) (h350 : p < 350) (l : xe_s E e ≠ 0 ∨ ev_k (xe_A E) e = 1 ∨ ev_k (xe_A E) e = 11) :
    ∃ C', xc_n C' = nI (p + 1) ∧ xc_f C' = xc_f C ∧ ag_ C C' 0 p ∧ lf_ E C' e r p ∧ ∀ post : SX → Prop, post (xk E S C' W O M H) → wpX_compileLeaf post (xk E S C W O M H) (nI e) (nI r) := by
  have c30 := hA.2.1
  have k1 := (hK e he).1.1
  have ha := hA.2.2 e he
  have kk : xe_k E e = nI (ev_k (xe_A E) e) := ha.1
  by_cases s1 : xe_s E e = 1
  · refine ⟨cw_ C p 0 r 0 0 (xe_i E e), rfl, rfl, ag_w, ⟨fun _ => in_w, fun z => absurd (s1.symm.trans z) (by decide), fun z => absurd (s1.symm.trans z) (by decide)⟩, fun post h => ?_⟩
    refine And.intro (by_in (by omega)) (br_t (ix_rd s1) ⟨by_in (by omega), ?_⟩)
    rw [ix_ev (a := xe_i E) (i := nI e) rfl]
    exact xw_write (o := 0) (b := 0) (c := 0) hp h350 (by omega) hr (by omega) (by omega) h
  · by_cases s2 : xe_s E e = 2
    · refine ⟨cw_ C p 7 r 0 0 0, rfl, rfl, ag_w, ⟨fun z => absurd z s1, fun _ => in_w, fun z => absurd (s2.symm.trans z) (by decide)⟩, fun post h => ?_⟩
      refine And.intro (by_in (by omega)) (br_f (ix_rn s1) ⟨by_in (by omega), br_t (ix_rd s2) ?_⟩)
      exact xw_write (o := 7) (b := 0) (c := 0) hp h350 (by omega) hr (by omega) (by omega) h
    · have s0 : xe_s E e = 0 := by
        rcases k1 with z | z | z
        · exact z
        · exact absurd z s1
        · exact absurd z s2
      by_cases kv : ev_k (xe_A E) e = 1
      · have hv := ha.2.2.2.2.2.1 kv
        have hv1 : xe_x E e = nI (ev_cx (xe_A E) e) := hv.1
        refine ⟨cw_ C p 1 r (ev_cx (xe_A E) e) 0 0, rfl, rfl, ag_w, ⟨fun z => absurd z s1, fun z => absurd z s2, fun _ => ⟨fun _ => in_w, fun z => by omega⟩⟩, fun post h => ?_⟩
        rw [kv] at kk
        refine And.intro (by_in (by omega)) (br_f (ix_rn s1) ⟨by_in (by omega), br_f (ix_rn s2) ⟨by_in (by omega), br_t (ix_rd kk) ⟨by_in (by omega), ?_⟩⟩⟩)
        rw [ix_ev (a := xe_x E) (i := nI e) rfl, hv1]
        exact xw_write (o := 1) (c := 0) hp h350 (by omega) hr (by omega) (by omega) h
      · have kn : ev_k (xe_A E) e = 11 := by
          rcases l with z | z | z
          · exact absurd s0 z
          · exact absurd z kv
          · exact z
        refine ⟨cw_ C p 11 r 0 0 0, rfl, rfl, ag_w, ⟨fun z => absurd z s1, fun z => absurd z s2, fun _ => ⟨fun z => absurd z kv, fun _ => in_w⟩⟩, fun post h => ?_⟩
        rw [kn] at kk
        refine And.intro (by_in (by omega)) (br_f (ix_rn s1) ⟨by_in (by omega), br_f (ix_rn s2) ⟨by_in (by omega), br_f (ix_rn (by rw [kk]; decide)) ?_⟩⟩)
        exact xw_write (o := 11) (b := 0) (c := 0) hp h350 (by omega) hr (by omega) (by omega) h
theorem xs_choice {post : Int32 → Prop} {e k : Nat} (he : e < 30) (hk : xe_k E e = nI k) (k12 : k ≤ 12) (h : post (if k = 7 ∨ k = 8 then 1 else 0)) : wpX_isChoice post (xk E S C W O M H) (nI e) := by
  refine And.intro (by_in he) ?_
  rw [ix_ev (a := xe_k E) (i := nI e) rfl, hk]
  refine pk_eq k 7 (fun a => ?_) (fun a => And.intro (by_in he) (pk_eq k 8 (fun b => ?_) (fun b => ?_)))
  · rw [if_pos (by omega)] at h; exact h
  · rw [if_pos (by omega)] at h; exact h
  · rw [if_neg (by omega)] at h; exact h
theorem xs_simple {post : Int32 → Prop} {e : Nat} (he : e < 30) (hk : xe_k E e = nI (ev_k (xe_A E) e)) (k12 : ev_k (xe_A E) e ≤ 12) (h : post (if sp_ E e then 1 else 0)) : wpX_isSimple post (xk E S C W O M H) (nI e) := by
  refine And.intro (by_in he) ?_
  rw [ix_ev (a := xe_k E) (i := nI e) rfl, ix_ev (a := xe_s E) (i := nI e) rfl, hk]
  by_cases s0 : xe_s E e = 0
  · refine br_t s0 ⟨by_in he, pk_eq (ev_k (xe_A E) e) 1 (fun a => ?_) (fun a => ?_)⟩
    · rw [if_pos ⟨s0, a⟩] at h; exact h
    · rw [if_neg (fun z => a z.2)] at h; exact h
  · rw [if_neg (fun z => s0 z.1)] at h
    exact br_f s0 h
end
end
section
/-! compiling: one step of an expression -/
section
variable {E : gx_E} {S : gx_S} {C : gx_C} {W : gx_W} {O : gx_O} {M : gx_M} {H : gx_H}
def wp_ (W : gx_W) (t g : Nat) : gx_W := (xw_n W, xw_r W, upd (xw_p W) t (nI g), xw_t W)
def wt_ (W : gx_W) (t p : Nat) : gx_W := (xw_n W, xw_r W, xw_p W, upd (xw_t W) t (nI p))
def wq_ (W : gx_W) (i e r : Nat) : gx_W := (upd (xw_n W) i (nI e), upd (xw_r W) i (nI r), upd (xw_p W) i (nI 0), xw_t W)
def ck_ (C : gx_C) (m : Nat) (k : Int32) : gx_C := (xc_f C, xc_n C, xc_o C, xc_a C, xc_b C, xc_c C, upd (xc_k C) m k)
/-- what a step answers: the part to be compiled next, or that it is done -/
def cp_ (E : gx_E) (S : gx_S) (O : gx_O) (M : gx_M) (H : gx_H) (t : Nat) (C : gx_C) (W : gx_W) (a : Int32) (C' : gx_C) (W' : gx_W) : Prop :=
  ∀ post : Int32 → SX → Prop, post a (xk E S C' W' O M H) → wpX_compilePart post (xk E S C W O M H) (nI t)
theorem cp_leaf {e r p c t g : Nat} (hA : ar_ok (xe_A E) c) (hK : kn_ok E c) (he : e < c) (hr128 : r < 128) (hp : xc_n C = nI p) (h350 : p < 350) (t8 : t < 8) (g9 : g < 9) (hn : xw_n W t = nI e) (hr : xw_r W t = nI r) (hg : xw_p W t = nI g) (l : xe_s E e ≠ 0 ∨ ev_k (xe_A E) e = 1 ∨ ev_k (xe_A E) e = 11) :
    ∃ C', xc_n C' = nI (p + 1) ∧ xc_f C' = xc_f C ∧ ag_ C C' 0 p ∧ lf_ E C' e r p ∧ cp_ E S O M H t C W (-1) C' (wp_ W t (g + 1)) := by
  have c30 := hA.2.1
  have ha := hA.2.2 e he
  have hk : xe_k E e = nI (ev_k (xe_A E) e) := ha.1
  have k12 := ha.2.1
  obtain ⟨C', h1, h2, h3, h4, h5⟩ := xw_leaf (S := S) (W := wp_ W t (g + 1)) (O := O) (M := M) (H := H) hA hK he hr128 hp h350 l
  refine ⟨C', h1, h2, h3, h4, fun post h => ?_⟩
  refine And.intro (by_in t8) (nm_r ((ix_ev rfl).trans hn) (And.intro (by_in t8) (nm_r ((ix_ev rfl).trans hr) (And.intro (by_in (by omega)) (nm_r ((ix_ev rfl).trans hk) (And.intro (by_in t8) (nm_r ((ix_ev rfl).trans hg) (And.intro (by_in t8) ?_))))))))
  refine ix_st t 8 (nI (g + 1)) t8 ?_ rfl (by rw [ix_ev (a := xw_p W) (i := nI t) rfl, hg, nI_1]; exact by_n (by omega))
  refine And.intro (by_in (by omega)) ?_
  have fin : (wX_compilePart_63 post (nI e) (nI r) (xe_n E) (xs_n S) (xc_f C) (xc_n C) (xo_n O) (xm_c M) (xm_h M) (xh_u H) (xh_r H) (xe_k E) (xe_x E) (xe_y E) (xe_w E) (xe_s E) (xe_i E) (xe_a E) (xs_o S) (xs_x S) (xs_y S) (xs_z S) (xc_o C) (xc_a C) (xc_b C) (xc_c C) (xc_k C) (xw_n (wp_ W t (g + 1))) (xw_r (wp_ W t (g + 1))) (xw_p (wp_ W t (g + 1))) (xw_t (wp_ W t (g + 1))) (xo_e O) (xo_l O) (xo_p O) (xm_s M) (xm_n M) (xm_l M) (xm_m M) (xm_v M) (xh_k H) (xh_s H) (xh_n H) (xh_c H)) := h5 _ h
  by_cases s0 : xe_s E e = 0
  · refine br_t (ix_rd s0) ?_
    refine pk_eq (ev_k (xe_A E) e) 1 (fun _ => fin) (fun a => pk_eq (ev_k (xe_A E) e) 11 (fun _ => fin) (fun b => ?_))
    rcases l with w | w | w
    · exact absurd s0 w
    · exact absurd w a
    · exact absurd w b
  · exact br_f (ix_rn s0) fin
theorem cp_c0 {e r c t g : Nat} (hA : ar_ok (xe_A E) c) (he : e < c) (t8 : t < 8) (hn : xw_n W t = nI e) (hr : xw_r W t = nI r) (hg : xw_p W t = nI g) (g0 : g = 0) (l : ¬ (xe_s E e ≠ 0 ∨ ev_k (xe_A E) e = 1 ∨ ev_k (xe_A E) e = 11)) (k7 : ev_k (xe_A E) e = 7 ∨ ev_k (xe_A E) e = 8) :
    cp_ E S O M H t C W (nI (ev_cx (xe_A E) e)) C (wp_ W t (g + 1)) := by
  intro post h
  have c30 := hA.2.1
  have ha := hA.2.2 e he
  have hk : xe_k E e = nI (ev_k (xe_A E) e) := ha.1
  have k12 := ha.2.1
  have s0 : xe_s E e = 0 := Classical.byContradiction (fun w => l (Or.inl w))
  have k1 : ev_k (xe_A E) e ≠ 1 := fun w => l (Or.inr (Or.inl w))
  have k11 : ev_k (xe_A E) e ≠ 11 := fun w => l (Or.inr (Or.inr w))
  refine And.intro (by_in t8) (nm_r ((ix_ev rfl).trans hn) (And.intro (by_in t8) (nm_r ((ix_ev rfl).trans hr) (And.intro (by_in (by omega)) (nm_r ((ix_ev rfl).trans hk) (And.intro (by_in t8) (nm_r ((ix_ev rfl).trans hg) (And.intro (by_in t8) ?_))))))))
  refine ix_st t 8 (nI (g + 1)) t8 ?_ rfl (by rw [ix_ev (a := xw_p W) (i := nI t) rfl, hg, nI_1]; exact by_n (by omega))
  refine And.intro (by_in (by omega)) (br_t (ix_rd s0) ?_)
  refine pk_eq (ev_k (xe_A E) e) 1 (fun w => absurd w k1) (fun _ => pk_eq (ev_k (xe_A E) e) 11 (fun w => absurd w k11) (fun _ => ?_))
  refine xs_choice (W := wp_ W t (g + 1)) (by omega) hk k12 ?_
  rw [if_pos k7]
  refine br_f (by decide) (br_t (by rw [g0]; rfl) ⟨by_in (by omega), ?_⟩)
  have hx : xe_x E e = nI (ev_cx (xe_A E) e) := (ha.2.2.2.2.2.2.1 (by rw [ys_p2 k7]; omega)).1
  rw [ix_ev (a := xe_x E) (i := nI e) rfl, hx]
  exact h
theorem cp_c1 {e r c t g p : Nat} (hA : ar_ok (xe_A E) c) (he : e < c) (t8 : t < 8) (hn : xw_n W t = nI e) (hr : xw_r W t = nI r) (hg : xw_p W t = nI g) (g1 : g = 1) (l : ¬ (xe_s E e ≠ 0 ∨ ev_k (xe_A E) e = 1 ∨ ev_k (xe_A E) e = 11)) (k7 : ev_k (xe_A E) e = 7 ∨ ev_k (xe_A E) e = 8)
    (hr128 : r < 128) (hp : xc_n C = nI p) (h350 : p < 350) :
    cp_ E S O M H t C W (nI (ev_cy (xe_A E) e)) (cw_ C p (if ev_k (xe_A E) e = 7 then 19 else 20) r 0 0 0) (wt_ (wp_ W t (g + 1)) t p) := by
  intro post h
  have c30 := hA.2.1
  have ha := hA.2.2 e he
  have hk : xe_k E e = nI (ev_k (xe_A E) e) := ha.1
  have k12 := ha.2.1
  have s0 : xe_s E e = 0 := Classical.byContradiction (fun w => l (Or.inl w))
  have k1 : ev_k (xe_A E) e ≠ 1 := fun w => l (Or.inr (Or.inl w))
  have k11 : ev_k (xe_A E) e ≠ 11 := fun w => l (Or.inr (Or.inr w))
  refine And.intro (by_in t8) (nm_r ((ix_ev rfl).trans hn) (And.intro (by_in t8) (nm_r ((ix_ev rfl).trans hr) (And.intro (by_in (by omega)) (nm_r ((ix_ev rfl).trans hk) (And.intro (by_in t8) (nm_r ((ix_ev rfl).trans hg) (And.intro (by_in t8) ?_))))))))
  refine ix_st t 8 (nI (g + 1)) t8 ?_ rfl (by rw [ix_ev (a := xw_p W) (i := nI t) rfl, hg, nI_1]; exact by_n (by omega))
  refine And.intro (by_in (by omega)) (br_t (ix_rd s0) ?_)
  refine pk_eq (ev_k (xe_A E) e) 1 (fun w => absurd w k1) (fun _ => pk_eq (ev_k (xe_A E) e) 11 (fun w => absurd w k11) (fun _ => ?_))
  refine xs_choice (W := wp_ W t (g + 1)) (by omega) hk k12 ?_
  rw [if_pos k7]
  refine br_f (by decide) (br_f (by rw [g1]; decide) (br_t (by rw [g1]; rfl) ?_))
  refine ix_st t 8 (nI p) t8 ?_ rfl (by rw [show (xc_n C).toInt16.toInt32 = (nI p).toInt16.toInt32 from by rw [hp]]; exact by_s (by omega))
  have hy : xe_y E e = nI (ev_cy (xe_A E) e) := (ha.2.2.2.2.2.2.2.1 (ys_p2 k7)).1
  refine pk_eq (ev_k (xe_A E) e) 7 (fun k => ?_) (fun k => ?_)
  · rw [if_pos k] at h
    refine xw_write (W := wt_ (wp_ W t (g + 1)) t p) (o := 19) (b := 0) (c := 0) hp h350 (by omega) hr128 (by omega) (by omega) ?_
    refine ⟨by_in (by omega), ?_⟩
    rw [ix_ev (a := xe_y E) (i := nI e) rfl, hy]
    exact h
  · rw [if_neg k] at h
    refine xw_write (W := wt_ (wp_ W t (g + 1)) t p) (o := 20) (b := 0) (c := 0) hp h350 (by omega) hr128 (by omega) (by omega) ?_
    refine ⟨by_in (by omega), ?_⟩
    rw [ix_ev (a := xe_y E) (i := nI e) rfl, hy]
    exact h
theorem cp_c2 {e r c t g m : Nat} (hA : ar_ok (xe_A E) c) (he : e < c) (t8 : t < 8) (hn : xw_n W t = nI e) (hr : xw_r W t = nI r) (hg : xw_p W t = nI g) (g2 : g = 2) (l : ¬ (xe_s E e ≠ 0 ∨ ev_k (xe_A E) e = 1 ∨ ev_k (xe_A E) e = 11)) (k7 : ev_k (xe_A E) e = 7 ∨ ev_k (xe_A E) e = 8)
    (hm : xw_t W t = nI m) (h350 : m < 350) :
    cp_ E S O M H t C W (-1) (ck_ C m (xc_n C)) (wp_ W t (g + 1)) := by
  intro post h
  have c30 := hA.2.1
  have ha := hA.2.2 e he
  have hk : xe_k E e = nI (ev_k (xe_A E) e) := ha.1
  have k12 := ha.2.1
  have s0 : xe_s E e = 0 := Classical.byContradiction (fun w => l (Or.inl w))
  have k1 : ev_k (xe_A E) e ≠ 1 := fun w => l (Or.inr (Or.inl w))
  have k11 : ev_k (xe_A E) e ≠ 11 := fun w => l (Or.inr (Or.inr w))
  refine And.intro (by_in t8) (nm_r ((ix_ev rfl).trans hn) (And.intro (by_in t8) (nm_r ((ix_ev rfl).trans hr) (And.intro (by_in (by omega)) (nm_r ((ix_ev rfl).trans hk) (And.intro (by_in t8) (nm_r ((ix_ev rfl).trans hg) (And.intro (by_in t8) ?_))))))))
  refine ix_st t 8 (nI (g + 1)) t8 ?_ rfl (by rw [ix_ev (a := xw_p W) (i := nI t) rfl, hg, nI_1]; exact by_n (by omega))
  refine And.intro (by_in (by omega)) (br_t (ix_rd s0) ?_)
  refine pk_eq (ev_k (xe_A E) e) 1 (fun w => absurd w k1) (fun _ => pk_eq (ev_k (xe_A E) e) 11 (fun w => absurd w k11) (fun _ => ?_))
  refine xs_choice (W := wp_ W t (g + 1)) (by omega) hk k12 ?_
  rw [if_pos k7]
  refine br_f (by decide) (br_f (by rw [g2]; decide) (br_f (by rw [g2]; decide) ⟨by_in t8, ?_⟩))
  refine ix_st m 350 (xc_n C) h350 ?_ ((ix_ev rfl).trans hm)
  exact h
theorem cp_u0 {e r c t g : Nat} (hA : ar_ok (xe_A E) c) (he : e < c) (t8 : t < 8) (hn : xw_n W t = nI e) (hr : xw_r W t = nI r) (hg : xw_p W t = nI g) (g0 : g = 0) (l : ¬ (xe_s E e ≠ 0 ∨ ev_k (xe_A E) e = 1 ∨ ev_k (xe_A E) e = 11)) (k9 : ev_k (xe_A E) e = 9 ∨ ev_k (xe_A E) e = 12) :
    cp_ E S O M H t C W (nI (ev_cx (xe_A E) e)) C (wp_ W t (g + 1)) := by
  intro post h
  have c30 := hA.2.1
  have ha := hA.2.2 e he
  have hk : xe_k E e = nI (ev_k (xe_A E) e) := ha.1
  have k12 := ha.2.1
  have s0 : xe_s E e = 0 := Classical.byContradiction (fun w => l (Or.inl w))
  have k1 : ev_k (xe_A E) e ≠ 1 := fun w => l (Or.inr (Or.inl w))
  have k11 : ev_k (xe_A E) e ≠ 11 := fun w => l (Or.inr (Or.inr w))
  refine And.intro (by_in t8) (nm_r ((ix_ev rfl).trans hn) (And.intro (by_in t8) (nm_r ((ix_ev rfl).trans hr) (And.intro (by_in (by omega)) (nm_r ((ix_ev rfl).trans hk) (And.intro (by_in t8) (nm_r ((ix_ev rfl).trans hg) (And.intro (by_in t8) ?_))))))))
  refine ix_st t 8 (nI (g + 1)) t8 ?_ rfl (by rw [ix_ev (a := xw_p W) (i := nI t) rfl, hg, nI_1]; exact by_n (by omega))
  refine And.intro (by_in (by omega)) (br_t (ix_rd s0) ?_)
  refine pk_eq (ev_k (xe_A E) e) 1 (fun w => absurd w k1) (fun _ => pk_eq (ev_k (xe_A E) e) 11 (fun w => absurd w k11) (fun _ => ?_))
  refine xs_choice (W := wp_ W t (g + 1)) (by omega) hk k12 ?_
  rw [if_neg (by omega)]
  have hx : xe_x E e = nI (ev_cx (xe_A E) e) := (ha.2.2.2.2.2.2.1 (by unfold ev_pt; rw [if_neg (by omega), if_pos k9]; omega)).1
  have fin : (wX_compilePart_168 post (nI e) (nI r) (nI (ev_k (xe_A E) e)) (nI g) (xe_n E) (xs_n S) (xc_f C) (xc_n C) (xo_n O) (xm_c M) (xm_h M) (xh_u H) (xh_r H) (xe_k E) (xe_x E) (xe_y E) (xe_w E) (xe_s E) (xe_i E) (xe_a E) (xs_o S) (xs_x S) (xs_y S) (xs_z S) (xc_o C) (xc_a C) (xc_b C) (xc_c C) (xc_k C) (xw_n (wp_ W t (g + 1))) (xw_r (wp_ W t (g + 1))) (xw_p (wp_ W t (g + 1))) (xw_t (wp_ W t (g + 1))) (xo_e O) (xo_l O) (xo_p O) (xm_s M) (xm_n M) (xm_l M) (xm_m M) (xm_v M) (xh_k H) (xh_s H) (xh_n H) (xh_c H)) := by
    refine br_t (by rw [g0]; rfl) ⟨by_in (by omega), ?_⟩
    rw [ix_ev (a := xe_x E) (i := nI e) rfl, hx]
    exact h
  refine br_t rfl ?_
  refine pk_eq (ev_k (xe_A E) e) 9 (fun _ => fin) (fun a => pk_eq (ev_k (xe_A E) e) 12 (fun _ => fin) (fun b => ?_))
  omega
theorem cp_u1 {e r c t g p : Nat} (hA : ar_ok (xe_A E) c) (he : e < c) (t8 : t < 8) (hn : xw_n W t = nI e) (hr : xw_r W t = nI r) (hg : xw_p W t = nI g) (g1 : g = 1) (l : ¬ (xe_s E e ≠ 0 ∨ ev_k (xe_A E) e = 1 ∨ ev_k (xe_A E) e = 11)) (k9 : ev_k (xe_A E) e = 9 ∨ ev_k (xe_A E) e = 12)
    (hr128 : r < 128) (hp : xc_n C = nI p) (h350 : p < 350) :
    cp_ E S O M H t C W (-1) (cw_ C p (ev_k (xe_A E) e) r r 0 0) (wp_ W t (g + 1)) := by
  intro post h
  have c30 := hA.2.1
  have ha := hA.2.2 e he
  have hk : xe_k E e = nI (ev_k (xe_A E) e) := ha.1
  have k12 := ha.2.1
  have s0 : xe_s E e = 0 := Classical.byContradiction (fun w => l (Or.inl w))
  have k1 : ev_k (xe_A E) e ≠ 1 := fun w => l (Or.inr (Or.inl w))
  have k11 : ev_k (xe_A E) e ≠ 11 := fun w => l (Or.inr (Or.inr w))
  refine And.intro (by_in t8) (nm_r ((ix_ev rfl).trans hn) (And.intro (by_in t8) (nm_r ((ix_ev rfl).trans hr) (And.intro (by_in (by omega)) (nm_r ((ix_ev rfl).trans hk) (And.intro (by_in t8) (nm_r ((ix_ev rfl).trans hg) (And.intro (by_in t8) ?_))))))))
  refine ix_st t 8 (nI (g + 1)) t8 ?_ rfl (by rw [ix_ev (a := xw_p W) (i := nI t) rfl, hg, nI_1]; exact by_n (by omega))
  refine And.intro (by_in (by omega)) (br_t (ix_rd s0) ?_)
  refine pk_eq (ev_k (xe_A E) e) 1 (fun w => absurd w k1) (fun _ => pk_eq (ev_k (xe_A E) e) 11 (fun w => absurd w k11) (fun _ => ?_))
  refine xs_choice (W := wp_ W t (g + 1)) (by omega) hk k12 ?_
  rw [if_neg (by omega)]
  have fin : (wX_compilePart_168 post (nI e) (nI r) (nI (ev_k (xe_A E) e)) (nI g) (xe_n E) (xs_n S) (xc_f C) (xc_n C) (xo_n O) (xm_c M) (xm_h M) (xh_u H) (xh_r H) (xe_k E) (xe_x E) (xe_y E) (xe_w E) (xe_s E) (xe_i E) (xe_a E) (xs_o S) (xs_x S) (xs_y S) (xs_z S) (xc_o C) (xc_a C) (xc_b C) (xc_c C) (xc_k C) (xw_n (wp_ W t (g + 1))) (xw_r (wp_ W t (g + 1))) (xw_p (wp_ W t (g + 1))) (xw_t (wp_ W t (g + 1))) (xo_e O) (xo_l O) (xo_p O) (xm_s M) (xm_n M) (xm_l M) (xm_m M) (xm_v M) (xh_k H) (xh_s H) (xh_n H) (xh_c H)) := by
    refine br_f (by rw [g1]; decide) ?_
    exact xw_write (c := 0) hp h350 (by omega) hr128 hr128 (by omega) h
  refine br_t rfl ?_
  refine pk_eq (ev_k (xe_A E) e) 9 (fun _ => fin) (fun a => pk_eq (ev_k (xe_A E) e) 12 (fun _ => fin) (fun b => ?_))
  omega
theorem cp_273 {post : Int32 → SX → Prop} {c p r k x y : Nat} (hA : ar_ok (xe_A E) c) (hx : x < c) (hy : y < c) (hr128 : r < 127) (hk : k < 128) (hp : xc_n C = nI p) (h350 : p < 350)
    (h : post (-1) (xk E S (cw_ C p k r (oa_ E x r) (oa_ E y (r + 1)) 0) W O M H)) : (wX_compilePart_273 post (nI r) (nI k) (nI x) (nI y) (xe_n E) (xs_n S) (xc_f C) (xc_n C) (xo_n O) (xm_c M) (xm_h M) (xh_u H) (xh_r H) (xe_k E) (xe_x E) (xe_y E) (xe_w E) (xe_s E) (xe_i E) (xe_a E) (xs_o S) (xs_x S) (xs_y S) (xs_z S) (xc_o C) (xc_a C) (xc_b C) (xc_c C) (xc_k C) (xw_n W) (xw_r W) (xw_p W) (xw_t W) (xo_e O) (xo_l O) (xo_p O) (xm_s M) (xm_n M) (xm_l M) (xm_m M) (xm_v M) (xh_k H) (xh_s H) (xh_n H) (xh_c H)) := by
  have c30 := hA.2.1
  have hax := hA.2.2 x hx
  have hay := hA.2.2 y hy
  have last : ∀ a, a < 128 → post (-1) (xk E S (cw_ C p k r a (oa_ E y (r + 1)) 0) W O M H) → (wX_compilePart_293 post (nI r) (nI k) (nI y) (nI a) (xe_n E) (xs_n S) (xc_f C) (xc_n C) (xo_n O) (xm_c M) (xm_h M) (xh_u H) (xh_r H) (xe_k E) (xe_x E) (xe_y E) (xe_w E) (xe_s E) (xe_i E) (xe_a E) (xs_o S) (xs_x S) (xs_y S) (xs_z S) (xc_o C) (xc_a C) (xc_b C) (xc_c C) (xc_k C) (xw_n W) (xw_r W) (xw_p W) (xw_t W) (xo_e O) (xo_l O) (xo_p O) (xm_s M) (xm_n M) (xm_l M) (xm_m M) (xm_v M) (xh_k H) (xh_s H) (xh_n H) (xh_c H)) := by
    intro a ha h
    refine xs_simple (by omega) hay.1 hay.2.1 ?_
    by_cases s : sp_ E y
    · rw [if_pos s]
      have hv := hay.2.2.2.2.2.1 s.2
      have hv1 : xe_x E y = nI (ev_cx (xe_A E) y) := hv.1
      rw [show oa_ E y (r + 1) = ev_cx (xe_A E) y from if_pos s] at h
      refine br_f (by decide) ⟨by_in (by omega), ?_⟩
      rw [ix_ev (a := xe_x E) (i := nI y) rfl, hv1]
      exact xw_write hp h350 hk (by omega) ha (by omega) h
    · rw [if_neg s]
      rw [show oa_ E y (r + 1) = r + 1 from if_neg s] at h
      refine br_t rfl ?_
      rw [nI_1]
      exact xw_write hp h350 hk (by omega) ha (by omega) h
  refine xs_simple (by omega) hax.1 hax.2.1 ?_
  by_cases s : sp_ E x
  · rw [if_pos s]
    have hv := hax.2.2.2.2.2.1 s.2
    have hv1 : xe_x E x = nI (ev_cx (xe_A E) x) := hv.1
    rw [show oa_ E x r = ev_cx (xe_A E) x from if_pos s] at h
    refine br_f (by decide) ⟨by_in (by omega), ?_⟩
    rw [ix_ev (a := xe_x E) (i := nI x) rfl, hv1]
    exact last _ (by omega) h
  · rw [if_neg s]
    rw [show oa_ E x r = r from if_neg s] at h
    exact br_t rfl (last _ (by omega) h)
end
end
section
/-! compiling: two parts; the loop over the parts being worked on -/
section
variable {E : gx_E} {S : gx_S} {C : gx_C} {W : gx_W} {O : gx_O} {M : gx_M} {H : gx_H}
theorem cp_251n {post : Int32 → SX → Prop} {c r k x y t : Nat} (hA : ar_ok (xe_A E) c) (hy : y < c) (t8 : t < 8) (hg : xw_p W t = nI 2) (s : ¬ sp_ E y)
    (h : post (nI y) (xk E S C W O M H)) : (wX_compilePart_251 post (nI t) (nI r) (nI k) (nI x) (nI y) (xe_n E) (xs_n S) (xc_f C) (xc_n C) (xo_n O) (xm_c M) (xm_h M) (xh_u H) (xh_r H) (xe_k E) (xe_x E) (xe_y E) (xe_w E) (xe_s E) (xe_i E) (xe_a E) (xs_o S) (xs_x S) (xs_y S) (xs_z S) (xc_o C) (xc_a C) (xc_b C) (xc_c C) (xc_k C) (xw_n W) (xw_r W) (xw_p W) (xw_t W) (xo_e O) (xo_l O) (xo_p O) (xm_s M) (xm_n M) (xm_l M) (xm_m M) (xm_v M) (xh_k H) (xh_s H) (xh_n H) (xh_c H)) := by
  have c30 := hA.2.1
  have hay := hA.2.2 y hy
  refine And.intro (by_in t8) (br_t (ix_rd hg) ?_)
  refine xs_simple (by omega) hay.1 hay.2.1 ?_
  rw [if_neg s]
  exact br_t rfl h
theorem cp_251w {post : Int32 → SX → Prop} {c p r k x y t g : Nat} (hA : ar_ok (xe_A E) c) (hx : x < c) (hy : y < c) (hr128 : r < 127) (hk : k < 128) (hp : xc_n C = nI p) (h350 : p < 350) (t8 : t < 8) (g9 : g < 9) (hg : xw_p W t = nI g) (s : g = 2 → sp_ E y)
    (h : post (-1) (xk E S (cw_ C p k r (oa_ E x r) (oa_ E y (r + 1)) 0) W O M H)) : (wX_compilePart_251 post (nI t) (nI r) (nI k) (nI x) (nI y) (xe_n E) (xs_n S) (xc_f C) (xc_n C) (xo_n O) (xm_c M) (xm_h M) (xh_u H) (xh_r H) (xe_k E) (xe_x E) (xe_y E) (xe_w E) (xe_s E) (xe_i E) (xe_a E) (xs_o S) (xs_x S) (xs_y S) (xs_z S) (xc_o C) (xc_a C) (xc_b C) (xc_c C) (xc_k C) (xw_n W) (xw_r W) (xw_p W) (xw_t W) (xo_e O) (xo_l O) (xo_p O) (xm_s M) (xm_n M) (xm_l M) (xm_m M) (xm_v M) (xh_k H) (xh_s H) (xh_n H) (xh_c H)) := by
  have c30 := hA.2.1
  have hay := hA.2.2 y hy
  have fin := cp_273 (E := E) (S := S) (C := C) (W := W) (O := O) (M := M) (H := H) hA hx hy hr128 hk hp h350 h
  refine And.intro (by_in t8) ?_
  rw [ix_ev (a := xw_p W) (i := nI t) rfl, hg]
  refine pk_eq g 2 (fun g2 => ?_) (fun _ => fin)
  refine xs_simple (by omega) hay.1 hay.2.1 ?_
  rw [if_pos (s g2)]
  exact br_f (by decide) fin
theorem cp_b0n {e r c t g : Nat} (hA : ar_ok (xe_A E) c) (hK : kn_ok E c) (he : e < c) (t8 : t < 8) (hn : xw_n W t = nI e) (hr : xw_r W t = nI r) (hg : xw_p W t = nI g) (g0 : g = 0) (l : ¬ (xe_s E e ≠ 0 ∨ ev_k (xe_A E) e = 1 ∨ ev_k (xe_A E) e = 11)) (n0 : ev_k (xe_A E) e ≠ 0) (n7 : ¬ (ev_k (xe_A E) e = 7 ∨ ev_k (xe_A E) e = 8)) (n9 : ¬ (ev_k (xe_A E) e = 9 ∨ ev_k (xe_A E) e = 12))
    (sx : ¬ sp_ E (kn_a E (ev_cx (xe_A E) e))) : cp_ E S O M H t C W (nI (kn_a E (ev_cx (xe_A E) e))) C (wp_ W t (g + 1)) := by
  intro post h
  have c30 := hA.2.1
  have ha := hA.2.2 e he
  have hk : xe_k E e = nI (ev_k (xe_A E) e) := ha.1
  have k12 := ha.2.1
  have s0 : xe_s E e = 0 := Classical.byContradiction (fun w => l (Or.inl w))
  have k1 : ev_k (xe_A E) e ≠ 1 := fun w => l (Or.inr (Or.inl w))
  have k11 : ev_k (xe_A E) e ≠ 11 := fun w => l (Or.inr (Or.inr w))
  have p2 : ev_pt (ev_k (xe_A E) e) = 2 := by unfold ev_pt; rw [if_neg (by omega), if_neg n9]
  have hx : xe_x E e = nI (ev_cx (xe_A E) e) := (ha.2.2.2.2.2.2.1 (by omega)).1
  have hy : xe_y E e = nI (ev_cy (xe_A E) e) := (ha.2.2.2.2.2.2.2.1 p2).1
  have lx : ev_cx (xe_A E) e < e := (ha.2.2.2.2.2.2.1 (by omega)).2
  have ly : ev_cy (xe_A E) e < e := (ha.2.2.2.2.2.2.2.1 p2).2
  have hax : xe_a E (ev_cx (xe_A E) e) = nI (kn_a E (ev_cx (xe_A E) e)) := (hK _ (by omega)).1.2.2.1
  have hay : xe_a E (ev_cy (xe_A E) e) = nI (kn_a E (ev_cy (xe_A E) e)) := (hK _ (by omega)).1.2.2.1
  have qx : kn_a E (ev_cx (xe_A E) e) < c := by have := (hK (ev_cx (xe_A E) e) (by omega)).1.2.2.2; omega
  have qy : kn_a E (ev_cy (xe_A E) e) < c := by have := (hK (ev_cy (xe_A E) e) (by omega)).1.2.2.2; omega
  refine And.intro (by_in t8) (nm_r ((ix_ev rfl).trans hn) (And.intro (by_in t8) (nm_r ((ix_ev rfl).trans hr) (And.intro (by_in (by omega)) (nm_r ((ix_ev rfl).trans hk) (And.intro (by_in t8) (nm_r ((ix_ev rfl).trans hg) (And.intro (by_in t8) ?_))))))))
  refine ix_st t 8 (nI (g + 1)) t8 ?_ rfl (by rw [ix_ev (a := xw_p W) (i := nI t) rfl, hg, nI_1]; exact by_n (by omega))
  refine And.intro (by_in (by omega)) (br_t (ix_rd s0) ?_)
  refine pk_eq (ev_k (xe_A E) e) 1 (fun w => absurd w k1) (fun _ => pk_eq (ev_k (xe_A E) e) 11 (fun w => absurd w k11) (fun _ => ?_))
  refine xs_choice (W := wp_ W t (g + 1)) (by omega) hk k12 ?_
  rw [if_neg n7]
  refine br_t rfl ?_
  refine pk_eq (ev_k (xe_A E) e) 9 (fun w => absurd (Or.inl w) n9) (fun _ => pk_eq (ev_k (xe_A E) e) 12 (fun w => absurd (Or.inr w) n9) (fun _ => ?_))
  rw [ix_ev (a := xe_x E) (i := nI e) rfl, hx, ix_ev (a := xe_y E) (i := nI e) rfl, hy]
  refine And.intro (by_in (by omega)) (And.intro (by_in (by omega)) (nm_r ((ix_ev rfl).trans hax) (And.intro (by_in (by omega)) (And.intro (by_in (by omega)) (nm_r ((ix_ev rfl).trans hay) ?_)))))
  have hq := hA.2.2 _ qx
  refine br_t (by rw [g0]; rfl) ?_
  refine xs_simple (W := wp_ W t (g + 1)) (by omega) hq.1 hq.2.1 ?_
  rw [if_neg sx]
  exact br_t rfl h
theorem cp_b0y {e r c t g : Nat} (hA : ar_ok (xe_A E) c) (hK : kn_ok E c) (he : e < c) (t8 : t < 8) (hn : xw_n W t = nI e) (hr : xw_r W t = nI r) (hg : xw_p W t = nI g) (g0 : g = 0) (l : ¬ (xe_s E e ≠ 0 ∨ ev_k (xe_A E) e = 1 ∨ ev_k (xe_A E) e = 11)) (n0 : ev_k (xe_A E) e ≠ 0) (n7 : ¬ (ev_k (xe_A E) e = 7 ∨ ev_k (xe_A E) e = 8)) (n9 : ¬ (ev_k (xe_A E) e = 9 ∨ ev_k (xe_A E) e = 12))
    (sx : sp_ E (kn_a E (ev_cx (xe_A E) e))) (sy : ¬ sp_ E (kn_a E (ev_cy (xe_A E) e))) : cp_ E S O M H t C W (nI (kn_a E (ev_cy (xe_A E) e))) C (wp_ (wp_ W t (g + 1)) t 2) := by
  intro post h
  have c30 := hA.2.1
  have ha := hA.2.2 e he
  have hk : xe_k E e = nI (ev_k (xe_A E) e) := ha.1
  have k12 := ha.2.1
  have s0 : xe_s E e = 0 := Classical.byContradiction (fun w => l (Or.inl w))
  have k1 : ev_k (xe_A E) e ≠ 1 := fun w => l (Or.inr (Or.inl w))
  have k11 : ev_k (xe_A E) e ≠ 11 := fun w => l (Or.inr (Or.inr w))
  have p2 : ev_pt (ev_k (xe_A E) e) = 2 := by unfold ev_pt; rw [if_neg (by omega), if_neg n9]
  have hx : xe_x E e = nI (ev_cx (xe_A E) e) := (ha.2.2.2.2.2.2.1 (by omega)).1
  have hy : xe_y E e = nI (ev_cy (xe_A E) e) := (ha.2.2.2.2.2.2.2.1 p2).1
  have lx : ev_cx (xe_A E) e < e := (ha.2.2.2.2.2.2.1 (by omega)).2
  have ly : ev_cy (xe_A E) e < e := (ha.2.2.2.2.2.2.2.1 p2).2
  have hax : xe_a E (ev_cx (xe_A E) e) = nI (kn_a E (ev_cx (xe_A E) e)) := (hK _ (by omega)).1.2.2.1
  have hay : xe_a E (ev_cy (xe_A E) e) = nI (kn_a E (ev_cy (xe_A E) e)) := (hK _ (by omega)).1.2.2.1
  have qx : kn_a E (ev_cx (xe_A E) e) < c := by have := (hK (ev_cx (xe_A E) e) (by omega)).1.2.2.2; omega
  have qy : kn_a E (ev_cy (xe_A E) e) < c := by have := (hK (ev_cy (xe_A E) e) (by omega)).1.2.2.2; omega
  refine And.intro (by_in t8) (nm_r ((ix_ev rfl).trans hn) (And.intro (by_in t8) (nm_r ((ix_ev rfl).trans hr) (And.intro (by_in (by omega)) (nm_r ((ix_ev rfl).trans hk) (And.intro (by_in t8) (nm_r ((ix_ev rfl).trans hg) (And.intro (by_in t8) ?_))))))))
  refine ix_st t 8 (nI (g + 1)) t8 ?_ rfl (by rw [ix_ev (a := xw_p W) (i := nI t) rfl, hg, nI_1]; exact by_n (by omega))
  refine And.intro (by_in (by omega)) (br_t (ix_rd s0) ?_)
  refine pk_eq (ev_k (xe_A E) e) 1 (fun w => absurd w k1) (fun _ => pk_eq (ev_k (xe_A E) e) 11 (fun w => absurd w k11) (fun _ => ?_))
  refine xs_choice (W := wp_ W t (g + 1)) (by omega) hk k12 ?_
  rw [if_neg n7]
  refine br_t rfl ?_
  refine pk_eq (ev_k (xe_A E) e) 9 (fun w => absurd (Or.inl w) n9) (fun _ => pk_eq (ev_k (xe_A E) e) 12 (fun w => absurd (Or.inr w) n9) (fun _ => ?_))
  rw [ix_ev (a := xe_x E) (i := nI e) rfl, hx, ix_ev (a := xe_y E) (i := nI e) rfl, hy]
  refine And.intro (by_in (by omega)) (And.intro (by_in (by omega)) (nm_r ((ix_ev rfl).trans hax) (And.intro (by_in (by omega)) (And.intro (by_in (by omega)) (nm_r ((ix_ev rfl).trans hay) ?_)))))
  have hq := hA.2.2 _ qx
  refine br_t (by rw [g0]; rfl) ?_
  refine xs_simple (W := wp_ W t (g + 1)) (by omega) hq.1 hq.2.1 ?_
  rw [if_pos sx]
  refine br_f (by decide) ?_
  refine br_t (by rw [g0]; rfl) ⟨by_in t8, ?_⟩
  refine ix_st t 8 (nI 2) t8 ?_ rfl (by rw [nI_clamp (by omega), pk_us, g0]; exact by_n (n := 2) (by omega))
  exact cp_251n (W := wp_ (wp_ W t (g + 1)) t 2) hA qy t8 pk_us sy h
theorem cp_b0w {e r c t g p : Nat} (hA : ar_ok (xe_A E) c) (hK : kn_ok E c) (he : e < c) (t8 : t < 8) (hn : xw_n W t = nI e) (hr : xw_r W t = nI r) (hg : xw_p W t = nI g) (g0 : g = 0) (l : ¬ (xe_s E e ≠ 0 ∨ ev_k (xe_A E) e = 1 ∨ ev_k (xe_A E) e = 11)) (n0 : ev_k (xe_A E) e ≠ 0) (n7 : ¬ (ev_k (xe_A E) e = 7 ∨ ev_k (xe_A E) e = 8)) (n9 : ¬ (ev_k (xe_A E) e = 9 ∨ ev_k (xe_A E) e = 12))
    (hr128 : r < 127) (hp : xc_n C = nI p) (h350 : p < 350) (sx : sp_ E (kn_a E (ev_cx (xe_A E) e))) (sy : sp_ E (kn_a E (ev_cy (xe_A E) e))) : cp_ E S O M H t C W (-1) (cw_ C p (ev_k (xe_A E) e) r (oa_ E (kn_a E (ev_cx (xe_A E) e)) r) (oa_ E (kn_a E (ev_cy (xe_A E) e)) (r + 1)) 0) (wp_ (wp_ W t (g + 1)) t 2) := by
  intro post h
  have c30 := hA.2.1
  have ha := hA.2.2 e he
  have hk : xe_k E e = nI (ev_k (xe_A E) e) := ha.1
  have k12 := ha.2.1
  have s0 : xe_s E e = 0 := Classical.byContradiction (fun w => l (Or.inl w))
  have k1 : ev_k (xe_A E) e ≠ 1 := fun w => l (Or.inr (Or.inl w))
  have k11 : ev_k (xe_A E) e ≠ 11 := fun w => l (Or.inr (Or.inr w))
  have p2 : ev_pt (ev_k (xe_A E) e) = 2 := by unfold ev_pt; rw [if_neg (by omega), if_neg n9]
  have hx : xe_x E e = nI (ev_cx (xe_A E) e) := (ha.2.2.2.2.2.2.1 (by omega)).1
  have hy : xe_y E e = nI (ev_cy (xe_A E) e) := (ha.2.2.2.2.2.2.2.1 p2).1
  have lx : ev_cx (xe_A E) e < e := (ha.2.2.2.2.2.2.1 (by omega)).2
  have ly : ev_cy (xe_A E) e < e := (ha.2.2.2.2.2.2.2.1 p2).2
  have hax : xe_a E (ev_cx (xe_A E) e) = nI (kn_a E (ev_cx (xe_A E) e)) := (hK _ (by omega)).1.2.2.1
  have hay : xe_a E (ev_cy (xe_A E) e) = nI (kn_a E (ev_cy (xe_A E) e)) := (hK _ (by omega)).1.2.2.1
  have qx : kn_a E (ev_cx (xe_A E) e) < c := by have := (hK (ev_cx (xe_A E) e) (by omega)).1.2.2.2; omega
  have qy : kn_a E (ev_cy (xe_A E) e) < c := by have := (hK (ev_cy (xe_A E) e) (by omega)).1.2.2.2; omega
  refine And.intro (by_in t8) (nm_r ((ix_ev rfl).trans hn) (And.intro (by_in t8) (nm_r ((ix_ev rfl).trans hr) (And.intro (by_in (by omega)) (nm_r ((ix_ev rfl).trans hk) (And.intro (by_in t8) (nm_r ((ix_ev rfl).trans hg) (And.intro (by_in t8) ?_))))))))
  refine ix_st t 8 (nI (g + 1)) t8 ?_ rfl (by rw [ix_ev (a := xw_p W) (i := nI t) rfl, hg, nI_1]; exact by_n (by omega))
  refine And.intro (by_in (by omega)) (br_t (ix_rd s0) ?_)
  refine pk_eq (ev_k (xe_A E) e) 1 (fun w => absurd w k1) (fun _ => pk_eq (ev_k (xe_A E) e) 11 (fun w => absurd w k11) (fun _ => ?_))
  refine xs_choice (W := wp_ W t (g + 1)) (by omega) hk k12 ?_
  rw [if_neg n7]
  refine br_t rfl ?_
  refine pk_eq (ev_k (xe_A E) e) 9 (fun w => absurd (Or.inl w) n9) (fun _ => pk_eq (ev_k (xe_A E) e) 12 (fun w => absurd (Or.inr w) n9) (fun _ => ?_))
  rw [ix_ev (a := xe_x E) (i := nI e) rfl, hx, ix_ev (a := xe_y E) (i := nI e) rfl, hy]
  refine And.intro (by_in (by omega)) (And.intro (by_in (by omega)) (nm_r ((ix_ev rfl).trans hax) (And.intro (by_in (by omega)) (And.intro (by_in (by omega)) (nm_r ((ix_ev rfl).trans hay) ?_)))))
  have hq := hA.2.2 _ qx
  refine br_t (by rw [g0]; rfl) ?_
  refine xs_simple (W := wp_ W t (g + 1)) (by omega) hq.1 hq.2.1 ?_
  rw [if_pos sx]
  refine br_f (by decide) ?_
  refine br_t (by rw [g0]; rfl) ⟨by_in t8, ?_⟩
  refine ix_st t 8 (nI 2) t8 ?_ rfl (by rw [nI_clamp (by omega), pk_us, g0]; exact by_n (n := 2) (by omega))
  exact cp_251w (W := wp_ (wp_ W t (g + 1)) t 2) (g := 2) hA qx qy hr128 (by omega) hp h350 t8 (by omega) pk_us (fun _ => sy) h
theorem cp_b1y {e r c t g : Nat} (hA : ar_ok (xe_A E) c) (hK : kn_ok E c) (he : e < c) (t8 : t < 8) (hn : xw_n W t = nI e) (hr : xw_r W t = nI r) (hg : xw_p W t = nI g) (g1 : g = 1) (l : ¬ (xe_s E e ≠ 0 ∨ ev_k (xe_A E) e = 1 ∨ ev_k (xe_A E) e = 11)) (n0 : ev_k (xe_A E) e ≠ 0) (n7 : ¬ (ev_k (xe_A E) e = 7 ∨ ev_k (xe_A E) e = 8)) (n9 : ¬ (ev_k (xe_A E) e = 9 ∨ ev_k (xe_A E) e = 12))
    (sy : ¬ sp_ E (kn_a E (ev_cy (xe_A E) e))) : cp_ E S O M H t C W (nI (kn_a E (ev_cy (xe_A E) e))) C (wp_ W t (g + 1)) := by
  intro post h
  have c30 := hA.2.1
  have ha := hA.2.2 e he
  have hk : xe_k E e = nI (ev_k (xe_A E) e) := ha.1
  have k12 := ha.2.1
  have s0 : xe_s E e = 0 := Classical.byContradiction (fun w => l (Or.inl w))
  have k1 : ev_k (xe_A E) e ≠ 1 := fun w => l (Or.inr (Or.inl w))
  have k11 : ev_k (xe_A E) e ≠ 11 := fun w => l (Or.inr (Or.inr w))
  have p2 : ev_pt (ev_k (xe_A E) e) = 2 := by unfold ev_pt; rw [if_neg (by omega), if_neg n9]
  have hx : xe_x E e = nI (ev_cx (xe_A E) e) := (ha.2.2.2.2.2.2.1 (by omega)).1
  have hy : xe_y E e = nI (ev_cy (xe_A E) e) := (ha.2.2.2.2.2.2.2.1 p2).1
  have lx : ev_cx (xe_A E) e < e := (ha.2.2.2.2.2.2.1 (by omega)).2
  have ly : ev_cy (xe_A E) e < e := (ha.2.2.2.2.2.2.2.1 p2).2
  have hax : xe_a E (ev_cx (xe_A E) e) = nI (kn_a E (ev_cx (xe_A E) e)) := (hK _ (by omega)).1.2.2.1
  have hay : xe_a E (ev_cy (xe_A E) e) = nI (kn_a E (ev_cy (xe_A E) e)) := (hK _ (by omega)).1.2.2.1
  have qx : kn_a E (ev_cx (xe_A E) e) < c := by have := (hK (ev_cx (xe_A E) e) (by omega)).1.2.2.2; omega
  have qy : kn_a E (ev_cy (xe_A E) e) < c := by have := (hK (ev_cy (xe_A E) e) (by omega)).1.2.2.2; omega
  refine And.intro (by_in t8) (nm_r ((ix_ev rfl).trans hn) (And.intro (by_in t8) (nm_r ((ix_ev rfl).trans hr) (And.intro (by_in (by omega)) (nm_r ((ix_ev rfl).trans hk) (And.intro (by_in t8) (nm_r ((ix_ev rfl).trans hg) (And.intro (by_in t8) ?_))))))))
  refine ix_st t 8 (nI (g + 1)) t8 ?_ rfl (by rw [ix_ev (a := xw_p W) (i := nI t) rfl, hg, nI_1]; exact by_n (by omega))
  refine And.intro (by_in (by omega)) (br_t (ix_rd s0) ?_)
  refine pk_eq (ev_k (xe_A E) e) 1 (fun w => absurd w k1) (fun _ => pk_eq (ev_k (xe_A E) e) 11 (fun w => absurd w k11) (fun _ => ?_))
  refine xs_choice (W := wp_ W t (g + 1)) (by omega) hk k12 ?_
  rw [if_neg n7]
  refine br_t rfl ?_
  refine pk_eq (ev_k (xe_A E) e) 9 (fun w => absurd (Or.inl w) n9) (fun _ => pk_eq (ev_k (xe_A E) e) 12 (fun w => absurd (Or.inr w) n9) (fun _ => ?_))
  rw [ix_ev (a := xe_x E) (i := nI e) rfl, hx, ix_ev (a := xe_y E) (i := nI e) rfl, hy]
  refine And.intro (by_in (by omega)) (And.intro (by_in (by omega)) (nm_r ((ix_ev rfl).trans hax) (And.intro (by_in (by omega)) (And.intro (by_in (by omega)) (nm_r ((ix_ev rfl).trans hay) ?_)))))
  refine br_f (by rw [g1]; decide) ?_
  refine br_f (by rw [g1]; decide) ?_
  exact cp_251n (W := wp_ W t (g + 1)) hA qy t8 (by rw [g1]; exact pk_us) sy h
theorem cp_b2w {e r c t g p : Nat} (hA : ar_ok (xe_A E) c) (hK : kn_ok E c) (he : e < c) (t8 : t < 8) (hn : xw_n W t = nI e) (hr : xw_r W t = nI r) (hg : xw_p W t = nI g) (g1 : g = 1 ∨ g = 2) (l : ¬ (xe_s E e ≠ 0 ∨ ev_k (xe_A E) e = 1 ∨ ev_k (xe_A E) e = 11)) (n0 : ev_k (xe_A E) e ≠ 0) (n7 : ¬ (ev_k (xe_A E) e = 7 ∨ ev_k (xe_A E) e = 8)) (n9 : ¬ (ev_k (xe_A E) e = 9 ∨ ev_k (xe_A E) e = 12))
    (hr128 : r < 127) (hp : xc_n C = nI p) (h350 : p < 350) (sy : g = 1 → sp_ E (kn_a E (ev_cy (xe_A E) e))) : cp_ E S O M H t C W (-1) (cw_ C p (ev_k (xe_A E) e) r (oa_ E (kn_a E (ev_cx (xe_A E) e)) r) (oa_ E (kn_a E (ev_cy (xe_A E) e)) (r + 1)) 0) (wp_ W t (g + 1)) := by
  intro post h
  have c30 := hA.2.1
  have ha := hA.2.2 e he
  have hk : xe_k E e = nI (ev_k (xe_A E) e) := ha.1
  have k12 := ha.2.1
  have s0 : xe_s E e = 0 := Classical.byContradiction (fun w => l (Or.inl w))
  have k1 : ev_k (xe_A E) e ≠ 1 := fun w => l (Or.inr (Or.inl w))
  have k11 : ev_k (xe_A E) e ≠ 11 := fun w => l (Or.inr (Or.inr w))
  have p2 : ev_pt (ev_k (xe_A E) e) = 2 := by unfold ev_pt; rw [if_neg (by omega), if_neg n9]
  have hx : xe_x E e = nI (ev_cx (xe_A E) e) := (ha.2.2.2.2.2.2.1 (by omega)).1
  have hy : xe_y E e = nI (ev_cy (xe_A E) e) := (ha.2.2.2.2.2.2.2.1 p2).1
  have lx : ev_cx (xe_A E) e < e := (ha.2.2.2.2.2.2.1 (by omega)).2
  have ly : ev_cy (xe_A E) e < e := (ha.2.2.2.2.2.2.2.1 p2).2
  have hax : xe_a E (ev_cx (xe_A E) e) = nI (kn_a E (ev_cx (xe_A E) e)) := (hK _ (by omega)).1.2.2.1
  have hay : xe_a E (ev_cy (xe_A E) e) = nI (kn_a E (ev_cy (xe_A E) e)) := (hK _ (by omega)).1.2.2.1
  have qx : kn_a E (ev_cx (xe_A E) e) < c := by have := (hK (ev_cx (xe_A E) e) (by omega)).1.2.2.2; omega
  have qy : kn_a E (ev_cy (xe_A E) e) < c := by have := (hK (ev_cy (xe_A E) e) (by omega)).1.2.2.2; omega
  refine And.intro (by_in t8) (nm_r ((ix_ev rfl).trans hn) (And.intro (by_in t8) (nm_r ((ix_ev rfl).trans hr) (And.intro (by_in (by omega)) (nm_r ((ix_ev rfl).trans hk) (And.intro (by_in t8) (nm_r ((ix_ev rfl).trans hg) (And.intro (by_in t8) ?_))))))))
  refine ix_st t 8 (nI (g + 1)) t8 ?_ rfl (by rw [ix_ev (a := xw_p W) (i := nI t) rfl, hg, nI_1]; exact by_n (by omega))
  refine And.intro (by_in (by omega)) (br_t (ix_rd s0) ?_)
  refine pk_eq (ev_k (xe_A E) e) 1 (fun w => absurd w k1) (fun _ => pk_eq (ev_k (xe_A E) e) 11 (fun w => absurd w k11) (fun _ => ?_))
  refine xs_choice (W := wp_ W t (g + 1)) (by omega) hk k12 ?_
  rw [if_neg n7]
  refine br_t rfl ?_
  refine pk_eq (ev_k (xe_A E) e) 9 (fun w => absurd (Or.inl w) n9) (fun _ => pk_eq (ev_k (xe_A E) e) 12 (fun w => absurd (Or.inr w) n9) (fun _ => ?_))
  rw [ix_ev (a := xe_x E) (i := nI e) rfl, hx, ix_ev (a := xe_y E) (i := nI e) rfl, hy]
  refine And.intro (by_in (by omega)) (And.intro (by_in (by omega)) (nm_r ((ix_ev rfl).trans hax) (And.intro (by_in (by omega)) (And.intro (by_in (by omega)) (nm_r ((ix_ev rfl).trans hay) ?_)))))
  have gn : ¬ nI g = 0 := nI_ne0 (by omega) (by omega)
  refine br_f gn ?_
  refine br_f gn ?_
  exact cp_251w (W := wp_ W t (g + 1)) (g := g + 1) hA qx qy hr128 (by omega) hp h350 t8 (by omega) pk_us (fun w => sy (by omega)) h
/-- the loop: t parts are being worked on -/
def xl_ (E : gx_E) (S : gx_S) (O : gx_O) (M : gx_M) (H : gx_H) (t : Nat) (C : gx_C) (W : gx_W) (t' : Nat) (C' : gx_C) (W' : gx_W) : Prop :=
  ∀ (post : SX → Prop) (n : Nat), (wX_compileExpression_29 post n (nI t' + (-1)) (xe_n E) (xs_n S) (xc_f C') (xc_n C') (xo_n O) (xm_c M) (xm_h M) (xh_u H) (xh_r H) (xe_k E) (xe_x E) (xe_y E) (xe_w E) (xe_s E) (xe_i E) (xe_a E) (xs_o S) (xs_x S) (xs_y S) (xs_z S) (xc_o C') (xc_a C') (xc_b C') (xc_c C') (xc_k C') (xw_n W') (xw_r W') (xw_p W') (xw_t W') (xo_e O) (xo_l O) (xo_p O) (xm_s M) (xm_n M) (xm_l M) (xm_m M) (xm_v M) (xh_k H) (xh_s H) (xh_n H) (xh_c H)) → ∃ n', (wX_compileExpression_29 post n' (nI t + (-1)) (xe_n E) (xs_n S) (xc_f C) (xc_n C) (xo_n O) (xm_c M) (xm_h M) (xh_u H) (xh_r H) (xe_k E) (xe_x E) (xe_y E) (xe_w E) (xe_s E) (xe_i E) (xe_a E) (xs_o S) (xs_x S) (xs_y S) (xs_z S) (xc_o C) (xc_a C) (xc_b C) (xc_c C) (xc_k C) (xw_n W) (xw_r W) (xw_p W) (xw_t W) (xo_e O) (xo_l O) (xo_p O) (xm_s M) (xm_n M) (xm_l M) (xm_m M) (xm_v M) (xh_k H) (xh_s H) (xh_n H) (xh_c H))
theorem xl_tr {t t1 t2 : Nat} {C1 C2 : gx_C} {W1 W2 : gx_W} (a : xl_ E S O M H t C W t1 C1 W1) (b : xl_ E S O M H t1 C1 W1 t2 C2 W2) : xl_ E S O M H t C W t2 C2 W2 := by
  intro post n h
  obtain ⟨n', h'⟩ := b post n h
  exact a post n' h'
theorem xl_pop {t : Nat} {C1 : gx_C} {W1 : gx_W} (t8 : t < 8) (h : cp_ E S O M H t C W (-1) C1 W1) : xl_ E S O M H (t + 1) C W t C1 W1 := by
  intro post n hk
  refine ⟨n + 1, ?_⟩
  rw [pk_m1]
  refine br_f (nI_pos (by omega)) ?_
  refine h _ ?_
  exact br_f (by decide) (nm_e hk)
theorem xl_push {t x e r u g : Nat} {C1 : gx_C} {W1 : gx_W} (t8 : t + 1 < 8) (hx : x < 30) (he : e < 30) (h : cp_ E S O M H t C W (nI x) C1 W1) (hr : xw_r W1 t = nI r) (hg : xw_p W1 t = nI g) (hn : xw_n W1 t = nI e) (hk : xe_k E e = nI (ev_k (xe_A E) e)) (k12 : ev_k (xe_A E) e ≤ 12) (g9 : g < 9) (r100 : r < 100) (ha : xe_a E x = nI (kn_a E x)) (ha30 : kn_a E x < 30)
    (hu : u = if g = 2 ∧ ¬ (ev_k (xe_A E) e = 7 ∨ ev_k (xe_A E) e = 8) then r + 1 else r) : xl_ E S O M H (t + 1) C W (t + 2) C1 (wq_ W1 (t + 1) (kn_a E x) u) := by
  intro post n hk'
  refine ⟨n + 1, ?_⟩
  rw [show t + 2 = (t + 1) + 1 from rfl, pk_m1] at hk'
  rw [pk_m1]
  refine br_f (nI_pos (by omega)) ?_
  refine h _ ?_
  refine br_t (nI_pos' (by omega)) ⟨by_in (by omega), nm_r ((ix_ev rfl).trans hr) ⟨by_in (by omega), ?_⟩⟩
  have fin : ∀ v, v = nI u → (wX_compileExpression_85 post (wX_compileExpression_29 post n) (nI t) (nI x) v (xe_n E) (xs_n S) (xc_f C1) (xc_n C1) (xo_n O) (xm_c M) (xm_h M) (xh_u H) (xh_r H) (xe_k E) (xe_x E) (xe_y E) (xe_w E) (xe_s E) (xe_i E) (xe_a E) (xs_o S) (xs_x S) (xs_y S) (xs_z S) (xc_o C1) (xc_a C1) (xc_b C1) (xc_c C1) (xc_k C1) (xw_n W1) (xw_r W1) (xw_p W1) (xw_t W1) (xo_e O) (xo_l O) (xo_p O) (xm_s M) (xm_n M) (xm_l M) (xm_m M) (xm_v M) (xh_k H) (xh_s H) (xh_n H) (xh_c H)) := by
    intro v hv
    have u128 : u < 128 := by rw [hu]; split <;> omega
    refine nm_r (nI_1 t) (And.intro (by_in hx) ?_)
    refine ix_st (t + 1) 8 (nI (kn_a E x)) t8 ?_ rfl (by rw [ix_ev (a := xe_a E) (i := nI x) rfl, ha]; exact by_v (by omega))
    refine ix_st (t + 1) 8 (nI u) t8 ?_ rfl (by rw [hv]; exact by_n u128)
    refine ix_st (t + 1) 8 (nI 0) t8 ?_ rfl (by_v (n := 0) (by omega))
    exact hk'
  rw [ix_ev (a := xw_p W1) (i := nI t) rfl, hg, ix_ev (a := xw_n W1) (i := nI t) rfl, hn]
  refine pk_eq g 2 (fun g2 => ?_) (fun g2 => ?_)
  · refine ⟨by_in (by omega), ?_⟩
    refine xs_choice (C := C1) (W := W1) he hk k12 ?_
    by_cases k7 : ev_k (xe_A E) e = 7 ∨ ev_k (xe_A E) e = 8
    · rw [if_pos k7]
      rw [if_neg (fun w => w.2 k7)] at hu
      exact br_f (by decide) (fin _ (by rw [hu]))
    · rw [if_neg k7]
      rw [if_pos ⟨g2, k7⟩] at hu
      exact br_t rfl (nm_r (nI_1 r) (fin _ (by rw [hu])))
  · rw [if_neg (fun w => g2 w.1)] at hu
    exact fin _ (by rw [hu])
end
end
section
/-! compiling: an expression's code is written -/
section
variable {E : gx_E} {S : gx_S} {C : gx_C} {W : gx_W} {O : gx_O} {M : gx_M} {H : gx_H}
def wk_ (W W' : gx_W) (t : Nat) : Prop := ∀ j, j < t → xw_n W' j = xw_n W j ∧ xw_r W' j = xw_r W j ∧ xw_p W' j = xw_p W j ∧ xw_t W' j = xw_t W j
theorem wk_tr {W1 W2 : gx_W} {t t' : Nat} (a : wk_ W W1 t) (b : wk_ W1 W2 t') (h : t ≤ t') : wk_ W W2 t := fun j hj =>
  ⟨(b j (by omega)).1.trans (a j hj).1, (b j (by omega)).2.1.trans (a j hj).2.1, (b j (by omega)).2.2.1.trans (a j hj).2.2.1, (b j (by omega)).2.2.2.trans (a j hj).2.2.2⟩
theorem wk_wp {t g : Nat} : wk_ W (wp_ W t g) t := fun j hj => ⟨rfl, rfl, pk_un (by omega), rfl⟩
theorem wk_wt {t p : Nat} : wk_ W (wt_ W t p) t := fun j hj => ⟨rfl, rfl, rfl, pk_un (by omega)⟩
theorem wk_wq {t e r : Nat} : wk_ W (wq_ W t e r) t := fun j hj => ⟨pk_un (by omega), pk_un (by omega), pk_un (by omega), rfl⟩
theorem ag_k {m lo hi : Nat} {k : Int32} (h : hi ≤ m ∨ m < lo) : ag_ C (ck_ C m k) lo hi := fun j h1 h2 => ⟨rfl, rfl, rfl, rfl, pk_un (by omega)⟩
theorem in_k {m o a b c : Nat} {k k' : Int32} (h : in_ C m o a b c k) : in_ (ck_ C m k') m o a b c k' := ⟨h.1, h.2.1, h.2.2.1, h.2.2.2.1, pk_us⟩
def cu_P (E : gx_E) (S : gx_S) (O : gx_O) (M : gx_M) (H : gx_H) (c f : Nat) : Prop :=
  ∀ (e r t p : Nat) (C : gx_C) (W : gx_W), e < f → e < c → t + ev_w (xe_A E) e ≤ 8 → 2 * r + ev_w (xe_A E) e ≤ 35 → xc_n C = nI p → p + ev_w (xe_A E) e ≤ 350 → xw_n W t = nI e → xw_r W t = nI r → xw_p W t = nI 0 →
    ∃ C' W' q, q ≤ p + ev_w (xe_A E) e ∧ xc_n C' = nI q ∧ xc_f C' = xc_f C ∧ ag_ C C' 0 p ∧ ce_ E C' f e r p q ∧ wk_ W W' t ∧ xl_ E S O M H (t + 1) C W t C' W'
/-- a part that was put upon the list is compiled -/
theorem cu_x {c f x e r u t p : Nat} {W1 : gx_W} (hA : ar_ok (xe_A E) c) (hK : kn_ok E c) (ih : cu_P E S O M H c f) (hxf : x < f) (hx : x < c) (ht : t + 1 + ev_w (xe_A E) x ≤ 8) (hu : 2 * u + ev_w (xe_A E) x ≤ 35) (hp : xc_n C = nI p) (h350 : p + ev_w (xe_A E) x ≤ 350)
    (hn : xw_n W1 t = nI e) (hr : xw_r W1 t = nI r) :
    ∃ C' W' q, q ≤ p + ev_w (xe_A E) x ∧ xc_n C' = nI q ∧ xc_f C' = xc_f C ∧ ag_ C C' 0 p ∧ ce_ E C' f (kn_a E x) u p q ∧ wk_ W1 W' t ∧ xw_n W' t = nI e ∧ xw_r W' t = nI r ∧ xw_p W' t = xw_p W1 t ∧ xw_t W' t = xw_t W1 t ∧ xl_ E S O M H (t + 2) C (wq_ W1 (t + 1) (kn_a E x) u) (t + 1) C' W' := by
  obtain ⟨a1, a2, _⟩ := se_al hA hK hx
  have al := (hK x hx).1.2.2.2
  obtain ⟨C', W', q, h1, h2, h3, h4, h5, h6, h7⟩ := ih (kn_a E x) u (t + 1) p C (wq_ W1 (t + 1) (kn_a E x) u) (by omega) a1 (by omega) (by omega) hp (by omega) pk_us pk_us pk_us
  have k := h6 t (by omega)
  have k0 := wk_wq (W := W1) (t := t + 1) (e := kn_a E x) (r := u) t (by omega)
  have wk : wk_ W1 W' t := fun j hj => (wk_tr (wk_wq (W := W1) (t := t + 1) (e := kn_a E x) (r := u)) h6 (Nat.le_refl _)) j (by omega)
  refine ⟨C', W', q, by omega, h2, h3, h4, h5, wk, k.1.trans (k0.1.trans hn), k.2.1.trans (k0.2.1.trans hr), k.2.2.1.trans k0.2.2.1, k.2.2.2.trans k0.2.2.2, h7⟩
theorem cu_un {c f e : Nat} (hA : ar_ok (xe_A E) c) (hK : kn_ok E c) (ih : cu_P E S O M H c f) {r t p : Nat} (hef : e < f + 1) (he : e < c) (ht : t + ev_w (xe_A E) e ≤ 8) (hr35 : 2 * r + ev_w (xe_A E) e ≤ 35) (hp : xc_n C = nI p) (h350 : p + ev_w (xe_A E) e ≤ 350) (hn : xw_n W t = nI e) (hr : xw_r W t = nI r) (hg : xw_p W t = nI 0)
    (l : ¬ (xe_s E e ≠ 0 ∨ ev_k (xe_A E) e = 1 ∨ ev_k (xe_A E) e = 11)) (k9 : ev_k (xe_A E) e = 9 ∨ ev_k (xe_A E) e = 12) :
    ∃ C' W' q, q ≤ p + ev_w (xe_A E) e ∧ xc_n C' = nI q ∧ xc_f C' = xc_f C ∧ ag_ C C' 0 p ∧ ce_ E C' (f + 1) e r p q ∧ wk_ W W' t ∧ xl_ E S O M H (t + 1) C W t C' W' := by
  have c30 := hA.2.1
  have ha := hA.2.2 e he
  have p1 : ev_pt (ev_k (xe_A E) e) = 1 := by unfold ev_pt; rw [if_neg (by omega), if_pos k9]
  have hx := ha.2.2.2.2.2.2.1 (by omega)
  have hww := ha.2.2.2.2.2.2.2.2
  rw [if_pos (by omega), if_neg (by omega)] at hww
  have wx := (hA.2.2 _ (Nat.lt_trans hx.2 he)).2.2.2.1
  have kx := (hK _ (Nat.lt_trans hx.2 he)).1.2.2
  have s1 := cp_u0 (S := S) (C := C) (O := O) (M := M) (H := H) hA he (by omega) hn hr hg rfl l k9
  have s1' := xl_push (x := ev_cx (xe_A E) e) (u := r) (g := 1) (by omega) (by omega) (by omega) s1 hr pk_us hn ha.1 ha.2.1 (by omega) (by omega) kx.1 (by omega) (by rw [if_neg (by omega)])
  obtain ⟨C1, W1, q1, h1, h2, h3, h4, h5, h6, h7, h8, h9, h10, h11⟩ := cu_x (u := r) (e := e) (r := r) (W1 := wp_ W t (0 + 1)) hA hK ih (by omega) (Nat.lt_trans hx.2 he) (by omega) (by omega) hp (by omega) hn hr
  have lt1 := ce_lt _ _ _ _ _ h5
  have s2 := cp_u1 (S := S) (C := C1) (O := O) (M := M) (H := H) (p := q1) hA he (by omega) h7 h8 (h9.trans pk_us) rfl l k9 (by omega) h2 (by omega)
  refine ⟨cw_ C1 q1 (ev_k (xe_A E) e) r r 0 0, wp_ W1 t (1 + 1), q1 + 1, by omega, rfl, h3, ag_tr h4 (ag_sub (hi := q1) (lo := 0) ag_w (Nat.le_refl _) (by omega)), ?_, wk_tr (wk_tr wk_wp h6 (Nat.le_refl _)) wk_wp (Nat.le_refl _), xl_tr (xl_tr s1' h11) (xl_pop (by omega) s2)⟩
  refine ⟨fun w => absurd w l, fun _ => ⟨fun w => absurd w (by omega), fun _ => ⟨q1, ce_ag ag_w f _ _ _ _ (Nat.zero_le _) (Nat.le_refl _) h5, in_w, rfl⟩, fun _ w => absurd k9 w⟩⟩
theorem cu_ch {c f e : Nat} (hA : ar_ok (xe_A E) c) (hK : kn_ok E c) (ih : cu_P E S O M H c f) {r t p : Nat} (hef : e < f + 1) (he : e < c) (ht : t + ev_w (xe_A E) e ≤ 8) (hr35 : 2 * r + ev_w (xe_A E) e ≤ 35) (hp : xc_n C = nI p) (h350 : p + ev_w (xe_A E) e ≤ 350) (hn : xw_n W t = nI e) (hr : xw_r W t = nI r) (hg : xw_p W t = nI 0)
    (l : ¬ (xe_s E e ≠ 0 ∨ ev_k (xe_A E) e = 1 ∨ ev_k (xe_A E) e = 11)) (k7 : ev_k (xe_A E) e = 7 ∨ ev_k (xe_A E) e = 8) :
    ∃ C' W' q, q ≤ p + ev_w (xe_A E) e ∧ xc_n C' = nI q ∧ xc_f C' = xc_f C ∧ ag_ C C' 0 p ∧ ce_ E C' (f + 1) e r p q ∧ wk_ W W' t ∧ xl_ E S O M H (t + 1) C W t C' W' := by
  have c30 := hA.2.1
  have ha := hA.2.2 e he
  have p2 := ys_p2 k7
  have hx := ha.2.2.2.2.2.2.1 (by omega)
  have hy := ha.2.2.2.2.2.2.2.1 p2
  have hww := ha.2.2.2.2.2.2.2.2
  rw [if_pos (by omega), if_pos p2] at hww
  have wx := (hA.2.2 _ (Nat.lt_trans hx.2 he)).2.2.2.1
  have wy := (hA.2.2 _ (Nat.lt_trans hy.2 he)).2.2.2.1
  have kx := (hK _ (Nat.lt_trans hx.2 he)).1.2.2
  have ky := (hK _ (Nat.lt_trans hy.2 he)).1.2.2
  have s1 := cp_c0 (S := S) (C := C) (O := O) (M := M) (H := H) hA he (by omega) hn hr hg rfl l k7
  have s1' := xl_push (x := ev_cx (xe_A E) e) (u := r) (g := 1) (by omega) (by omega) (by omega) s1 hr pk_us hn ha.1 ha.2.1 (by omega) (by omega) kx.1 (by omega) (by rw [if_neg (by omega)])
  obtain ⟨C1, W1, q1, h1, h2, h3, h4, h5, h6, h7, h8, h9, h10, h11⟩ := cu_x (u := r) (e := e) (r := r) (W1 := wp_ W t (0 + 1)) hA hK ih (by omega) (Nat.lt_trans hx.2 he) (by omega) (by omega) hp (by omega) hn hr
  have lt1 := ce_lt _ _ _ _ _ h5
  have s2 := cp_c1 (S := S) (C := C1) (O := O) (M := M) (H := H) (p := q1) hA he (by omega) h7 h8 (h9.trans pk_us) rfl l k7 (by omega) h2 (by omega)
  have s2' := xl_push (x := ev_cy (xe_A E) e) (u := r) (g := 2) (by omega) (by omega) (by omega) s2 h8 pk_us h7 ha.1 ha.2.1 (by omega) (by omega) ky.1 (by omega) (by rw [if_neg (fun w => w.2 k7)])
  obtain ⟨C2, W2, q2, i1, i2, i3, i4, i5, i6, i7, i8, i9, i10, i11⟩ := cu_x (u := r) (e := e) (r := r) (p := q1 + 1) (C := cw_ C1 q1 (if ev_k (xe_A E) e = 7 then 19 else 20) r 0 0 0) (W1 := wt_ (wp_ W1 t (1 + 1)) t q1) hA hK ih (by omega) (Nat.lt_trans hy.2 he) (by omega) (by omega) rfl (by omega) h7 h8
  have lt2 := ce_lt _ _ _ _ _ i5
  have s3 := cp_c2 (S := S) (C := C2) (O := O) (M := M) (H := H) (m := q1) hA he (by omega) i7 i8 (i9.trans pk_us) rfl l k7 (i10.trans pk_us) (by omega)
  rw [i2] at s3
  have gx : ag_ C1 (ck_ C2 q1 (nI q2)) 0 q1 := ag_tr (ag_tr ag_w (ag_sub i4 (Nat.le_refl _) (by omega))) (ag_k (Or.inl (Nat.le_refl _)))
  refine ⟨ck_ C2 q1 (nI q2), wp_ W2 t (2 + 1), q2, by omega, i2, i3.trans h3, ag_tr h4 (ag_sub gx (Nat.le_refl _) (by omega)), ?_, wk_tr (wk_tr (wk_tr (wk_tr (wk_tr wk_wp h6 (Nat.le_refl _)) wk_wp (Nat.le_refl _)) wk_wt (Nat.le_refl _)) i6 (Nat.le_refl _)) wk_wp (Nat.le_refl _), xl_tr (xl_tr (xl_tr (xl_tr s1' h11) s2') i11) (xl_pop (by omega) s3)⟩
  refine ⟨fun w => absurd w l, fun _ => ⟨fun _ => ⟨q1, ce_ag gx f _ _ _ _ (Nat.zero_le _) (Nat.le_refl _) h5, in_k (in_ag i4 (Nat.zero_le _) (by omega) in_w), ce_ag (ag_k (lo := q1 + 1) (hi := q2) (Or.inr (by omega))) f _ _ _ _ (Nat.le_refl _) (Nat.le_refl _) i5⟩, fun w => absurd w (by omega), fun w _ => absurd k7 w⟩⟩
end
end
section
/-! compiling: two parts -/
section
variable {E : gx_E} {S : gx_S} {C : gx_C} {W : gx_W} {O : gx_O} {M : gx_M} {H : gx_H}
/-- behind the first part: the second one, and the operation -/
theorem cu_by {c f e : Nat} (hA : ar_ok (xe_A E) c) (hK : kn_ok E c) (ih : cu_P E S O M H c f) {r t p m1 : Nat} {C0 : gx_C} {W0 W1 : gx_W} (hef : e < f + 1) (he : e < c) (ht : t + ev_w (xe_A E) e ≤ 8) (hr35 : 2 * r + ev_w (xe_A E) e ≤ 35) (hp : xc_n C = nI m1) (h350 : m1 + ev_w (xe_A E) (ev_cy (xe_A E) e) + 1 ≤ 350)
    (l : ¬ (xe_s E e ≠ 0 ∨ ev_k (xe_A E) e = 1 ∨ ev_k (xe_A E) e = 11)) (n0 : ev_k (xe_A E) e ≠ 0) (n7 : ¬ (ev_k (xe_A E) e = 7 ∨ ev_k (xe_A E) e = 8)) (n9 : ¬ (ev_k (xe_A E) e = 9 ∨ ev_k (xe_A E) e = 12))
    (sy : ¬ sp_ E (kn_a E (ev_cy (xe_A E) e))) (s1 : cp_ E S O M H t C0 W0 (nI (kn_a E (ev_cy (xe_A E) e))) C W1) (hn : xw_n W1 t = nI e) (hr : xw_r W1 t = nI r) (hg : xw_p W1 t = nI 2) :
    ∃ C' W' m2, m2 ≤ m1 + ev_w (xe_A E) (ev_cy (xe_A E) e) ∧ m1 ≤ m2 ∧ xc_n C' = nI (m2 + 1) ∧ xc_f C' = xc_f C ∧ ag_ C C' 0 m1 ∧ ce_ E C' f (kn_a E (ev_cy (xe_A E) e)) (r + 1) m1 m2 ∧
      in_ C' m2 (ev_k (xe_A E) e) r (oa_ E (kn_a E (ev_cx (xe_A E) e)) r) (oa_ E (kn_a E (ev_cy (xe_A E) e)) (r + 1)) 0 ∧ wk_ W1 W' t ∧ xl_ E S O M H (t + 1) C0 W0 t C' W' := by
  have c30 := hA.2.1
  have ha := hA.2.2 e he
  have p2 : ev_pt (ev_k (xe_A E) e) = 2 := by unfold ev_pt; rw [if_neg (by omega), if_neg n9]
  have hx := ha.2.2.2.2.2.2.1 (by omega)
  have hy := ha.2.2.2.2.2.2.2.1 p2
  have hww := ha.2.2.2.2.2.2.2.2
  rw [if_pos (by omega), if_pos p2] at hww
  have xc := Nat.lt_trans hx.2 he
  have yc := Nat.lt_trans hy.2 he
  have kx := (hK _ xc).1.2.2
  have ky := (hK _ yc).1.2.2
  have mx := (kn_ev hA hK _ xc).2.1
  have my := (kn_ev hA hK _ yc).2.1
  have ax : kn_a E (ev_cx (xe_A E) e) < c := by omega
  have ay : kn_a E (ev_cy (xe_A E) e) < c := by omega
  have wx := (hA.2.2 _ ax).2.2.2.1
  have wy := (hA.2.2 _ ay).2.2.2.1
  have kax := (hK _ ax).1.2.2
  have kay := (hK _ ay).1.2.2
  have wpx := (hA.2.2 _ xc).2.2.2.1
  have wpy := (hA.2.2 _ yc).2.2.2.1
  have s1' := xl_push (x := kn_a E (ev_cy (xe_A E) e)) (u := r + 1) (g := 2) (by omega) (by omega) (by omega) s1 hr hg hn ha.1 ha.2.1 (by omega) (by omega) kay.1 (by rw [my.1]; omega) (by rw [if_pos ⟨rfl, n7⟩])
  obtain ⟨C1, W2, q1, h1, h2, h3, h4, h5, h6, h7, h8, h9, h10, h11⟩ := cu_x (x := kn_a E (ev_cy (xe_A E) e)) (u := r + 1) (e := e) (r := r) (W1 := W1) hA hK ih (by omega) ay (by omega) (by omega) hp (by omega) hn hr
  rw [my.1] at h5
  have lt1 := ce_lt _ _ _ _ _ h5
  have s2 := cp_b2w (S := S) (C := C1) (O := O) (M := M) (H := H) (p := q1) (g := 2) hA hK he (by omega) h7 h8 (h9.trans hg) (Or.inr rfl) l n0 n7 n9 (by omega) h2 (by omega) (fun w => by omega)
  exact ⟨cw_ C1 q1 (ev_k (xe_A E) e) r (oa_ E (kn_a E (ev_cx (xe_A E) e)) r) (oa_ E (kn_a E (ev_cy (xe_A E) e)) (r + 1)) 0, wp_ W2 t (2 + 1), q1, by omega, by omega, rfl, h3, ag_tr h4 (ag_sub (hi := q1) (lo := 0) ag_w (Nat.le_refl _) (by omega)), ce_ag (ag_w (lo := 0)) f _ _ _ _ (Nat.zero_le _) (Nat.le_refl _) h5, in_w, wk_tr h6 wk_wp (Nat.le_refl _), xl_tr (xl_tr s1' h11) (xl_pop (by omega) s2)⟩
theorem cu_bi {c f e : Nat} (hA : ar_ok (xe_A E) c) (hK : kn_ok E c) (ih : cu_P E S O M H c f) {r t p : Nat} (hef : e < f + 1) (he : e < c) (ht : t + ev_w (xe_A E) e ≤ 8) (hr35 : 2 * r + ev_w (xe_A E) e ≤ 35) (hp : xc_n C = nI p) (h350 : p + ev_w (xe_A E) e ≤ 350) (hn : xw_n W t = nI e) (hr : xw_r W t = nI r) (hg : xw_p W t = nI 0)
    (l : ¬ (xe_s E e ≠ 0 ∨ ev_k (xe_A E) e = 1 ∨ ev_k (xe_A E) e = 11)) (n0 : ev_k (xe_A E) e ≠ 0) (n7 : ¬ (ev_k (xe_A E) e = 7 ∨ ev_k (xe_A E) e = 8)) (n9 : ¬ (ev_k (xe_A E) e = 9 ∨ ev_k (xe_A E) e = 12)) :
    ∃ C' W' q, q ≤ p + ev_w (xe_A E) e ∧ xc_n C' = nI q ∧ xc_f C' = xc_f C ∧ ag_ C C' 0 p ∧ ce_ E C' (f + 1) e r p q ∧ wk_ W W' t ∧ xl_ E S O M H (t + 1) C W t C' W' := by
  have c30 := hA.2.1
  have ha := hA.2.2 e he
  have p2 : ev_pt (ev_k (xe_A E) e) = 2 := by unfold ev_pt; rw [if_neg (by omega), if_neg n9]
  have hx := ha.2.2.2.2.2.2.1 (by omega)
  have hy := ha.2.2.2.2.2.2.2.1 p2
  have hww := ha.2.2.2.2.2.2.2.2
  rw [if_pos (by omega), if_pos p2] at hww
  have xc := Nat.lt_trans hx.2 he
  have yc := Nat.lt_trans hy.2 he
  have kx := (hK _ xc).1.2.2
  have ky := (hK _ yc).1.2.2
  have mx := (kn_ev hA hK _ xc).2.1
  have my := (kn_ev hA hK _ yc).2.1
  have ax : kn_a E (ev_cx (xe_A E) e) < c := by omega
  have ay : kn_a E (ev_cy (xe_A E) e) < c := by omega
  have wx := (hA.2.2 _ ax).2.2.2.1
  have wy := (hA.2.2 _ ay).2.2.2.1
  have kax := (hK _ ax).1.2.2
  have kay := (hK _ ay).1.2.2
  have wpx := (hA.2.2 _ xc).2.2.2.1
  have wpy := (hA.2.2 _ yc).2.2.2.1
  by_cases sx : sp_ E (kn_a E (ev_cx (xe_A E) e))
  · by_cases sy : sp_ E (kn_a E (ev_cy (xe_A E) e))
    · have s1 := cp_b0w (S := S) (C := C) (O := O) (M := M) (H := H) (p := p) hA hK he (by omega) hn hr hg rfl l n0 n7 n9 (by omega) hp (by omega) sx sy
      refine ⟨cw_ C p (ev_k (xe_A E) e) r (oa_ E (kn_a E (ev_cx (xe_A E) e)) r) (oa_ E (kn_a E (ev_cy (xe_A E) e)) (r + 1)) 0, wp_ (wp_ W t (0 + 1)) t 2, p + 1, by omega, rfl, rfl, ag_w, ?_, wk_tr wk_wp wk_wp (Nat.le_refl _), xl_pop (by omega) s1⟩
      exact ⟨fun w => absurd w l, fun _ => ⟨fun w => absurd w n7, fun w => absurd w n9, fun _ _ => ⟨p, p, ⟨fun _ => rfl, fun w => absurd sx w⟩, ⟨fun _ => rfl, fun w => absurd sy w⟩, in_w, rfl⟩⟩⟩
    · have s1 := cp_b0y (S := S) (C := C) (O := O) (M := M) (H := H) hA hK he (by omega) hn hr hg rfl l n0 n7 n9 sx sy
      obtain ⟨C', W', m2, h1, h1', h2, h3, h4, h5, h6, h7, h8⟩ := cu_by (p := p) hA hK ih hef he ht hr35 hp (by omega) l n0 n7 n9 sy s1 hn hr pk_us
      refine ⟨C', W', m2 + 1, by omega, h2, h3, h4, ?_, wk_tr (wk_tr wk_wp wk_wp (Nat.le_refl _)) h7 (Nat.le_refl _), h8⟩
      exact ⟨fun w => absurd w l, fun _ => ⟨fun w => absurd w n7, fun w => absurd w n9, fun _ _ => ⟨p, m2, ⟨fun _ => rfl, fun w => absurd sx w⟩, ⟨fun w => absurd w sy, fun _ => h5⟩, h6, rfl⟩⟩⟩
  · have s1 := cp_b0n (S := S) (C := C) (O := O) (M := M) (H := H) hA hK he (by omega) hn hr hg rfl l n0 n7 n9 sx
    have s1' := xl_push (x := kn_a E (ev_cx (xe_A E) e)) (u := r) (g := 1) (by omega) (by omega) (by omega) s1 hr pk_us hn ha.1 ha.2.1 (by omega) (by omega) kax.1 (by rw [mx.1]; omega) (by rw [if_neg (by omega)])
    obtain ⟨C1, W1, q1, h1, h2, h3, h4, h5, h6, h7, h8, h9, h10, h11⟩ := cu_x (x := kn_a E (ev_cx (xe_A E) e)) (u := r) (e := e) (r := r) (W1 := wp_ W t (0 + 1)) hA hK ih (by omega) ax (by omega) (by omega) hp (by omega) hn hr
    rw [mx.1] at h5
    have lt1 := ce_lt _ _ _ _ _ h5
    by_cases sy : sp_ E (kn_a E (ev_cy (xe_A E) e))
    · have s2 := cp_b2w (S := S) (C := C1) (O := O) (M := M) (H := H) (p := q1) (g := 1) hA hK he (by omega) h7 h8 (h9.trans pk_us) (Or.inl rfl) l n0 n7 n9 (by omega) h2 (by omega) (fun _ => sy)
      refine ⟨cw_ C1 q1 (ev_k (xe_A E) e) r (oa_ E (kn_a E (ev_cx (xe_A E) e)) r) (oa_ E (kn_a E (ev_cy (xe_A E) e)) (r + 1)) 0, wp_ W1 t (1 + 1), q1 + 1, by omega, rfl, h3, ag_tr h4 (ag_sub (hi := q1) (lo := 0) ag_w (Nat.le_refl _) (by omega)), ?_, wk_tr (wk_tr wk_wp h6 (Nat.le_refl _)) wk_wp (Nat.le_refl _), xl_tr (xl_tr s1' h11) (xl_pop (by omega) s2)⟩
      exact ⟨fun w => absurd w l, fun _ => ⟨fun w => absurd w n7, fun w => absurd w n9, fun _ _ => ⟨q1, q1, ⟨fun w => absurd w sx, fun _ => ce_ag (ag_w (lo := 0)) f _ _ _ _ (Nat.zero_le _) (Nat.le_refl _) h5⟩, ⟨fun _ => rfl, fun w => absurd sy w⟩, in_w, rfl⟩⟩⟩
    · have s2 := cp_b1y (S := S) (C := C1) (O := O) (M := M) (H := H) (g := 1) hA hK he (by omega) h7 h8 (h9.trans pk_us) rfl l n0 n7 n9 sy
      obtain ⟨C', W', m2, i1, i1', i2, i3, i4, i5, i6, i7, i8⟩ := cu_by (p := p) hA hK ih hef he ht hr35 h2 (by omega) l n0 n7 n9 sy s2 h7 h8 pk_us
      refine ⟨C', W', m2 + 1, by omega, i2, i3.trans h3, ag_tr h4 (ag_sub i4 (Nat.le_refl _) (by omega)), ?_, wk_tr (wk_tr (wk_tr wk_wp h6 (Nat.le_refl _)) wk_wp (Nat.le_refl _)) i7 (Nat.le_refl _), xl_tr (xl_tr s1' h11) i8⟩
      exact ⟨fun w => absurd w l, fun _ => ⟨fun w => absurd w n7, fun w => absurd w n9, fun _ _ => ⟨q1, m2, ⟨fun w => absurd w sx, fun _ => ce_ag (ag_sub i4 (Nat.zero_le _) (Nat.le_refl _)) f _ _ _ _ (Nat.zero_le _) (Nat.le_refl _) h5⟩, ⟨fun w => absurd w sy, fun _ => i5⟩, i6, rfl⟩⟩⟩
theorem cu_ {c : Nat} (hA : ar_ok (xe_A E) c) (hK : kn_ok E c) : ∀ f, cu_P E S O M H c f := by
  intro f
  induction f with
  | zero => intro e r t p C W h; omega
  | succ f ih =>
    intro e r t p C W hef he ht hr35 hp h350 hn hr hg
    have ha := hA.2.2 e he
    have w1 := ha.2.2.2.1
    by_cases l : xe_s E e ≠ 0 ∨ ev_k (xe_A E) e = 1 ∨ ev_k (xe_A E) e = 11
    · obtain ⟨C', h1, h2, h3, h4, h5⟩ := cp_leaf (S := S) (C := C) (O := O) (M := M) (H := H) (p := p) hA hK he (by omega) hp (by omega) (by omega) (by omega) hn hr hg l
      exact ⟨C', _, p + 1, by omega, h1, h2, h3, ⟨fun _ => ⟨rfl, h4⟩, fun w => absurd l w⟩, wk_wp, xl_pop (by omega) h5⟩
    · have n0 : ev_k (xe_A E) e ≠ 0 := by
        intro k0
        have := ((hK e he).2.1 k0).1
        exact l (Or.inl (by rw [this]; decide))
      by_cases k7 : ev_k (xe_A E) e = 7 ∨ ev_k (xe_A E) e = 8
      · exact cu_ch hA hK ih hef he ht hr35 hp h350 hn hr hg l k7
      · by_cases k9 : ev_k (xe_A E) e = 9 ∨ ev_k (xe_A E) e = 12
        · exact cu_un hA hK ih hef he ht hr35 hp h350 hn hr hg l k9
        · exact cu_bi hA hK ih hef he ht hr35 hp h350 hn hr hg l n0 k7 k9
/-- an expression is compiled for a register -/
theorem cu_ex {c e r p : Nat} (hA : ar_ok (xe_A E) c) (hK : kn_ok E c) (he : e < c) (hr : r < 14) (hp : xc_n C = nI p) (h350 : p + 7 ≤ 350) :
    ∃ C' W' q, q ≤ p + 7 ∧ xc_n C' = nI q ∧ xc_f C' = xc_f C ∧ ag_ C C' 0 p ∧ ce_ E C' 31 (kn_a E e) r p q ∧ ∀ post : SX → Prop, post (xk E S C' W' O M H) → wpX_compileExpression post (xk E S C W O M H) (nI e) (nI r) := by
  have c30 := hA.2.1
  obtain ⟨a1, a2, _⟩ := se_al hA hK he
  have w7 := (hA.2.2 _ a1).2.2.2.2.1
  have ka := (hK e he).1.2.2
  obtain ⟨C', W', q, h1, h2, h3, h4, h5, h6, h7⟩ := cu_ (S := S) (O := O) (M := M) (H := H) hA hK 31 (kn_a E e) r 0 p C (wq_ W 0 (kn_a E e) r) (by omega) a1 (by omega) (by omega) hp (by omega) (pk_us (f := xw_n W) (k := 0) (x := nI (kn_a E e))) (pk_us (f := xw_r W) (k := 0) (x := nI r)) (pk_us (f := xw_p W) (k := 0) (x := nI 0))
  refine ⟨C', W', q, by omega, h2, h3, h4, h5, fun post h => ?_⟩
  obtain ⟨n', hn⟩ := h7 post 1 (br_t (by decide) h)
  refine And.intro (by_in (by omega)) ?_
  refine nm_r (e' := upd (xw_n W) 0 (nI (kn_a E e))) (by rw [ix_ev (a := xe_a E) (i := nI e) rfl, ka.1, by_v (by omega)]) ?_
  refine nm_r (e' := upd (xw_r W) 0 (nI r)) (by rw [by_n (by omega)]) ?_
  refine nm_r (e' := upd (xw_p W) 0 (nI 0)) (by rw [show (0 : Int32) = nI 0 from rfl, by_v (n := 0) (by omega)]) ?_
  exact ⟨n', hn⟩
end
end
section
/-! statements -/
def st_k (S : gx_S) (i : Nat) : Nat := (xs_o S i).toNatClampNeg
def st_x (S : gx_S) (i : Nat) : Nat := (xs_x S i).toNatClampNeg
def st_y (S : gx_S) (i : Nat) : Nat := (xs_y S i).toNatClampNeg
def st_z (S : gx_S) (i : Nat) : Nat := (xs_z S i).toNatClampNeg
def so_1 (S : gx_S) (c i : Nat) : Prop :=
  xs_o S i = nI (st_k S i) ∧ st_k S i ≤ 4 ∧ xs_x S i = nI (st_x S i) ∧
  (st_k S i = 0 ∨ st_k S i = 3 → st_x S i < 6 ∧ xs_y S i = nI (st_y S i) ∧ st_y S i < c) ∧
  (¬ (st_k S i = 0 ∨ st_k S i = 3) → st_x S i < c) ∧
  (st_k S i = 1 → xs_y S i = nI (st_y S i) ∧ st_y S i < c ∧ xs_z S i = nI (st_z S i) ∧ st_z S i < c) ∧
  (st_k S i = 2 → xs_y S i = nI (st_y S i) ∧ 1 ≤ st_y S i ∧ st_y S i ≤ 6) ∧
  (st_k S i = 3 → xs_z S i = nI (st_z S i) ∧ 1 ≤ st_z S i ∧ st_z S i ≤ 6)
def so_ok (S : gx_S) (c n : Nat) : Prop := xs_n S = nI n ∧ n ≤ 14 ∧ ∀ i, i < n → so_1 S c i
def en_ (S : gx_S) (i : Nat) : Nat := if st_k S i = 2 then i + 1 + st_y S i else if st_k S i = 3 then i + 1 + st_z S i else i + 1
def ld_ (S : gx_S) (i j : Nat) : Nat := kc_n (fun k => decide (i ≤ k ∧ st_k S k = 3 ∧ j < en_ S k)) j
/-- the statements are sound -/
def sd_ (S : gx_S) (n : Nat) : Prop := ∀ i, i < n → en_ S i ≤ n ∧ (∀ k, k < i → i < en_ S k → en_ S i ≤ en_ S k) ∧ ld_ S 0 i ≤ 2
/-- the code of the statements i .. e, within lv loops, from p to q -/
def cs_ (E : gx_E) (S : gx_S) (C : gx_C) : Nat → Nat → Nat → Nat → Nat → Nat → Prop
  | 0, i, e, _, p, q => i = e ∧ p = q
  | d + 1, i, e, lv, p, q => (i = e ∧ p = q) ∨ (i < e ∧ in_ C p 18 0 0 0 (nI i) ∧
    (st_k S i = 0 → ∃ m, ce_ E C 31 (kn_a E (st_y S i)) 6 (p + 1) m ∧ in_ C m 1 (st_x S i) 6 0 0 ∧ cs_ E S C d (i + 1) e lv (m + 1) q) ∧
    (st_k S i = 1 → ∃ m1 m2 m, ce_ E C 31 (kn_a E (st_x S i)) 6 (p + 1) m1 ∧ ce_ E C 31 (kn_a E (st_y S i)) 7 m1 m2 ∧ ce_ E C 31 (kn_a E (st_z S i)) 8 m2 m ∧ in_ C m 13 6 7 8 0 ∧ cs_ E S C d (i + 1) e lv (m + 1) q) ∧
    (st_k S i = 2 → ∃ m b, en_ S i ≤ e ∧ ce_ E C 31 (kn_a E (st_x S i)) 6 (p + 1) m ∧ in_ C m 19 6 0 0 (nI b) ∧ cs_ E S C d (i + 1) (en_ S i) lv (m + 1) b ∧ cs_ E S C d (en_ S i) e lv b q) ∧
    (st_k S i = 3 → ∃ m b, en_ S i ≤ e ∧ lv < 2 ∧ ce_ E C 31 (kn_a E (st_y S i)) 6 (p + 1) m ∧ in_ C m 15 lv 6 0 0 ∧ in_ C (m + 1) 16 lv (st_x S i) 0 (nI (b + 1)) ∧
      cs_ E S C d (i + 1) (en_ S i) (lv + 1) (m + 2) b ∧ in_ C b 17 0 0 0 (nI (m + 1)) ∧ cs_ E S C d (en_ S i) e lv (b + 1) q) ∧
    (st_k S i = 4 → ∃ m, ce_ E C 31 (kn_a E (st_x S i)) 6 (p + 1) m ∧ in_ C m 14 6 0 0 0 ∧ cs_ E S C d (i + 1) e lv (m + 1) q))
section
variable {E : gx_E} {S : gx_S} {C : gx_C} {W : gx_W} {O : gx_O} {M : gx_M} {H : gx_H}
theorem cs_le : ∀ (d i e lv p q : Nat) (n c : Nat), (∀ j, j < n → st_k S j ≤ 4) → e ≤ n → cs_ E S C d i e lv p q → i ≤ e ∧ p ≤ q
  | 0, i, e, lv, p, q, n, c, _, _, h => by obtain ⟨rfl, rfl⟩ := h; exact ⟨Nat.le_refl _, Nat.le_refl _⟩
  | d + 1, i, e, lv, p, q, n, c, hk, he, h => by
    rcases h with ⟨rfl, rfl⟩ | ⟨lt, _, h0, h1, h2, h3, h4⟩
    · exact ⟨Nat.le_refl _, Nat.le_refl _⟩
    · refine ⟨by omega, ?_⟩
      have k4 := hk i (by omega)
      have ks : st_k S i = 0 ∨ st_k S i = 1 ∨ st_k S i = 2 ∨ st_k S i = 3 ∨ st_k S i = 4 := by clear h0 h1 h2 h3 h4; omega
      rcases ks with k | k | k | k | k
      · obtain ⟨m, a, _, b⟩ := h0 k
        have := ce_lt _ _ _ _ _ a
        have := (cs_le d _ _ _ _ _ n c hk he b).2
        clear h0 h1 h2 h3 h4; omega
      · obtain ⟨m1, m2, m, a1, a2, a3, _, b⟩ := h1 k
        have := ce_lt _ _ _ _ _ a1
        have := ce_lt _ _ _ _ _ a2
        have := ce_lt _ _ _ _ _ a3
        have := (cs_le d _ _ _ _ _ n c hk he b).2
        clear h0 h1 h2 h3 h4; omega
      · obtain ⟨m, b, e1, a, _, b1, b2⟩ := h2 k
        have := ce_lt _ _ _ _ _ a
        have := (cs_le d _ _ _ _ _ n c hk (Nat.le_trans e1 he) b1).2
        have := (cs_le d _ _ _ _ _ n c hk he b2).2
        clear h0 h1 h2 h3 h4; omega
      · obtain ⟨m, b, e1, _, a, _, _, b1, _, b2⟩ := h3 k
        have := ce_lt _ _ _ _ _ a
        have := (cs_le d _ _ _ _ _ n c hk (Nat.le_trans e1 he) b1).2
        have := (cs_le d _ _ _ _ _ n c hk he b2).2
        clear h0 h1 h2 h3 h4; omega
      · obtain ⟨m, a, _, b⟩ := h4 k
        have := ce_lt _ _ _ _ _ a
        have := (cs_le d _ _ _ _ _ n c hk he b).2
        clear h0 h1 h2 h3 h4; omega
theorem cs_ag {C' : gx_C} {lo hi n : Nat} (hk : ∀ j, j < n → st_k S j ≤ 4) (g : ag_ C C' lo hi) : ∀ (d i e lv p q : Nat), lo ≤ p → q ≤ hi → e ≤ n → cs_ E S C d i e lv p q → cs_ E S C' d i e lv p q
  | 0, i, e, lv, p, q, _, _, _, h => h
  | d + 1, i, e, lv, p, q, hp, hq, he, h => by
    have lt := cs_le _ _ _ _ _ _ n 0 hk he h
    rcases h with h | ⟨lt1, hb, h0, h1, h2, h3, h4⟩
    · exact Or.inl h
    · have pq : p < q := by
        have k4 := hk i (by omega)
        have ks : st_k S i = 0 ∨ st_k S i = 1 ∨ st_k S i = 2 ∨ st_k S i = 3 ∨ st_k S i = 4 := by clear h0 h1 h2 h3 h4; omega
        rcases ks with k | k | k | k | k
        · obtain ⟨m, a, _, b⟩ := h0 k
          have := ce_lt _ _ _ _ _ a
          have := (cs_le d _ _ _ _ _ n 0 hk he b).2
          clear h0 h1 h2 h3 h4; omega
        · obtain ⟨m1, m2, m, a1, a2, a3, _, b⟩ := h1 k
          have := ce_lt _ _ _ _ _ a1
          have := ce_lt _ _ _ _ _ a2
          have := ce_lt _ _ _ _ _ a3
          have := (cs_le d _ _ _ _ _ n 0 hk he b).2
          clear h0 h1 h2 h3 h4; omega
        · obtain ⟨m, b, e1, a, _, b1, b2⟩ := h2 k
          have := ce_lt _ _ _ _ _ a
          have := (cs_le d _ _ _ _ _ n 0 hk (Nat.le_trans e1 he) b1).2
          have := (cs_le d _ _ _ _ _ n 0 hk he b2).2
          clear h0 h1 h2 h3 h4; omega
        · obtain ⟨m, b, e1, _, a, _, _, b1, _, b2⟩ := h3 k
          have := ce_lt _ _ _ _ _ a
          have := (cs_le d _ _ _ _ _ n 0 hk (Nat.le_trans e1 he) b1).2
          have := (cs_le d _ _ _ _ _ n 0 hk he b2).2
          clear h0 h1 h2 h3 h4; omega
        · obtain ⟨m, a, _, b⟩ := h4 k
          have := ce_lt _ _ _ _ _ a
          have := (cs_le d _ _ _ _ _ n 0 hk he b).2
          clear h0 h1 h2 h3 h4; omega
      refine Or.inr ⟨lt1, in_ag g hp (by omega) hb, fun k => ?_, fun k => ?_, fun k => ?_, fun k => ?_, fun k => ?_⟩
      · obtain ⟨m, a, i1, b⟩ := h0 k
        have l1 := ce_lt _ _ _ _ _ a
        have l2 := (cs_le d _ _ _ _ _ n 0 hk he b).2
        clear h0 h1 h2 h3 h4
        exact ⟨m, ce_ag g _ _ _ _ _ (by omega) (by omega) a, in_ag g (by omega) (by omega) i1, cs_ag hk g d _ _ _ _ _ (by omega) hq he b⟩
      · obtain ⟨m1, m2, m, a1, a2, a3, i1, b⟩ := h1 k
        have l1 := ce_lt _ _ _ _ _ a1
        have l2 := ce_lt _ _ _ _ _ a2
        have l3 := ce_lt _ _ _ _ _ a3
        have l4 := (cs_le d _ _ _ _ _ n 0 hk he b).2
        clear h0 h1 h2 h3 h4
        exact ⟨m1, m2, m, ce_ag g _ _ _ _ _ (by omega) (by omega) a1, ce_ag g _ _ _ _ _ (by omega) (by omega) a2, ce_ag g _ _ _ _ _ (by omega) (by omega) a3, in_ag g (by omega) (by omega) i1, cs_ag hk g d _ _ _ _ _ (by omega) hq he b⟩
      · obtain ⟨m, b, e1, a, i1, b1, b2⟩ := h2 k
        have l1 := ce_lt _ _ _ _ _ a
        have l2 := (cs_le d _ _ _ _ _ n 0 hk (Nat.le_trans e1 he) b1).2
        have l3 := (cs_le d _ _ _ _ _ n 0 hk he b2).2
        clear h0 h1 h2 h3 h4
        exact ⟨m, b, e1, ce_ag g _ _ _ _ _ (by omega) (by omega) a, in_ag g (by omega) (by omega) i1, cs_ag hk g d _ _ _ _ _ (by omega) (by omega) (by omega) b1, cs_ag hk g d _ _ _ _ _ (by omega) hq he b2⟩
      · obtain ⟨m, b, e1, lv2, a, i1, i2, b1, i3, b2⟩ := h3 k
        have l1 := ce_lt _ _ _ _ _ a
        have l2 := (cs_le d _ _ _ _ _ n 0 hk (Nat.le_trans e1 he) b1).2
        have l3 := (cs_le d _ _ _ _ _ n 0 hk he b2).2
        clear h0 h1 h2 h3 h4
        exact ⟨m, b, e1, lv2, ce_ag g _ _ _ _ _ (by omega) (by omega) a, in_ag g (by omega) (by omega) i1, in_ag g (by omega) (by omega) i2, cs_ag hk g d _ _ _ _ _ (by omega) (by omega) (by omega) b1, in_ag g (by omega) (by omega) i3, cs_ag hk g d _ _ _ _ _ (by omega) hq he b2⟩
      · obtain ⟨m, a, i1, b⟩ := h4 k
        have l1 := ce_lt _ _ _ _ _ a
        have l2 := (cs_le d _ _ _ _ _ n 0 hk he b).2
        clear h0 h1 h2 h3 h4
        exact ⟨m, ce_ag g _ _ _ _ _ (by omega) (by omega) a, in_ag g (by omega) (by omega) i1, cs_ag hk g d _ _ _ _ _ (by omega) hq he b⟩
end
end
section
/-! compiling a statement -/
section
variable {E : gx_E} {S : gx_S} {C : gx_C} {W : gx_W} {O : gx_O} {M : gx_M} {H : gx_H}
theorem en_le {c i : Nat} (so : so_1 S c i) : i < en_ S i ∧ en_ S i ≤ i + 7 := by
  obtain ⟨_, _, _, _, _, _, h2, h3⟩ := so
  unfold en_
  by_cases k2 : st_k S i = 2
  · rw [if_pos k2]; have := h2 k2; omega
  · rw [if_neg k2]
    by_cases k3 : st_k S i = 3
    · rw [if_pos k3]; have := h3 k3; omega
    · rw [if_neg k3]; omega
theorem xo_end {post : Int32 → Prop} {c i : Nat} (so : so_1 S c i) (hi : i < 14) (h : post (nI (en_ S i))) : wpX_endOf post (xk E S C W O M H) (nI i) := by
  obtain ⟨s1, s2, _, _, _, _, h2, h3⟩ := so
  refine And.intro (by_in hi) ?_
  rw [ix_ev (a := xs_o S) (i := nI i) rfl, s1, ix_ev (a := xs_y S) (i := nI i) rfl, ix_ev (a := xs_z S) (i := nI i) rfl]
  unfold en_ at h
  refine pk_eq (st_k S i) 2 (fun k2 => ?_) (fun k2 => ?_)
  · rw [if_pos k2] at h
    refine ⟨by_in hi, ?_⟩
    rw [(h2 k2).1, nI_1, nI_add]
    exact h
  · rw [if_neg k2] at h
    refine ⟨by_in hi, pk_eq (st_k S i) 3 (fun k3 => ?_) (fun k3 => ?_)⟩
    · rw [if_pos k3] at h
      refine ⟨by_in hi, ?_⟩
      rw [(h3 k3).1, nI_1, nI_add]
      exact h
    · rw [if_neg k3] at h
      rw [nI_1]
      exact h
def oo_ (O : gx_O) (t e : Nat) (l : Int32) (a : Nat) : gx_O := (nI (t + 1), upd (xo_e O) t (nI e), upd (xo_l O) t l, upd (xo_p O) t (nI a))
theorem xo_open {post : SX → Prop} {c i t a : Nat} {l : Int32} (so : so_1 S c i) (hi : i < 14) (ht : xo_n O = nI t) (t14 : t < 14) (ha : xc_n C = nI a) (a512 : a < 512) (hl : vp_nar .boolean l = l) (h : post (xk E S C W (oo_ O t (en_ S i) l a) M H)) : wpX_openStretch post (xk E S C W O M H) (nI i) l := by
  have e7 := en_le so
  unfold wpX_openStretch xk
  dsimp only
  refine xo_end (E := E) (S := S) (C := C) (W := W) (O := O) (M := M) (H := H) so hi ?_
  refine ix_st t 14 (nI (en_ S i)) t14 ?_ ht (by_n (by omega))
  refine ix_st t 14 l t14 ?_ ht hl
  refine ix_st t 14 (nI a) t14 ?_ ht (by rw [ha]; exact by_s a512)
  exact nm_r (e' := nI (t + 1)) (by rw [ht, nI_1]) h
theorem xo_loops {post : Int32 → Prop} {t : Nat} (ht : xo_n O = nI t) (t14 : t ≤ 14) (h : post (nI (kc_n (fun k => decide (xo_l O k ≠ 0)) t))) : wpX_loopsOpen post (xk E S C W O M H) := by
  have lp : ∀ (d k : Nat), k + d = t → (wX_loopsOpen_4 post (xe_n E) (xs_n S) (xc_f C) (xc_n C) (xo_n O) (xm_c M) (xm_h M) (xh_u H) (xh_r H) (xe_k E) (xe_x E) (xe_y E) (xe_w E) (xe_s E) (xe_i E) (xe_a E) (xs_o S) (xs_x S) (xs_y S) (xs_z S) (xc_o C) (xc_a C) (xc_b C) (xc_c C) (xc_k C) (xw_n W) (xw_r W) (xw_p W) (xw_t W) (xo_e O) (xo_l O) (xo_p O) (xm_s M) (xm_n M) (xm_l M) (xm_m M) (xm_v M) (xh_k H) (xh_s H) (xh_n H) (xh_c H) (d + 1) (nI (kc_n (fun k => decide (xo_l O k ≠ 0)) k)) (nI k)) := by
    intro d
    induction d with
    | zero =>
      intro k hk
      have e : k = t := by omega
      subst e
      exact br_t (by rw [ht]; exact Int32.le_refl _) h
    | succ d ih =>
      intro k hk
      refine br_f (by rw [ht]; exact nI_ge (by omega) (by omega)) ⟨by_in (by omega), ?_⟩
      have ih := ih (k + 1) (by omega)
      by_cases z : xo_l O k = 0
      · refine br_t (ix_rd z) (nm_r (nI_1 k) ?_)
        rw [show kc_n (fun k => decide (xo_l O k ≠ 0)) (k + 1) = kc_n (fun k => decide (xo_l O k ≠ 0)) k from by simp [kc_n, z]] at ih
        exact ih
      · refine br_f (ix_rn z) (nm_r (nI_1 _) (nm_r (nI_1 k) ?_))
        rw [show kc_n (fun k => decide (xo_l O k ≠ 0)) (k + 1) = kc_n (fun k => decide (xo_l O k ≠ 0)) k + 1 from by simp [kc_n, z]] at ih
        exact ih
  exact ⟨t + 1, lp t 0 (by omega)⟩
theorem sc_0 {c i p : Nat} (hA : ar_ok (xe_A E) c) (hK : kn_ok E c) (so : so_1 S c i) (hi : i < 14) (hp : xc_n C = nI p) (h350 : p + 24 ≤ 350) (k : st_k S i = 0) :
    ∃ C' W' m, m ≤ p + 8 ∧ xc_n C' = nI (m + 1) ∧ xc_f C' = xc_f C ∧ ag_ C C' 0 p ∧ in_ C' p 18 0 0 0 (nI i) ∧ ce_ E C' 31 (kn_a E (st_y S i)) 6 (p + 1) m ∧ in_ C' m 1 (st_x S i) 6 0 0 ∧
      ∀ post : SX → Prop, post (xk E S C' W' O M H) → wpX_compileStatement post (xk E S C W O M H) (nI i) := by
  obtain ⟨s1, s2, s3⟩ := so.2.2.2.1 (Or.inl k)
  have sx := so.2.2.1
  obtain ⟨C1, W1, m, h1, h2, h3, h4, h5, h6⟩ := cu_ex (S := S) (W := W) (O := O) (M := M) (H := H) (C := cw_ C p 18 0 0 0 (nI i)) (e := st_y S i) (r := 6) (p := p + 1) hA hK s3 (by omega) rfl (by omega)
  have l1 := ce_lt _ _ _ _ _ h5
  refine ⟨cw_ C1 m 1 (st_x S i) 6 0 0, W1, m, by omega, rfl, h3, ag_tr (ag_tr ag_w (ag_sub h4 (Nat.le_refl _) (by omega))) (ag_sub (hi := m) (lo := 0) ag_w (Nat.le_refl _) (by omega)), in_ag (hi := m) (lo := 0) ag_w (Nat.zero_le _) (by omega) (in_ag h4 (Nat.zero_le _) (by omega) in_w), ce_ag (hi := m) (lo := 0) ag_w _ _ _ _ _ (Nat.zero_le _) (Nat.le_refl _) h5, in_w, fun post h => ?_⟩
  refine And.intro (by_in (by omega)) (nm_r ((ix_ev rfl).trans so.1) ?_)
  refine xw_write (o := 18) (a := 0) (b := 0) (c := 0) hp (by omega) (by omega) (by omega) (by omega) (by omega) ?_
  refine br_t (by rw [k]; rfl) ⟨by_in hi, ?_⟩
  rw [ix_ev (a := xs_y S) (i := nI i) rfl, s2]
  refine h6 _ ?_
  refine ⟨by_in hi, ?_⟩
  rw [ix_ev (a := xs_x S) (i := nI i) rfl, sx]
  exact xw_write (o := 1) (b := 6) (c := 0) h2 (by omega) (by omega) (by omega) (by omega) (by omega) h
theorem sc_4 {c i p : Nat} (hA : ar_ok (xe_A E) c) (hK : kn_ok E c) (so : so_1 S c i) (hi : i < 14) (hp : xc_n C = nI p) (h350 : p + 24 ≤ 350) (k : st_k S i = 4) :
    ∃ C' W' m, m ≤ p + 8 ∧ xc_n C' = nI (m + 1) ∧ xc_f C' = xc_f C ∧ ag_ C C' 0 p ∧ in_ C' p 18 0 0 0 (nI i) ∧ ce_ E C' 31 (kn_a E (st_x S i)) 6 (p + 1) m ∧ in_ C' m 14 6 0 0 0 ∧
      ∀ post : SX → Prop, post (xk E S C' W' O M H) → wpX_compileStatement post (xk E S C W O M H) (nI i) := by
  have s3 := so.2.2.2.2.1 (by omega)
  have sx := so.2.2.1
  obtain ⟨C1, W1, m, h1, h2, h3, h4, h5, h6⟩ := cu_ex (S := S) (W := W) (O := O) (M := M) (H := H) (C := cw_ C p 18 0 0 0 (nI i)) (e := st_x S i) (r := 6) (p := p + 1) hA hK s3 (by omega) rfl (by omega)
  have l1 := ce_lt _ _ _ _ _ h5
  refine ⟨cw_ C1 m 14 6 0 0 0, W1, m, by omega, rfl, h3, ag_tr (ag_tr ag_w (ag_sub h4 (Nat.le_refl _) (by omega))) (ag_sub (hi := m) (lo := 0) ag_w (Nat.le_refl _) (by omega)), in_ag (hi := m) (lo := 0) ag_w (Nat.zero_le _) (by omega) (in_ag h4 (Nat.zero_le _) (by omega) in_w), ce_ag (hi := m) (lo := 0) ag_w _ _ _ _ _ (Nat.zero_le _) (Nat.le_refl _) h5, in_w, fun post h => ?_⟩
  refine And.intro (by_in (by omega)) (nm_r ((ix_ev rfl).trans so.1) ?_)
  refine xw_write (o := 18) (a := 0) (b := 0) (c := 0) hp (by omega) (by omega) (by omega) (by omega) (by omega) ?_
  refine br_f (by rw [k]; decide) (br_f (by rw [k]; decide) (br_f (by rw [k]; decide) (br_f (by rw [k]; decide) ⟨by_in hi, ?_⟩)))
  rw [ix_ev (a := xs_x S) (i := nI i) rfl, sx]
  refine h6 _ ?_
  exact xw_write (o := 14) (a := 6) (b := 0) (c := 0) h2 (by omega) (by omega) (by omega) (by omega) (by omega) h
theorem sc_1 {c i p : Nat} (hA : ar_ok (xe_A E) c) (hK : kn_ok E c) (so : so_1 S c i) (hi : i < 14) (hp : xc_n C = nI p) (h350 : p + 24 ≤ 350) (k : st_k S i = 1) :
    ∃ C' W' m1 m2 m, m ≤ p + 22 ∧ xc_n C' = nI (m + 1) ∧ xc_f C' = xc_f C ∧ ag_ C C' 0 p ∧ in_ C' p 18 0 0 0 (nI i) ∧ ce_ E C' 31 (kn_a E (st_x S i)) 6 (p + 1) m1 ∧ ce_ E C' 31 (kn_a E (st_y S i)) 7 m1 m2 ∧ ce_ E C' 31 (kn_a E (st_z S i)) 8 m2 m ∧ in_ C' m 13 6 7 8 0 ∧
      ∀ post : SX → Prop, post (xk E S C' W' O M H) → wpX_compileStatement post (xk E S C W O M H) (nI i) := by
  have s3 := so.2.2.2.2.1 (by omega)
  have sx := so.2.2.1
  obtain ⟨y1, y2, z1, z2⟩ := so.2.2.2.2.2.1 k
  obtain ⟨C1, W1, m1, h1, h2, h3, h4, h5, h6⟩ := cu_ex (S := S) (W := W) (O := O) (M := M) (H := H) (C := cw_ C p 18 0 0 0 (nI i)) (e := st_x S i) (r := 6) (p := p + 1) hA hK s3 (by omega) rfl (by omega)
  have l1 := ce_lt _ _ _ _ _ h5
  obtain ⟨C2, W2, m2, i1, i2, i3, i4, i5, i6⟩ := cu_ex (S := S) (W := W1) (O := O) (M := M) (H := H) (C := C1) (e := st_y S i) (r := 7) (p := m1) hA hK y2 (by omega) h2 (by omega)
  have l2 := ce_lt _ _ _ _ _ i5
  obtain ⟨C3, W3, m, j1, j2, j3, j4, j5, j6⟩ := cu_ex (S := S) (W := W2) (O := O) (M := M) (H := H) (C := C2) (e := st_z S i) (r := 8) (p := m2) hA hK z2 (by omega) i2 (by omega)
  have l3 := ce_lt _ _ _ _ _ j5
  have g1 : ag_ C1 (cw_ C3 m 13 6 7 8 0) 0 m1 := ag_tr (ag_tr i4 (ag_sub j4 (Nat.le_refl _) (by omega))) (ag_sub (hi := m) (lo := 0) ag_w (Nat.le_refl _) (by omega))
  have g2 : ag_ C2 (cw_ C3 m 13 6 7 8 0) 0 m2 := ag_tr j4 (ag_sub (hi := m) (lo := 0) ag_w (Nat.le_refl _) (by omega))
  have g3 : ag_ C3 (cw_ C3 m 13 6 7 8 0) 0 m := ag_w
  refine ⟨cw_ C3 m 13 6 7 8 0, W3, m1, m2, m, by omega, rfl, j3.trans (i3.trans h3), ag_tr (ag_tr ag_w (ag_sub h4 (Nat.le_refl _) (by omega))) (ag_sub g1 (Nat.le_refl _) (by omega)), in_ag g1 (Nat.zero_le _) (by omega) (in_ag h4 (Nat.zero_le _) (by omega) in_w), ce_ag g1 _ _ _ _ _ (Nat.zero_le _) (Nat.le_refl _) h5, ce_ag g2 _ _ _ _ _ (Nat.zero_le _) (Nat.le_refl _) i5, ce_ag g3 _ _ _ _ _ (Nat.zero_le _) (Nat.le_refl _) j5, in_w, fun post h => ?_⟩
  refine And.intro (by_in (by omega)) (nm_r ((ix_ev rfl).trans so.1) ?_)
  refine xw_write (o := 18) (a := 0) (b := 0) (c := 0) hp (by omega) (by omega) (by omega) (by omega) (by omega) ?_
  refine br_f (by rw [k]; decide) (br_t (by rw [k]; rfl) ⟨by_in hi, ?_⟩)
  rw [ix_ev (a := xs_x S) (i := nI i) rfl, sx]
  refine h6 _ ?_
  refine ⟨by_in hi, ?_⟩
  rw [ix_ev (a := xs_y S) (i := nI i) rfl, y1]
  refine i6 _ ?_
  refine ⟨by_in hi, ?_⟩
  rw [ix_ev (a := xs_z S) (i := nI i) rfl, z1]
  refine j6 _ ?_
  exact xw_write (o := 13) (a := 6) (b := 7) (c := 8) j2 (by omega) (by omega) (by omega) (by omega) (by omega) h
theorem sc_2 {c i p t : Nat} (hA : ar_ok (xe_A E) c) (hK : kn_ok E c) (so : so_1 S c i) (hi : i < 14) (hp : xc_n C = nI p) (h350 : p + 24 ≤ 350) (k : st_k S i = 2) (ht : xo_n O = nI t) (t14 : t < 14) :
    ∃ C' W' m, m ≤ p + 8 ∧ xc_n C' = nI (m + 1) ∧ xc_f C' = xc_f C ∧ ag_ C C' 0 p ∧ in_ C' p 18 0 0 0 (nI i) ∧ ce_ E C' 31 (kn_a E (st_x S i)) 6 (p + 1) m ∧ in_ C' m 19 6 0 0 0 ∧
      ∀ post : SX → Prop, post (xk E S C' W' (oo_ O t (en_ S i) 0 m) M H) → wpX_compileStatement post (xk E S C W O M H) (nI i) := by
  have s3 := so.2.2.2.2.1 (by omega)
  have sx := so.2.2.1
  obtain ⟨C1, W1, m, h1, h2, h3, h4, h5, h6⟩ := cu_ex (S := S) (W := W) (O := O) (M := M) (H := H) (C := cw_ C p 18 0 0 0 (nI i)) (e := st_x S i) (r := 6) (p := p + 1) hA hK s3 (by omega) rfl (by omega)
  have l1 := ce_lt _ _ _ _ _ h5
  refine ⟨cw_ C1 m 19 6 0 0 0, W1, m, by omega, rfl, h3, ag_tr (ag_tr ag_w (ag_sub h4 (Nat.le_refl _) (by omega))) (ag_sub (hi := m) (lo := 0) ag_w (Nat.le_refl _) (by omega)), in_ag (hi := m) (lo := 0) ag_w (Nat.zero_le _) (by omega) (in_ag h4 (Nat.zero_le _) (by omega) in_w), ce_ag (hi := m) (lo := 0) ag_w _ _ _ _ _ (Nat.zero_le _) (Nat.le_refl _) h5, in_w, fun post h => ?_⟩
  refine And.intro (by_in (by omega)) (nm_r ((ix_ev rfl).trans so.1) ?_)
  refine xw_write (o := 18) (a := 0) (b := 0) (c := 0) hp (by omega) (by omega) (by omega) (by omega) (by omega) ?_
  refine br_f (by rw [k]; decide) (br_f (by rw [k]; decide) (br_t (by rw [k]; rfl) ⟨by_in hi, ?_⟩))
  rw [ix_ev (a := xs_x S) (i := nI i) rfl, sx]
  refine h6 _ ?_
  refine xo_open (C := C1) (W := W1) so hi ht t14 h2 (by omega) by_b0 ?_
  exact xw_write (O := oo_ O t (en_ S i) 0 m) (o := 19) (a := 6) (b := 0) (c := 0) h2 (by omega) (by omega) (by omega) (by omega) (by omega) h
theorem sc_3 {c i p t lv : Nat} (hA : ar_ok (xe_A E) c) (hK : kn_ok E c) (so : so_1 S c i) (hi : i < 14) (hp : xc_n C = nI p) (h350 : p + 24 ≤ 350) (k : st_k S i = 3) (ht : xo_n O = nI t) (t14 : t < 14) (hl : kc_n (fun k => decide (xo_l O k ≠ 0)) t = lv) :
    ∃ C' W' m, m ≤ p + 8 ∧ xc_n C' = nI (m + 2) ∧ xc_f C' = xc_f C ∧ ag_ C C' 0 p ∧ in_ C' p 18 0 0 0 (nI i) ∧ ce_ E C' 31 (kn_a E (st_y S i)) 6 (p + 1) m ∧ in_ C' m 15 lv 6 0 0 ∧ in_ C' (m + 1) 16 lv (st_x S i) 0 0 ∧
      ∀ post : SX → Prop, post (xk E S C' W' (oo_ O t (en_ S i) 1 (m + 1)) M H) → wpX_compileStatement post (xk E S C W O M H) (nI i) := by
  obtain ⟨s1, s2, s3⟩ := so.2.2.2.1 (Or.inr k)
  have sx := so.2.2.1
  have lv14 : lv ≤ 14 := by rw [← hl]; exact Nat.le_trans (kc_le _ _) (by omega)
  obtain ⟨C1, W1, m, h1, h2, h3, h4, h5, h6⟩ := cu_ex (S := S) (W := W) (O := O) (M := M) (H := H) (C := cw_ C p 18 0 0 0 (nI i)) (e := st_y S i) (r := 6) (p := p + 1) hA hK s3 (by omega) rfl (by omega)
  have l1 := ce_lt _ _ _ _ _ h5
  have g1 : ag_ C1 (cw_ (cw_ C1 m 15 lv 6 0 0) (m + 1) 16 lv (st_x S i) 0 0) 0 m := ag_tr ag_w (ag_sub (hi := m + 1) (lo := 0) ag_w (Nat.le_refl _) (by omega))
  refine ⟨cw_ (cw_ C1 m 15 lv 6 0 0) (m + 1) 16 lv (st_x S i) 0 0, W1, m, by omega, rfl, h3, ag_tr (ag_tr ag_w (ag_sub h4 (Nat.le_refl _) (by omega))) (ag_sub g1 (Nat.le_refl _) (by omega)), in_ag g1 (Nat.zero_le _) (by omega) (in_ag h4 (Nat.zero_le _) (by omega) in_w), ce_ag g1 _ _ _ _ _ (Nat.zero_le _) (Nat.le_refl _) h5, in_ag (hi := m + 1) (lo := 0) ag_w (Nat.zero_le _) (by omega) in_w, in_w, fun post h => ?_⟩
  refine And.intro (by_in (by omega)) (nm_r ((ix_ev rfl).trans so.1) ?_)
  refine xw_write (o := 18) (a := 0) (b := 0) (c := 0) hp (by omega) (by omega) (by omega) (by omega) (by omega) ?_
  refine br_f (by rw [k]; decide) (br_f (by rw [k]; decide) (br_f (by rw [k]; decide) (br_t (by rw [k]; rfl) ⟨by_in hi, ?_⟩)))
  rw [ix_ev (a := xs_y S) (i := nI i) rfl, s2]
  refine h6 _ ?_
  refine xo_loops (C := C1) (W := W1) ht (by omega) ?_
  rw [hl]
  refine xw_write (o := 15) (b := 6) (c := 0) h2 (by omega) (by omega) (by omega) (by omega) (by omega) ?_
  refine xo_open (C := cw_ C1 m 15 lv 6 0 0) (W := W1) (a := m + 1) so hi ht t14 rfl (by omega) by_b1 ?_
  refine ⟨by_in hi, ?_⟩
  rw [ix_ev (a := xs_x S) (i := nI i) rfl, sx]
  exact xw_write (C := cw_ C1 m 15 lv 6 0 0) (O := oo_ O t (en_ S i) 1 (m + 1)) (p := m + 1) (o := 16) (c := 0) rfl (by omega) (by omega) (by omega) (by omega) (by omega) h
end
end
section
/-! compiling all statements -/
section
variable {E : gx_E} {S : gx_S} {M : gx_M} {H : gx_H}
def kp_ (post : SX → Prop) (n fuel x : Nat) : SX → Prop := fun u =>
  if x < n then wpX_compileStatement (fun u' => ∀ x' : Int32, x' = nI x + 1 → (wX_compile_25 post fuel x' (xe_n (ux_E u')) (xs_n (ux_S u')) (xc_f (ux_C u')) (xc_n (ux_C u')) (xo_n (ux_O u')) (xm_c (ux_M u')) (xm_h (ux_M u')) (xh_u (ux_H u')) (xh_r (ux_H u')) (xe_k (ux_E u')) (xe_x (ux_E u')) (xe_y (ux_E u')) (xe_w (ux_E u')) (xe_s (ux_E u')) (xe_i (ux_E u')) (xe_a (ux_E u')) (xs_o (ux_S u')) (xs_x (ux_S u')) (xs_y (ux_S u')) (xs_z (ux_S u')) (xc_o (ux_C u')) (xc_a (ux_C u')) (xc_b (ux_C u')) (xc_c (ux_C u')) (xc_k (ux_C u')) (xw_n (ux_W u')) (xw_r (ux_W u')) (xw_p (ux_W u')) (xw_t (ux_W u')) (xo_e (ux_O u')) (xo_l (ux_O u')) (xo_p (ux_O u')) (xm_s (ux_M u')) (xm_n (ux_M u')) (xm_l (ux_M u')) (xm_m (ux_M u')) (xm_v (ux_M u')) (xh_k (ux_H u')) (xh_s (ux_H u')) (xh_n (ux_H u')) (xh_c (ux_H u')))) u (nI x) else post u
def kh_ (E : gx_E) (S : gx_S) (M : gx_M) (H : gx_H) (post : SX → Prop) (n fuel x : Nat) (C : gx_C) (W : gx_W) (O : gx_O) : Prop := ∃ m, (wX_closeStretches_0 (kp_ post n fuel x) (nI x) m (xe_n E) (xs_n S) (xc_f C) (xc_n C) (xo_n O) (xm_c M) (xm_h M) (xh_u H) (xh_r H) (xe_k E) (xe_x E) (xe_y E) (xe_w E) (xe_s E) (xe_i E) (xe_a E) (xs_o S) (xs_x S) (xs_y S) (xs_z S) (xc_o C) (xc_a C) (xc_b C) (xc_c C) (xc_k C) (xw_n W) (xw_r W) (xw_p W) (xw_t W) (xo_e O) (xo_l O) (xo_p O) (xm_s M) (xm_n M) (xm_l M) (xm_m M) (xm_v M) (xh_k H) (xh_s H) (xh_n H) (xh_c H))
theorem kh_25 {post : SX → Prop} {n fuel x : Nat} {C : gx_C} {W : gx_W} {O : gx_O} (hn : xs_n S = nI n) (n14 : n ≤ 14) (hx : x ≤ n) (h : kh_ E S M H post n fuel x C W O) : (wX_compile_25 post (fuel + 1) (nI x) (xe_n E) (xs_n S) (xc_f C) (xc_n C) (xo_n O) (xm_c M) (xm_h M) (xh_u H) (xh_r H) (xe_k E) (xe_x E) (xe_y E) (xe_w E) (xe_s E) (xe_i E) (xe_a E) (xs_o S) (xs_x S) (xs_y S) (xs_z S) (xc_o C) (xc_a C) (xc_b C) (xc_c C) (xc_k C) (xw_n W) (xw_r W) (xw_p W) (xw_t W) (xo_e O) (xo_l O) (xo_p O) (xm_s M) (xm_n M) (xm_l M) (xm_m M) (xm_v M) (xh_k H) (xh_s H) (xh_n H) (xh_c H)) := by
  by_cases c : x < n
  · refine br_f (by rw [hn]; exact nI_ge c (by omega)) ?_
    have e : kp_ post n fuel x = fun u => wpX_compileStatement (fun u' => ∀ x' : Int32, x' = nI x + 1 → (wX_compile_25 post fuel x' (xe_n (ux_E u')) (xs_n (ux_S u')) (xc_f (ux_C u')) (xc_n (ux_C u')) (xo_n (ux_O u')) (xm_c (ux_M u')) (xm_h (ux_M u')) (xh_u (ux_H u')) (xh_r (ux_H u')) (xe_k (ux_E u')) (xe_x (ux_E u')) (xe_y (ux_E u')) (xe_w (ux_E u')) (xe_s (ux_E u')) (xe_i (ux_E u')) (xe_a (ux_E u')) (xs_o (ux_S u')) (xs_x (ux_S u')) (xs_y (ux_S u')) (xs_z (ux_S u')) (xc_o (ux_C u')) (xc_a (ux_C u')) (xc_b (ux_C u')) (xc_c (ux_C u')) (xc_k (ux_C u')) (xw_n (ux_W u')) (xw_r (ux_W u')) (xw_p (ux_W u')) (xw_t (ux_W u')) (xo_e (ux_O u')) (xo_l (ux_O u')) (xo_p (ux_O u')) (xm_s (ux_M u')) (xm_n (ux_M u')) (xm_l (ux_M u')) (xm_m (ux_M u')) (xm_v (ux_M u')) (xh_k (ux_H u')) (xh_s (ux_H u')) (xh_n (ux_H u')) (xh_c (ux_H u')))) u (nI x) := funext (fun u => if_pos c)
    unfold kh_ at h
    rw [e] at h
    exact h
  · have ex : x = n := by omega
    subst ex
    refine br_t (by rw [hn]; exact Int32.le_refl _) ?_
    have e : kp_ post x fuel x = fun u => post u := funext (fun u => if_neg c)
    unfold kh_ at h
    rw [e, ← hn] at h
    exact h
/-- from the head of the closing loop at x to that at x' -/
def kr_ (E : gx_E) (S : gx_S) (M : gx_M) (H : gx_H) (n x : Nat) (C : gx_C) (W : gx_W) (O : gx_O) (x' : Nat) (C' : gx_C) (W' : gx_W) (O' : gx_O) : Prop :=
  ∀ (post : SX → Prop) (fuel : Nat), kh_ E S M H post n fuel x' C' W' O' → ∃ fuel', kh_ E S M H post n fuel' x C W O
theorem kr_rf {n x : Nat} {C : gx_C} {W : gx_W} {O : gx_O} : kr_ E S M H n x C W O x C W O := fun _ f h => ⟨f, h⟩
theorem kr_tr {n x y z : Nat} {C C1 C2 : gx_C} {W W1 W2 : gx_W} {O O1 O2 : gx_O} (a : kr_ E S M H n x C W O y C1 W1 O1) (b : kr_ E S M H n y C1 W1 O1 z C2 W2 O2) : kr_ E S M H n x C W O z C2 W2 O2 := by
  intro post f h
  obtain ⟨f1, h1⟩ := b post f h
  exact a post f1 h1
/-- the innermost open stretch, if there is one, ends not before e -/
def tp_ (O : gx_O) (t e : Nat) : Prop := 0 < t → ∃ e', xo_e O (t - 1) = nI e' ∧ e ≤ e' ∧ e' < 128
theorem tp_le {O : gx_O} {t e e1 : Nat} (h : tp_ O t e) (le : e1 ≤ e) : tp_ O t e1 := fun z => by
  obtain ⟨e', a, b, c⟩ := h z
  exact ⟨e', a, Nat.le_trans le b, c⟩
/-- a statement, with nothing to be closed before it -/
theorem kr_st {n x t : Nat} {C C1 : gx_C} {W W1 : gx_W} {O O1 : gx_O} (hn : xs_n S = nI n) (n14 : n ≤ 14) (hx : x < n) (ht : xo_n O = nI t) (t14 : t ≤ 14) (hc : tp_ O t (x + 1))
    (h : ∀ post : SX → Prop, post (xk E S C1 W1 O1 M H) → wpX_compileStatement post (xk E S C W O M H) (nI x)) : kr_ E S M H n x C W O (x + 1) C1 W1 O1 := by
  intro post f hk
  refine ⟨f + 1, 1, ?_⟩
  have fin : kp_ post n (f + 1) x (xk E S C W O M H) := by
    unfold kp_
    rw [if_pos hx]
    refine h _ ?_
    intro x' ex
    rw [ex, nI_1]
    exact kh_25 hn n14 (by omega) hk
  by_cases t0 : t = 0
  · exact br_t (by rw [ht, t0]; exact Int32.le_refl _) fin
  · obtain ⟨e, e1, e2, e3⟩ := hc (by omega)
    have tp : xo_n O - 1 = nI (t - 1) := by rw [ht, show t = (t - 1) + 1 from by omega, nI_pred]; rfl
    refine br_f (by rw [ht]; exact nI_nle (by omega) (by omega)) ⟨pk_in (t - 1) 14 (by omega) tp, br_f (fun w => ?_) fin⟩
    have w2 := (ix_ev (a := xo_e O) tp).symm.trans w
    rw [e1] at w2
    have := (nI_eq (by omega) (by omega)).mp w2
    omega
def oc_ (O : gx_O) (t : Nat) : gx_O := (nI t, xo_e O, xo_l O, xo_p O)
theorem kr_if {n x t a q : Nat} {C : gx_C} {W : gx_W} {O : gx_O} (ht : xo_n O = nI (t + 1)) (t14 : t < 14) (he : xo_e O t = nI x) (hl : xo_l O t = 0) (hp : xo_p O t = nI a) (a350 : a < 350) (hq : xc_n C = nI q) : kr_ E S M H n x C W O x (ck_ C a (nI q)) W (oc_ O t) := by
  rintro post f ⟨m, h⟩
  refine ⟨f, m + 1, ?_⟩
  have tp : xo_n O - 1 = nI t := by rw [ht, nI_pred]
  refine br_f (by rw [ht]; exact nI_nle (by omega) (by omega)) ⟨pk_in t 14 t14 tp, br_t ((ix_ev tp).trans he) (nm_r (e' := nI t) tp (And.intro (by_in t14) (nm_r ((ix_ev rfl).trans hp) (And.intro (by_in t14) (br_t (ix_rd hl) ?_)))))⟩
  exact ix_st a 350 (nI q) a350 h rfl hq
theorem kr_lp {n x t a q : Nat} {C : gx_C} {W : gx_W} {O : gx_O} (ht : xo_n O = nI (t + 1)) (t14 : t < 14) (he : xo_e O t = nI x) (hl : xo_l O t = 1) (hp : xo_p O t = nI a) (a350 : a < 350) (hq : xc_n C = nI q) (q350 : q < 350) : kr_ E S M H n x C W O x (ck_ (cw_ C q 17 0 0 0 (nI a)) a (nI (q + 1))) W (oc_ O t) := by
  rintro post f ⟨m, h⟩
  refine ⟨f, m + 1, ?_⟩
  have tp : xo_n O - 1 = nI t := by rw [ht, nI_pred]
  refine br_f (by rw [ht]; exact nI_nle (by omega) (by omega)) ⟨pk_in t 14 t14 tp, br_t ((ix_ev tp).trans he) (nm_r (e' := nI t) tp (And.intro (by_in t14) (nm_r ((ix_ev rfl).trans hp) (And.intro (by_in t14) (br_f (ix_rn (by rw [hl]; decide)) ?_)))))⟩
  refine xw_write (O := oc_ O t) (o := 17) (a := 0) (b := 0) (c := 0) hq q350 (by omega) (by omega) (by omega) (by omega) ?_
  exact ix_st a 350 (nI (q + 1)) a350 h
def ok_ (O O' : gx_O) (t : Nat) : Prop := xo_n O' = nI t ∧ ∀ j, j < t → xo_e O' j = xo_e O j ∧ xo_l O' j = xo_l O j ∧ xo_p O' j = xo_p O j
theorem ok_rf {O : gx_O} {t : Nat} (h : xo_n O = nI t) : ok_ O O t := ⟨h, fun _ _ => ⟨rfl, rfl, rfl⟩⟩
theorem ok_tr {O O1 O2 : gx_O} {t : Nat} (a : ok_ O O1 t) (b : ok_ O1 O2 t) : ok_ O O2 t := ⟨b.1, fun j hj => ⟨(b.2 j hj).1.trans (a.2 j hj).1, (b.2 j hj).2.1.trans (a.2 j hj).2.1, (b.2 j hj).2.2.trans (a.2 j hj).2.2⟩⟩
/-- opened, worked upon, closed -/
theorem ok_oc {O O1 : gx_O} {t e a : Nat} {l : Int32} (h : ok_ (oo_ O t e l a) O1 (t + 1)) : ok_ O (oc_ O1 t) t := by
  refine ⟨rfl, fun j hj => ?_⟩
  obtain ⟨h1, h2, h3⟩ := h.2 j (by omega)
  exact ⟨h1.trans (pk_un (by omega)), h2.trans (pk_un (by omega)), h3.trans (pk_un (by omega))⟩
theorem ok_top {O O1 : gx_O} {t e a : Nat} {l : Int32} (h : ok_ (oo_ O t e l a) O1 (t + 1)) : xo_n O1 = nI (t + 1) ∧ xo_e O1 t = nI e ∧ xo_l O1 t = l ∧ xo_p O1 t = nI a := by
  obtain ⟨h1, h2, h3⟩ := h.2 t (by omega)
  exact ⟨h.1, h1.trans pk_us, h2.trans pk_us, h3.trans pk_us⟩
/-- loops among the open stretches -/
theorem ok_lv {O O1 : gx_O} {t : Nat} (h : ok_ O O1 t) : kc_n (fun k => decide (xo_l O1 k ≠ 0)) t = kc_n (fun k => decide (xo_l O k ≠ 0)) t := kc_congr (fun j hj => by rw [(h.2 j hj).2.1])
theorem ok_lv0 {O : gx_O} {t e a : Nat} : kc_n (fun k => decide (xo_l (oo_ O t e 0 a) k ≠ 0)) (t + 1) = kc_n (fun k => decide (xo_l O k ≠ 0)) t := by
  have e1 : xo_l (oo_ O t e 0 a) t = 0 := pk_us
  have c : kc_n (fun k => decide (xo_l (oo_ O t e 0 a) k ≠ 0)) t = kc_n (fun k => decide (xo_l O k ≠ 0)) t := kc_congr (fun j hj => by rw [show xo_l (oo_ O t e 0 a) j = xo_l O j from pk_un (by omega)])
  simp only [kc_n, c, e1]
  simp
theorem ok_lv1 {O : gx_O} {t e a : Nat} : kc_n (fun k => decide (xo_l (oo_ O t e 1 a) k ≠ 0)) (t + 1) = kc_n (fun k => decide (xo_l O k ≠ 0)) t + 1 := by
  have e1 : xo_l (oo_ O t e 1 a) t = 1 := pk_us
  have c : kc_n (fun k => decide (xo_l (oo_ O t e 1 a) k ≠ 0)) t = kc_n (fun k => decide (xo_l O k ≠ 0)) t := kc_congr (fun j hj => by rw [show xo_l (oo_ O t e 1 a) j = xo_l O j from pk_un (by omega)])
  simp only [kc_n, c, e1]
  simp
/-! how many loops lie around -/
theorem ld_mono {S : gx_S} {i i' j : Nat} (h : i ≤ i') : ld_ S i' j ≤ ld_ S i j := kc_mono (fun k _ hk => by
  simp only [decide_eq_true_eq] at hk ⊢
  exact ⟨by omega, hk.2⟩)
theorem ld_in {S : gx_S} {i j : Nat} (h3 : st_k S i = 3) (hj : i < j) (he : j < en_ S i) : ld_ S i j = ld_ S (i + 1) j + 1 := by
  refine kc_set (j := i) ?_ ?_ hj ?_
  · simp only [decide_eq_false_iff_not]
    omega
  · simp only [decide_eq_true_eq]
    exact ⟨Nat.le_refl _, h3, he⟩
  · intro k _ ne
    by_cases c : i + 1 ≤ k ∧ st_k S k = 3 ∧ j < en_ S k
    · rw [decide_eq_true c, decide_eq_true ⟨by omega, c.2⟩]
    · rw [decide_eq_false c, decide_eq_false (fun w => c ⟨by omega, w.2⟩)]
end
end
section
/-! compiling a stretch of statements -/
section
variable {E : gx_E} {S : gx_S} {M : gx_M} {H : gx_H}
def kb_P (E : gx_E) (S : gx_S) (M : gx_M) (H : gx_H) (c n d : Nat) : Prop :=
  ∀ (i e lv p t : Nat) (C : gx_C) (W : gx_W) (O : gx_O), e - i ≤ d → i ≤ e → e ≤ n → (∀ j, i ≤ j → j < e → en_ S j ≤ e) → (∀ j, i ≤ j → j < e → lv + ld_ S i j ≤ 2) →
    xo_n O = nI t → t + (e - i) ≤ 14 → tp_ O t e → kc_n (fun k => decide (xo_l O k ≠ 0)) t = lv → xc_n C = nI p → p + 24 * (e - i) ≤ 340 →
    ∃ C' W' O' q, q ≤ p + 24 * (e - i) ∧ p ≤ q ∧ xc_n C' = nI q ∧ xc_f C' = xc_f C ∧ ag_ C C' 0 p ∧ cs_ E S C' d i e lv p q ∧ ok_ O O' t ∧ kr_ E S M H n i C W O e C' W' O'
theorem tp_ok {O O1 : gx_O} {t e : Nat} (oc : ok_ O O1 t) (h : tp_ O t e) : tp_ O1 t e := fun z => by
  obtain ⟨e', a, b', c'⟩ := h z
  exact ⟨e', ((oc.2 (t - 1) (by omega)).1).trans a, b', c'⟩
theorem tp_oo {O : gx_O} {t e a : Nat} {l : Int32} (h : e < 128) : tp_ (oo_ O t e l a) (t + 1) e := fun _ => ⟨e, pk_us, Nat.le_refl _, h⟩
theorem tp_0 {O : gx_O} {e : Nat} : tp_ O 0 e := fun z => absurd z (by omega)
theorem kb_0 {c n d i e lv p q p1 t : Nat} {C C1 C' : gx_C} {W W1 W' : gx_W} {O O' : gx_O} (h1 : kr_ E S M H n i C W O (i + 1) C1 W1 O) (a1 : ag_ C C1 0 p) (f1 : xc_f C1 = xc_f C) (lp : p ≤ p1)
    (h2 : p1 ≤ q ∧ xc_n C' = nI q ∧ xc_f C' = xc_f C1 ∧ ag_ C1 C' 0 p1 ∧ cs_ E S C' d (i + 1) e lv p1 q ∧ ok_ O O' t ∧ kr_ E S M H n (i + 1) C1 W1 O e C' W' O') :
    p ≤ q ∧ xc_n C' = nI q ∧ xc_f C' = xc_f C ∧ ag_ C C' 0 p ∧ ok_ O O' t ∧ kr_ E S M H n i C W O e C' W' O' :=
  ⟨by omega, h2.2.1, h2.2.2.1.trans f1, ag_tr a1 (ag_sub h2.2.2.2.1 (Nat.le_refl _) lp), h2.2.2.2.2.2.1, kr_tr h1 h2.2.2.2.2.2.2⟩
theorem kb_s {c n d : Nat} (hA : ar_ok (xe_A E) c) (hK : kn_ok E c) (hS : so_ok S c n) (hd : sd_ S n) (ih : kb_P E S M H c n d) : kb_P E S M H c n (d + 1) := by
  intro i e lv p t C W O hde hie hen hnest hlv ht t14 htop hlp hp h340
  have n14 := hS.2.1
  have hn := hS.1
  by_cases eq : i = e
  · subst eq
    exact ⟨C, W, O, p, by omega, Nat.le_refl _, hp, rfl, ag_rf, Or.inl ⟨rfl, rfl⟩, ok_rf ht, kr_rf⟩
  · have ilt : i < e := by omega
    have so := hS.2.2 i (by omega)
    have k4 := so.2.1
    have hk4 : ∀ j, j < n → st_k S j ≤ 4 := fun j hj => (hS.2.2 j hj).2.1
    have enl := en_le so
    have top1 : tp_ O t (i + 1) := tp_le htop ilt
    have nest1 : ∀ j, i + 1 ≤ j → j < e → en_ S j ≤ e := fun j h1 h2 => hnest j (by omega) h2
    have lv1 : ∀ j, i + 1 ≤ j → j < e → lv + ld_ S (i + 1) j ≤ 2 := fun j h1 h2 => by
      have := hlv j (by omega) h2
      have := ld_mono (S := S) (i := i) (i' := i + 1) (j := j) (by omega)
      omega
    have ks : st_k S i = 0 ∨ st_k S i = 1 ∨ st_k S i = 2 ∨ st_k S i = 3 ∨ st_k S i = 4 := by omega
    rcases ks with k | k | k | k | k
    · obtain ⟨C1, W1, m, b1, b2, b3, b4, b5, b6, b7, b8⟩ := sc_0 (W := W) (O := O) (M := M) (H := H) hA hK so (by omega) hp (by omega) k
      have l1 := ce_lt _ _ _ _ _ b6
      have s1 := kr_st hn n14 (by omega) ht (by omega) top1 b8
      obtain ⟨C', W', O', q, h0, h2⟩ := ih (i + 1) e lv (m + 1) t C1 W1 O (by omega) (by omega) hen nest1 lv1 ht (by omega) htop hlp b2 (by omega)
      obtain ⟨z1, z2, z3, z4, z5, z6⟩ := kb_0 (c := c) s1 b4 b3 (by omega) h2
      refine ⟨C', W', O', q, by omega, z1, z2, z3, z4, Or.inr ⟨ilt, in_ag h2.2.2.2.1 (Nat.zero_le _) (by omega) b5, fun _ => ⟨m, ce_ag h2.2.2.2.1 _ _ _ _ _ (Nat.zero_le _) (by omega) b6, in_ag h2.2.2.2.1 (Nat.zero_le _) (by omega) b7, h2.2.2.2.2.1⟩, fun w => by omega, fun w => by omega, fun w => by omega, fun w => by omega⟩, z5, z6⟩
    · obtain ⟨C1, W1, m1, m2, m, b1, b2, b3, b4, b5, b6, b6', b6'', b7, b8⟩ := sc_1 (W := W) (O := O) (M := M) (H := H) hA hK so (by omega) hp (by omega) k
      have l1 := ce_lt _ _ _ _ _ b6
      have l2 := ce_lt _ _ _ _ _ b6'
      have l3 := ce_lt _ _ _ _ _ b6''
      have s1 := kr_st hn n14 (by omega) ht (by omega) top1 b8
      obtain ⟨C', W', O', q, h0, h2⟩ := ih (i + 1) e lv (m + 1) t C1 W1 O (by omega) (by omega) hen nest1 lv1 ht (by omega) htop hlp b2 (by omega)
      obtain ⟨z1, z2, z3, z4, z5, z6⟩ := kb_0 (c := c) s1 b4 b3 (by omega) h2
      refine ⟨C', W', O', q, by omega, z1, z2, z3, z4, Or.inr ⟨ilt, in_ag h2.2.2.2.1 (Nat.zero_le _) (by omega) b5, fun w => by omega, fun _ => ⟨m1, m2, m, ce_ag h2.2.2.2.1 _ _ _ _ _ (Nat.zero_le _) (by omega) b6, ce_ag h2.2.2.2.1 _ _ _ _ _ (Nat.zero_le _) (by omega) b6', ce_ag h2.2.2.2.1 _ _ _ _ _ (Nat.zero_le _) (by omega) b6'', in_ag h2.2.2.2.1 (Nat.zero_le _) (by omega) b7, h2.2.2.2.2.1⟩, fun w => by omega, fun w => by omega, fun w => by omega⟩, z5, z6⟩
    · have ee := hnest i (Nat.le_refl _) ilt
      obtain ⟨C1, W1, m, b1, b2, b3, b4, b5, b6, b7, b8⟩ := sc_2 (W := W) (O := O) (M := M) (H := H) hA hK so (by omega) hp (by omega) k ht (by omega)
      have l1 := ce_lt _ _ _ _ _ b6
      have s1 := kr_st hn n14 (by omega) ht (by omega) top1 b8
      obtain ⟨C2, W2, O2, b, h0, h1, h2, h3, h4, h5, h6, h7⟩ := ih (i + 1) (en_ S i) lv (m + 1) (t + 1) C1 W1 (oo_ O t (en_ S i) 0 m) (by omega) (by omega) (by omega) (fun j q1 q2 => (hd j (by omega)).2.1 i (by omega) q2) (fun j q1 q2 => lv1 j q1 (by omega)) rfl (by omega) (tp_oo (by omega)) (ok_lv0.trans hlp) b2 (by omega)
      obtain ⟨o1, o2, o3, o4⟩ := ok_top h6
      have s2 := kr_if (E := E) (S := S) (M := M) (H := H) (n := n) (W := W2) o1 (by omega) o2 o3 o4 (by omega) h2
      have oc := ok_oc h6
      obtain ⟨C', W', O', q, g0, g1, g2, g3, g4, g5, g6, g7⟩ := ih (en_ S i) e lv b t (ck_ C2 m (nI b)) W2 (oc_ O2 t) (by omega) ee hen (fun j q1 q2 => hnest j (by omega) q2) (fun j q1 q2 => by
        have := hlv j (by omega) q2
        have := ld_mono (S := S) (i := i) (i' := en_ S i) (j := j) (by omega)
        omega) rfl (by omega) (tp_ok oc htop) ((ok_lv oc).trans hlp) h2 (by omega)
      have gx : ag_ C1 C' 0 m := ag_tr (ag_tr (ag_sub h4 (Nat.le_refl _) (by omega)) (ag_k (Or.inl (Nat.le_refl _)))) (ag_sub g4 (Nat.le_refl _) (by omega))
      refine ⟨C', W', O', q, by omega, by omega, g2, g3.trans (h3.trans b3), ag_tr b4 (ag_sub gx (Nat.le_refl _) (by omega)), Or.inr ⟨ilt, in_ag gx (Nat.zero_le _) (by omega) b5, fun w => by omega, fun w => by omega, fun _ => ⟨m, b, ee, ce_ag gx _ _ _ _ _ (Nat.zero_le _) (Nat.le_refl _) b6, in_ag g4 (Nat.zero_le _) (by omega) (in_k (in_ag h4 (Nat.zero_le _) (by omega) b7)), ?_, g5⟩, fun w => by omega, fun w => by omega⟩, ok_tr oc g6, kr_tr (kr_tr (kr_tr s1 h7) s2) g7⟩
      exact cs_ag hk4 (ag_tr (ag_k (lo := m + 1) (hi := b) (Or.inr (by omega))) (ag_sub g4 (Nat.zero_le _) (Nat.le_refl _))) _ _ _ _ _ _ (Nat.le_refl _) (Nat.le_refl _) (by omega) h5
    · have ee := hnest i (Nat.le_refl _) ilt
      have z1 := so.2.2.2.2.2.2.2 k
      have eni : en_ S i = i + 1 + st_z S i := by unfold en_; rw [if_neg (by omega), if_pos k]
      have lv2 : lv < 2 := by
        have := hlv (i + 1) (by omega) (by omega)
        rw [ld_in k (by omega) (by omega)] at this
        omega
      obtain ⟨C1, W1, m, b1, b2, b3, b4, b5, b6, b7, b7', b8⟩ := sc_3 (W := W) (O := O) (M := M) (H := H) hA hK so (by omega) hp (by omega) k ht (by omega) hlp
      have l1 := ce_lt _ _ _ _ _ b6
      have s1 := kr_st hn n14 (by omega) ht (by omega) top1 b8
      obtain ⟨C2, W2, O2, b, h0, h1, h2, h3, h4, h5, h6, h7⟩ := ih (i + 1) (en_ S i) (lv + 1) (m + 2) (t + 1) C1 W1 (oo_ O t (en_ S i) 1 (m + 1)) (by omega) (by omega) (by omega) (fun j q1 q2 => (hd j (by omega)).2.1 i (by omega) q2) (fun j q1 q2 => by
        have := hlv j (by omega) (by omega)
        rw [ld_in k (by omega) q2] at this
        omega) rfl (by omega) (tp_oo (by omega)) (by rw [ok_lv1, hlp]) b2 (by omega)
      obtain ⟨o1, o2, o3, o4⟩ := ok_top h6
      have s2 := kr_lp (E := E) (S := S) (M := M) (H := H) (n := n) (W := W2) o1 (by omega) o2 o3 o4 (by omega) h2 (by omega)
      have oc := ok_oc h6
      obtain ⟨C', W', O', q, g0, g1, g2, g3, g4, g5, g6, g7⟩ := ih (en_ S i) e lv (b + 1) t (ck_ (cw_ C2 b 17 0 0 0 (nI (m + 1))) (m + 1) (nI (b + 1))) W2 (oc_ O2 t) (by omega) ee hen (fun j q1 q2 => hnest j (by omega) q2) (fun j q1 q2 => by
        have := hlv j (by omega) q2
        have := ld_mono (S := S) (i := i) (i' := en_ S i) (j := j) (by omega)
        omega) rfl (by omega) (tp_ok oc htop) ((ok_lv oc).trans hlp) rfl (by omega)
      have gx : ag_ C1 C' 0 (m + 1) := ag_tr (ag_tr (ag_tr (ag_sub h4 (Nat.le_refl _) (by omega)) (ag_sub (hi := b) (lo := 0) ag_w (Nat.le_refl _) (by omega))) (ag_k (Or.inl (Nat.le_refl _)))) (ag_sub g4 (Nat.le_refl _) (by omega))
      refine ⟨C', W', O', q, by omega, by omega, g2, g3.trans (h3.trans b3), ag_tr b4 (ag_sub gx (Nat.le_refl _) (by omega)), Or.inr ⟨ilt, in_ag gx (Nat.zero_le _) (by omega) b5, fun w => by omega, fun w => by omega, fun w => by omega, fun _ => ⟨m, b, ee, lv2, ce_ag gx _ _ _ _ _ (Nat.zero_le _) (by omega) b6, in_ag gx (Nat.zero_le _) (by omega) b7, ?_, ?_, ?_, g5⟩, fun w => by omega⟩, ok_tr oc g6, kr_tr (kr_tr (kr_tr s1 h7) s2) g7⟩
      · exact in_ag g4 (Nat.zero_le _) (by omega) (in_k (in_ag (hi := b) (lo := 0) ag_w (Nat.zero_le _) (by omega) (in_ag h4 (Nat.zero_le _) (by omega) b7')))
      · exact cs_ag hk4 (ag_tr (ag_tr (ag_w (lo := m + 2)) (ag_k (Or.inr (by omega)))) (ag_sub g4 (Nat.zero_le _) (by omega))) _ _ _ _ _ _ (Nat.le_refl _) (Nat.le_refl _) (by omega) h5
      · exact in_ag g4 (Nat.zero_le _) (by omega) (in_ag (ag_k (lo := b) (hi := b + 1) (Or.inr (by omega))) (Nat.le_refl _) (by omega) in_w)
    · obtain ⟨C1, W1, m, b1, b2, b3, b4, b5, b6, b7, b8⟩ := sc_4 (W := W) (O := O) (M := M) (H := H) hA hK so (by omega) hp (by omega) k
      have l1 := ce_lt _ _ _ _ _ b6
      have s1 := kr_st hn n14 (by omega) ht (by omega) top1 b8
      obtain ⟨C', W', O', q, h0, h2⟩ := ih (i + 1) e lv (m + 1) t C1 W1 O (by omega) (by omega) hen nest1 lv1 ht (by omega) htop hlp b2 (by omega)
      obtain ⟨z1, z2, z3, z4, z5, z6⟩ := kb_0 (c := c) s1 b4 b3 (by omega) h2
      refine ⟨C', W', O', q, by omega, z1, z2, z3, z4, Or.inr ⟨ilt, in_ag h2.2.2.2.1 (Nat.zero_le _) (by omega) b5, fun w => by omega, fun w => by omega, fun w => by omega, fun w => by omega, fun _ => ⟨m, ce_ag h2.2.2.2.1 _ _ _ _ _ (Nat.zero_le _) (by omega) b6, in_ag h2.2.2.2.1 (Nat.zero_le _) (by omega) b7, h2.2.2.2.2.1⟩⟩, z5, z6⟩
theorem kb_ {c n : Nat} (hA : ar_ok (xe_A E) c) (hK : kn_ok E c) (hS : so_ok S c n) (hd : sd_ S n) : ∀ d, kb_P E S M H c n d := by
  intro d
  induction d with
  | zero =>
    intro i e lv p t C W O hde hie hen hnest hlv ht t14 htop hlp hp h340
    have eq : i = e := by omega
    subst eq
    exact ⟨C, W, O, p, by omega, Nat.le_refl _, hp, rfl, ag_rf, ⟨rfl, rfl⟩, ok_rf ht, kr_rf⟩
  | succ d ih => exact kb_s hA hK hS hd ih
/-- what compile leaves -/
def co_ok (E : gx_E) (S : gx_S) (C : gx_C) (n : Nat) : Prop := ∃ z, xc_n C = nI z ∧ z ≤ 350 ∧ cs_ E S C 14 0 n 0 0 z
theorem kb_all {c n : Nat} {C : gx_C} {W : gx_W} {O : gx_O} (hA : ar_ok (xe_A E) c) (hK : kn_ok E c) (hS : so_ok S c n) (hd : sd_ S n) (h0 : xc_f C = 0) :
    ∃ C' W' O', co_ok E S C' n ∧ xc_f C' = 1 ∧ ∀ post : SX → Prop, post (xk E S C' W' O' M H) → wpX_compile post (xk E S C W O M H) := by
  have n14 := hS.2.1
  obtain ⟨C', W', O', q, g0, g1, g2, g3, g4, g5, g6, g7⟩ := kb_ (M := M) (H := H) hA hK hS hd 14 0 n 0 0 0 (1, 0, xc_o C, xc_a C, xc_b C, xc_c C, xc_k C) W (0, xo_e O, xo_l O, xo_p O) (by omega) (by omega) (Nat.le_refl _) (fun j _ h => (hd j h).1) (fun j _ h => by have := (hd j h).2.2; omega) rfl (by omega) tp_0 rfl rfl (by omega)
  refine ⟨C', W', O', ⟨q, g2, by omega, g5⟩, g3, fun post h => ?_⟩
  have fin : kh_ E S M H post n 0 n C' W' O' := by
    refine ⟨1, ?_⟩
    have e : kp_ post n 0 n = fun u => post u := funext (fun u => if_neg (by omega))
    rw [e]
    exact br_t (by rw [g6.1]; exact Int32.le_refl _) h
  obtain ⟨f, hf⟩ := g7 post 0 fin
  exact br_t h0 ⟨f + 1, kh_25 (x := 0) hS.1 n14 (by omega) hf⟩
end
end
section
/-! the reference: which tables are come to -/
def ry_ (V : gy_V) (t : Nat) : Prop := t < 24 ∧ ∃ r, r < 6 ∧ yv_s V r = 2 ∧ yv_n V r = nI t
def ey_ (T : gy_T) (t t' : Nat) : Prop := t < 24 ∧ ∃ z j, z ≤ 6 ∧ yt_z T t = nI z ∧ j < z ∧ yt_s T (6 * t + j) = 2 ∧ yt_n T (6 * t + j) = nI t' ∧ t' < 24
def gy_ (T : gy_T) (D : Nat → Prop) : Prop := ∀ t, D t → t < 24 ∧ ∃ z, z ≤ 6 ∧ yt_z T t = nI z ∧ ∀ j, j < z → yt_s T (6 * t + j) = 2 → ∃ t', yt_n T (6 * t + j) = nI t' ∧ D t'
def yt_sn (T : gy_T) (s : Nat → Int32) : gy_T := (yt_z T, yt_k T, yt_s T, yt_n T, yt_t T, s)
section
variable {A : gy_A} {B : gy_B} {V : gy_V} {T : gy_T} {K : gy_K} {L : gy_L}
def yq_c (s : Nat → Int32) : Nat := kc_n (fun t => decide (s t ≠ 0)) 24
def yq_cl (T : gy_T) (s : Nat → Int32) : Prop := ∀ t t', t < 24 → s t ≠ 0 → ey_ T t t' → s t' ≠ 0
theorem yq_u {s : Nat → Int32} {t i : Nat} : upd s t 1 i ≠ 0 ↔ (s i ≠ 0 ∨ i = t) := by
  by_cases e : i = t
  · subst e; rw [pk_us]; simp
  · rw [pk_un e]; simp [e]
def b1_ (s : Nat → Int32) : Prop := ∀ t, t < 24 → s t = 0 ∨ s t = 1
theorem b1_u {s : Nat → Int32} {t : Nat} (h : b1_ s) : b1_ (upd s t 1) := fun i hi => by
  by_cases e : i = t
  · rw [e]; exact Or.inr pk_us
  · rw [pk_un e]; exact h i hi
theorem yq_67 {D : Nat → Prop} (gd : gy_ T D) : ∀ (d k : Nat) (s : Nat → Int32), k + d = 144 → (∀ t, t < 24 → s t ≠ 0 → D t) →
    ∃ s', (b1_ s → b1_ s') ∧ (∀ t, t < 24 → s t ≠ 0 → s' t ≠ 0) ∧ (∀ Q : Nat → Prop, (∀ t t', Q t → ey_ T t t' → Q t') → (∀ t, t < 24 → s t ≠ 0 → Q t) → ∀ t, t < 24 → s' t ≠ 0 → Q t) ∧
      (∀ t z j, k ≤ 6 * t + j → t < 24 → s t ≠ 0 → yt_z T t = nI z → z ≤ 6 → j < z → yt_s T (6 * t + j) = 2 → ∃ t', yt_n T (6 * t + j) = nI t' ∧ t' < 24 ∧ s' t' ≠ 0) ∧
      ∀ (post : Int32 → SY → Prop) (n x1 : Nat), (wY_reach_59 post (ya_n A) (yb_n B) (yv_h V) (yk_d K) (yk_t K) (yk_f K) (yl_n L) n (nI (x1 + 1)) (ya_k A) (ya_x A) (ya_y A) (ya_w A) (yb_o B) (yb_x B) (yb_y B) (yb_z B) (yv_s V) (yv_n V) (yt_z T) (yt_k T) (yt_s T) (yt_n T) (yt_t T) (s') (yv_o V) (yk_w K) (yk_g K) (yk_s K) (yk_n K) (yl_a L) (yl_t L) (yl_l L)) → (wY_reach_67 post (wY_reach_59 post (ya_n A) (yb_n B) (yv_h V) (yk_d K) (yk_t K) (yk_f K) (yl_n L) n) (nI x1) (ya_n A) (yb_n B) (yv_h V) (yk_d K) (yk_t K) (yk_f K) (yl_n L) (d + 1) (nI k) (ya_k A) (ya_x A) (ya_y A) (ya_w A) (yb_o B) (yb_x B) (yb_y B) (yb_z B) (yv_s V) (yv_n V) (yt_z T) (yt_k T) (yt_s T) (yt_n T) (yt_t T) (s) (yv_o V) (yk_w K) (yk_g K) (yk_s K) (yk_n K) (yl_a L) (yl_t L) (yl_l L)) := by
  intro d
  induction d with
  | zero =>
    intro k s hd hD
    refine ⟨s, id, fun _ _ h => h, fun Q _ a t ht h => a t ht h, fun t z j h1 h2 h3 h4 h5 h6 => by omega, fun post n x1 h => ?_⟩
    exact br_t (nI_le (a := 144) (by omega) (by omega)) (nm_r (nI_1 x1) h)
  | succ d ih =>
    intro k s hd hD
    have e6 : nI k / 6 = nI (k / 6) := pk_div (d := 6) (by omega) (by omega) (by omega)
    have r6 : nI k - nI k / 6 * 6 = nI (k % 6) := pk_rem (d := 6) (by omega) (by omega) (by omega)
    have hk6 : 6 * (k / 6) + k % 6 = k := by omega
    -- nothing is done at k
    have skip : (s (k / 6) ≠ 0 → ∀ z, yt_z T (k / 6) = nI z → z ≤ 6 → k % 6 < z → yt_s T k ≠ 2) →
        (∀ (post : Int32 → SY → Prop) (n x1 : Nat), (wY_reach_67 post (wY_reach_59 post (ya_n A) (yb_n B) (yv_h V) (yk_d K) (yk_t K) (yk_f K) (yl_n L) n) (nI x1) (ya_n A) (yb_n B) (yv_h V) (yk_d K) (yk_t K) (yk_f K) (yl_n L) (d + 1) (nI (k + 1)) (ya_k A) (ya_x A) (ya_y A) (ya_w A) (yb_o B) (yb_x B) (yb_y B) (yb_z B) (yv_s V) (yv_n V) (yt_z T) (yt_k T) (yt_s T) (yt_n T) (yt_t T) (s) (yv_o V) (yk_w K) (yk_g K) (yk_s K) (yk_n K) (yl_a L) (yl_t L) (yl_l L)) → (wY_reach_67 post (wY_reach_59 post (ya_n A) (yb_n B) (yv_h V) (yk_d K) (yk_t K) (yk_f K) (yl_n L) n) (nI x1) (ya_n A) (yb_n B) (yv_h V) (yk_d K) (yk_t K) (yk_f K) (yl_n L) (d + 1 + 1) (nI k) (ya_k A) (ya_x A) (ya_y A) (ya_w A) (yb_o B) (yb_x B) (yb_y B) (yb_z B) (yv_s V) (yv_n V) (yt_z T) (yt_k T) (yt_s T) (yt_n T) (yt_t T) (s) (yv_o V) (yk_w K) (yk_g K) (yk_s K) (yk_n K) (yl_a L) (yl_t L) (yl_l L))) →
        ∃ s', (b1_ s → b1_ s') ∧ (∀ t, t < 24 → s t ≠ 0 → s' t ≠ 0) ∧ (∀ Q : Nat → Prop, (∀ t t', Q t → ey_ T t t' → Q t') → (∀ t, t < 24 → s t ≠ 0 → Q t) → ∀ t, t < 24 → s' t ≠ 0 → Q t) ∧
          (∀ t z j, k ≤ 6 * t + j → t < 24 → s t ≠ 0 → yt_z T t = nI z → z ≤ 6 → j < z → yt_s T (6 * t + j) = 2 → ∃ t', yt_n T (6 * t + j) = nI t' ∧ t' < 24 ∧ s' t' ≠ 0) ∧
          ∀ (post : Int32 → SY → Prop) (n x1 : Nat), (wY_reach_59 post (ya_n A) (yb_n B) (yv_h V) (yk_d K) (yk_t K) (yk_f K) (yl_n L) n (nI (x1 + 1)) (ya_k A) (ya_x A) (ya_y A) (ya_w A) (yb_o B) (yb_x B) (yb_y B) (yb_z B) (yv_s V) (yv_n V) (yt_z T) (yt_k T) (yt_s T) (yt_n T) (yt_t T) (s') (yv_o V) (yk_w K) (yk_g K) (yk_s K) (yk_n K) (yl_a L) (yl_t L) (yl_l L)) → (wY_reach_67 post (wY_reach_59 post (ya_n A) (yb_n B) (yv_h V) (yk_d K) (yk_t K) (yk_f K) (yl_n L) n) (nI x1) (ya_n A) (yb_n B) (yv_h V) (yk_d K) (yk_t K) (yk_f K) (yl_n L) (d + 1 + 1) (nI k) (ya_k A) (ya_x A) (ya_y A) (ya_w A) (yb_o B) (yb_x B) (yb_y B) (yb_z B) (yv_s V) (yv_n V) (yt_z T) (yt_k T) (yt_s T) (yt_n T) (yt_t T) (s) (yv_o V) (yk_w K) (yk_g K) (yk_s K) (yk_n K) (yl_a L) (yl_t L) (yl_l L)) := by
      intro hno hw
      obtain ⟨s', p0, p1, p2, p3, hk⟩ := ih (k + 1) s (by omega) hD
      refine ⟨s', p0, p1, p2, fun t z j h1 h2 h3 h4 h5 h6 h7 => ?_, fun post n x1 h => hw post n x1 (hk post n x1 h)⟩
      by_cases c : 6 * t + j = k
      · have et : t = k / 6 := by omega
        have ej : j = k % 6 := by omega
        rw [c] at h7
        rw [et] at h3 h4
        rw [ej] at h6
        exact absurd h7 (hno h3 z h4 h5 h6)
      · exact p3 t z j (by omega) h2 h3 h4 h5 h6 h7
    by_cases c : s (k / 6) = 0
    · refine skip (fun w => absurd c w) (fun post n x1 h => ?_)
      refine br_f (nI_ge (b := 144) (by omega) (by decide)) ⟨by decide, pk_in (k / 6) 24 (by omega) e6, br_t ((ix_ev e6).trans c) (nm_r (nI_1 k) h)⟩
    · obtain ⟨_, z, z6, hz, hj⟩ := gd _ (hD _ (by omega) c)
      by_cases lt : k % 6 < z
      · by_cases s2 : yt_s T k = 2
        · obtain ⟨t', et, dt⟩ := hj (k % 6) lt (by rw [hk6]; exact s2)
          rw [hk6] at et
          have t24 := (gd _ dt).1
          obtain ⟨s', p0, p1, p2, p3, hk⟩ := ih (k + 1) (upd s t' 1) (by omega) (by
            intro t ht h
            rcases yq_u.mp h with a | a
            · exact hD t ht a
            · rw [a]; exact dt)
          refine ⟨s', fun w => p0 (b1_u w), fun t ht h => p1 t ht (yq_u.mpr (Or.inl h)), fun Q cQ a => p2 Q cQ ?_, fun t z' j h1 h2 h3 h4 h5 h6 h7 => ?_, fun post n x1 h => ?_⟩
          · intro t ht h
            rcases yq_u.mp h with b | b
            · exact a t ht b
            · rw [b]
              exact cQ (k / 6) t' (a _ (by omega) c) ⟨by omega, z, k % 6, z6, hz, lt, by rw [hk6]; exact s2, by rw [hk6]; exact et, t24⟩
          · by_cases c2 : 6 * t + j = k
            · exact ⟨t', by rw [c2]; exact et, t24, p1 t' t24 (yq_u.mpr (Or.inr rfl))⟩
            · exact p3 t z' j (by omega) h2 (yq_u.mpr (Or.inl h3)) h4 h5 h6 h7
          · refine br_f (nI_ge (b := 144) (by omega) (by decide)) ⟨by decide, pk_in (k / 6) 24 (by omega) e6, br_f (fun w => c ((ix_ev e6).symm.trans w)) ⟨by decide, by decide, pk_in (k / 6) 24 (by omega) e6, br_f ?_ ⟨by_in (by omega), br_t (ix_rd s2) ⟨by_in (by omega), ?_⟩⟩⟩⟩
            · rw [r6, ix_ev (a := yt_z T) e6, hz]
              exact nI_ge lt (by omega)
            · refine ix_st t' 24 1 t24 ?_ ((ix_ev rfl).trans et)
              exact nm_r (nI_1 k) (hk post n x1 h)
        · refine skip (fun _ _ _ _ _ => s2) (fun post n x1 h => ?_)
          refine br_f (nI_ge (b := 144) (by omega) (by decide)) ⟨by decide, pk_in (k / 6) 24 (by omega) e6, br_f (fun w => c ((ix_ev e6).symm.trans w)) ⟨by decide, by decide, pk_in (k / 6) 24 (by omega) e6, br_f ?_ ⟨by_in (by omega), br_f (ix_rn s2) (nm_r (nI_1 k) h)⟩⟩⟩
          rw [r6, ix_ev (a := yt_z T) e6, hz]
          exact nI_ge lt (by omega)
      · refine skip (fun _ z' hz' z6' lt' => by
          have : z = z' := (nI_eq (by omega) (by omega)).mp (hz.symm.trans hz')
          omega) (fun post n x1 h => ?_)
        refine br_f (nI_ge (b := 144) (by omega) (by decide)) ⟨by decide, pk_in (k / 6) 24 (by omega) e6, br_f (fun w => c ((ix_ev e6).symm.trans w)) ⟨by decide, by decide, pk_in (k / 6) 24 (by omega) e6, br_t ?_ (nm_r (nI_1 k) h)⟩⟩
        rw [r6, ix_ev (a := yt_z T) e6, hz]
        exact nI_le (by omega) (by omega)
theorem yq_140 {post : Int32 → SY → Prop} (h : post (nI (yq_c (yt_e T))) (yk A B V T K L)) : ∀ (d i : Nat), i + d = 24 → (wY_reach_140 post (ya_n A) (yb_n B) (yv_h V) (yk_d K) (yk_t K) (yk_f K) (yl_n L) (ya_k A) (ya_x A) (ya_y A) (ya_w A) (yb_o B) (yb_x B) (yb_y B) (yb_z B) (yv_s V) (yv_n V) (yt_z T) (yt_k T) (yt_s T) (yt_n T) (yt_t T) (yt_e T) (yv_o V) (yk_w K) (yk_g K) (yk_s K) (yk_n K) (yl_a L) (yl_t L) (yl_l L) (d + 1) (nI (kc_n (fun t => decide (yt_e T t ≠ 0)) i)) (nI i)) := by
  intro d
  induction d with
  | zero =>
    intro i hi
    have e : i = 24 := by omega
    subst e
    exact br_t (Int32.le_refl _) h
  | succ d ih =>
    intro i hi
    have ih := ih (i + 1) (by omega)
    refine br_f (nI_ge (b := 24) (by omega) (by decide)) ⟨by_in (by omega), ?_⟩
    by_cases z : yt_e T i = 0
    · refine br_t (ix_rd z) (nm_r (nI_1 i) ?_)
      rw [show kc_n (fun t => decide (yt_e T t ≠ 0)) (i + 1) = kc_n (fun t => decide (yt_e T t ≠ 0)) i from by simp [kc_n, z]] at ih
      exact ih
    · refine br_f (ix_rn z) (nm_r (nI_1 _) (nm_r (nI_1 i) ?_))
      rw [show kc_n (fun t => decide (yt_e T t ≠ 0)) (i + 1) = kc_n (fun t => decide (yt_e T t ≠ 0)) i + 1 from by simp [kc_n, z]] at ih
      exact ih
/-- rounds -/
theorem yq_59 {D : Nat → Prop} (gd : gy_ T D) : ∀ (d r : Nat) (s : Nat → Int32), r + d = 24 → (∀ t, t < 24 → s t ≠ 0 → D t) → (yq_cl T s ∨ r + 1 ≤ yq_c s) →
    ∃ s', (b1_ s → b1_ s') ∧ (∀ t, t < 24 → s t ≠ 0 → s' t ≠ 0) ∧ (∀ Q : Nat → Prop, (∀ t t', Q t → ey_ T t t' → Q t') → (∀ t, t < 24 → s t ≠ 0 → Q t) → ∀ t, t < 24 → s' t ≠ 0 → Q t) ∧ yq_cl T s' ∧
      ∀ (post : Int32 → SY → Prop), post (nI (yq_c s')) (yk A B V (yt_sn T s') K L) → (wY_reach_59 post (ya_n A) (yb_n B) (yv_h V) (yk_d K) (yk_t K) (yk_f K) (yl_n L) (d + 1) (nI r) (ya_k A) (ya_x A) (ya_y A) (ya_w A) (yb_o B) (yb_x B) (yb_y B) (yb_z B) (yv_s V) (yv_n V) (yt_z T) (yt_k T) (yt_s T) (yt_n T) (yt_t T) (s) (yv_o V) (yk_w K) (yk_g K) (yk_s K) (yk_n K) (yl_a L) (yl_t L) (yl_l L)) := by
  intro d
  induction d with
  | zero =>
    intro r s hd hD hc
    have e : r = 24 := by omega
    subst e
    have hc : yq_cl T s := by
      rcases hc with c | c
      · exact c
      · have := kc_le (fun t => decide (s t ≠ 0)) 24
        unfold yq_c at c
        omega
    refine ⟨s, id, fun _ _ h => h, fun Q _ a t ht h => a t ht h, hc, fun post h => ?_⟩
    exact br_t (Int32.le_refl _) ⟨25, yq_140 (T := yt_sn T s) h 24 0 (by omega)⟩
  | succ d ih =>
    intro r s hd hD hc
    obtain ⟨s1, p0, p1, p2, p3, hk⟩ := yq_67 (A := A) (B := B) (V := V) (K := K) (L := L) gd 144 0 s (by omega) hD
    have cD : ∀ t t', D t → ey_ T t t' → D t' := by
      intro t t' dt et
      obtain ⟨_, z, j, z6, hz, hj, es, en, h24⟩ := et
      obtain ⟨_, z', z6', hz', hj'⟩ := gd t dt
      have : z = z' := (nI_eq (by omega) (by omega)).mp (hz.symm.trans hz')
      subst this
      obtain ⟨t2, e2, d2⟩ := hj' j hj es
      have : t' = t2 := (nI_eq (by omega) (by have := (gd t2 d2).1; omega)).mp (en.symm.trans e2)
      rw [this]; exact d2
    have pass : ∀ t t', t < 24 → s t ≠ 0 → ey_ T t t' → s1 t' ≠ 0 := by
      intro t t' ht hs et
      obtain ⟨_, z, j, z6, hz, hj, es, en, h24⟩ := et
      obtain ⟨t2, e2, h2, n2⟩ := p3 t z j (by omega) ht hs hz z6 hj es
      have : t' = t2 := (nI_eq (by omega) (by omega)).mp (en.symm.trans e2)
      rw [this]; exact n2
    have hc1 : yq_cl T s1 ∨ (r + 1) + 1 ≤ yq_c s1 := by
      by_cases same : ∀ t, t < 24 → s1 t ≠ 0 → s t ≠ 0
      · exact Or.inl (fun t t' ht hs et => pass t t' ht (same t ht hs) et)
      · rcases hc with c | c
        · exact absurd (fun t ht h => (p2 (fun t => t < 24 ∧ s t ≠ 0) (fun t t' q e => ⟨e.2.choose_spec.choose_spec.2.2.2.2.2, c t t' q.1 q.2 e⟩) (fun t ht h => ⟨ht, h⟩) t ht h).2) same
        · refine Or.inr ?_
          have : ∃ t, t < 24 ∧ s t = 0 ∧ s1 t ≠ 0 := by
            apply Classical.byContradiction
            intro no
            apply same
            intro t ht h w
            exact no ⟨t, ht, w, h⟩
          obtain ⟨t, ht, h0, h1⟩ := this
          have := kc_lt (f := fun t => decide (s t ≠ 0)) (g := fun t => decide (s1 t ≠ 0)) (n := 24) (a := t) (fun j hj h => by
            simp only [decide_eq_true_eq] at h ⊢
            exact p1 j hj h) ht (by simp [h0]) (by simp [h1])
          unfold yq_c at c ⊢
          omega
    obtain ⟨s', q0, q1, q2, q3, q4⟩ := ih (r + 1) s1 (by omega) (p2 D cD hD) hc1
    refine ⟨s', fun w => q0 (p0 w), fun t ht h => q1 t ht (p1 t ht h), fun Q cQ a => q2 Q cQ (p2 Q cQ a), q3, fun post h => ?_⟩
    refine br_f (nI_ge (b := 24) (by omega) (by decide)) ⟨145, ?_⟩
    exact hk post (d + 1) r (q4 post h)
theorem yq_23 {D : Nat → Prop} (gd : gy_ T D) (hr : ∀ r, r < 6 → yv_s V r = 2 → ∃ t, yv_n V r = nI t ∧ D t) : ∀ (d r : Nat) (s : Nat → Int32), r + d = 6 → (∀ t, t < 24 → s t ≠ 0 → D t) →
    (∀ t, t < 24 → (s t ≠ 0 ↔ ∃ r', r' < r ∧ yv_s V r' = 2 ∧ yv_n V r' = nI t)) →
    ∃ s', (b1_ s → b1_ s') ∧ (∀ t, t < 24 → (s' t ≠ 0 ↔ cl_ (ry_ V) (ey_ T) t)) ∧
      ∀ (post : Int32 → SY → Prop), post (nI (yq_c s')) (yk A B V (yt_sn T s') K L) → (wY_reach_23 post (ya_n A) (yb_n B) (yv_h V) (yk_d K) (yk_t K) (yk_f K) (yl_n L) (d + 1) (nI r) (ya_k A) (ya_x A) (ya_y A) (ya_w A) (yb_o B) (yb_x B) (yb_y B) (yb_z B) (yv_s V) (yv_n V) (yt_z T) (yt_k T) (yt_s T) (yt_n T) (yt_t T) (s) (yv_o V) (yk_w K) (yk_g K) (yk_s K) (yk_n K) (yl_a L) (yl_t L) (yl_l L)) := by
  intro d
  induction d with
  | zero =>
    intro r s hd hD hf
    have e : r = 6 := by omega
    subst e
    have h0 : yq_cl T s ∨ 0 + 1 ≤ yq_c s := by
      by_cases z : yq_c s = 0
      · refine Or.inl (fun t t' ht h _ => ?_)
        have := kc_pos (f := fun t => decide (s t ≠ 0)) (n := 24) ht (by simp [h])
        unfold yq_c at z
        omega
      · exact Or.inr (by omega)
    obtain ⟨g, q0, q1, q2, q3, q4⟩ := yq_59 (A := A) (B := B) (V := V) (K := K) (L := L) gd 24 0 s (by omega) hD h0
    refine ⟨g, q0, fun t ht => ⟨fun h => ?_, fun h => ?_⟩, fun post h => ?_⟩
    · intro Q a b
      exact q2 Q b (fun t' ht' h' => a t' ⟨ht', (hf t' ht').mp h'⟩) t ht h
    · refine (h (fun t => t < 24 ∧ g t ≠ 0) (fun t' h' => ?_) (fun t1 t2 h1 h2 => ?_)).2
      · exact ⟨h'.1, q1 t' h'.1 ((hf t' h'.1).mpr h'.2)⟩
      · exact ⟨h2.2.choose_spec.choose_spec.2.2.2.2.2, q3 t1 t2 h1.1 h1.2 h2⟩
    · exact br_t (Int32.le_refl _) ⟨25, q4 post h⟩
  | succ d ih =>
    intro r s hd hD hf
    by_cases s2 : yv_s V r = 2
    · obtain ⟨t', et, dt⟩ := hr r (by omega) s2
      have t24 := (gd t' dt).1
      obtain ⟨g, q0, q1, q2⟩ := ih (r + 1) (upd s t' 1) (by omega) (by
          intro t ht h
          rcases yq_u.mp h with a | a
          · exact hD t ht a
          · rw [a]; exact dt) (by
          intro t ht
          rw [yq_u]
          constructor
          · rintro (a | a)
            · obtain ⟨r', h1, h2⟩ := (hf t ht).mp a
              exact ⟨r', by omega, h2⟩
            · exact ⟨r, by omega, s2, by rw [a]; exact et⟩
          · rintro ⟨r', h1, h2, h3⟩
            by_cases e : r' = r
            · rw [e, et] at h3
              exact Or.inr ((nI_eq (by omega) (by omega)).mp h3).symm
            · exact Or.inl ((hf t ht).mpr ⟨r', by omega, h2, h3⟩))
      refine ⟨g, fun w => q0 (b1_u w), q1, fun post h => ?_⟩
      refine br_f (nI_ge (b := 6) (by omega) (by decide)) ⟨by_in (by omega), br_t (ix_rd s2) ⟨by_in (by omega), ?_⟩⟩
      refine ix_st t' 24 1 t24 ?_ ((ix_ev rfl).trans et)
      exact nm_r (nI_1 r) (q2 post h)
    · obtain ⟨g, q0, q1, q2⟩ := ih (r + 1) s (by omega) hD (by
          intro t ht
          constructor
          · intro h
            obtain ⟨r', h1, h2⟩ := (hf t ht).mp h
            exact ⟨r', by omega, h2⟩
          · rintro ⟨r', h1, h2, h3⟩
            by_cases e : r' = r
            · rw [e] at h2; exact absurd h2 s2
            · exact (hf t ht).mpr ⟨r', by omega, h2, h3⟩)
      refine ⟨g, q0, q1, fun post h => ?_⟩
      refine br_f (nI_ge (b := 6) (by omega) (by decide)) ⟨by_in (by omega), br_f (ix_rn s2) ?_⟩
      exact nm_r (nI_1 r) (q2 post h)
theorem yq_reach {D : Nat → Prop} (gd : gy_ T D) (hr : ∀ r, r < 6 → yv_s V r = 2 → ∃ t, yv_n V r = nI t ∧ D t) :
    ∃ s, b1_ s ∧ (∀ t, t < 24 → (s t ≠ 0 ↔ cl_ (ry_ V) (ey_ T) t)) ∧ ∀ (post : Int32 → SY → Prop), post (nI (yq_c s)) (yk A B V (yt_sn T s) K L) → wpY_reach post (yk A B V T K L) := by
  have lp : ∀ (d i : Nat) (s : Nat → Int32), i + d = 24 → (∀ t, t < i → s t = 0) → ∃ s0, (∀ t, t < 24 → s0 t = 0) ∧ ∀ (post : Int32 → SY → Prop) (n : Nat), (wY_reach_23 post (ya_n A) (yb_n B) (yv_h V) (yk_d K) (yk_t K) (yk_f K) (yl_n L) n 0 (ya_k A) (ya_x A) (ya_y A) (ya_w A) (yb_o B) (yb_x B) (yb_y B) (yb_z B) (yv_s V) (yv_n V) (yt_z T) (yt_k T) (yt_s T) (yt_n T) (yt_t T) (s0) (yv_o V) (yk_w K) (yk_g K) (yk_s K) (yk_n K) (yl_a L) (yl_t L) (yl_l L)) → (wY_reach_2 post (ya_n A) (yb_n B) (yv_h V) (yk_d K) (yk_t K) (yk_f K) (yl_n L) (d + 1) (nI i) (ya_k A) (ya_x A) (ya_y A) (ya_w A) (yb_o B) (yb_x B) (yb_y B) (yb_z B) (yv_s V) (yv_n V) (yt_z T) (yt_k T) (yt_s T) (yt_n T) (yt_t T) (s) (yv_o V) (yk_w K) (yk_g K) (yk_s K) (yk_n K) (yl_a L) (yl_t L) (yl_l L)) := by
    intro d
    induction d with
    | zero =>
      intro i s hi hs
      have e : i = 24 := by omega
      subst e
      exact ⟨s, hs, fun post n h => br_t (Int32.le_refl _) ⟨n, h⟩⟩
    | succ d ih =>
      intro i s hi hs
      obtain ⟨s0, h1, h2⟩ := ih (i + 1) (upd s i 0) (by omega) (fun t ht => by
        by_cases e : t = i
        · subst e; exact pk_us
        · rw [pk_un e]; exact hs t (by omega))
      refine ⟨s0, h1, fun post n h => ?_⟩
      refine br_f (nI_ge (b := 24) (by omega) (by decide)) ?_
      refine ix_st i 24 0 (by omega) ?_
      exact nm_r (nI_1 i) (h2 post n h)
  obtain ⟨s0, h1, h2⟩ := lp 24 0 (yt_e T) (by omega) (fun t ht => by omega)
  obtain ⟨g, q0, q1, q2⟩ := yq_23 (A := A) (B := B) (K := K) (L := L) gd hr 6 0 s0 (by omega) (fun t ht h => absurd (h1 t ht) h) (by
    intro t ht
    constructor
    · intro h; exact absurd (h1 t ht) h
    · rintro ⟨r', h1, _⟩; omega)
  refine ⟨g, q0 (fun t ht => Or.inl (h1 t ht)), q1, fun post h => ⟨25, ?_⟩⟩
  exact h2 post 7 (q2 post h)
end
end
section
/-! a statement begins: the tables come to, on both sides -/
section
variable {β : Nat → Nat → Prop} {M : gx_M} {H : gx_H} {V : gy_V} {T : gy_T}
theorem rc_x (R : mr_ β M H V T) {x : Nat} (h : cl_ (rx_ M 6) (ex_ H) x) : ∃ y, β x y ∧ cl_ (ry_ V) (ey_ T) y := by
  refine h (fun x => ∃ y, β x y ∧ cl_ (ry_ V) (ey_ T) y) (fun t ht => ?_) (fun t t' ht he => ?_)
  · obtain ⟨t32, r, hr, s2, n2⟩ := ht
    have v := R.2.2.1 r hr
    obtain ⟨x1, y1, e1, e2, b⟩ := vr_t v s2
    have tc := R.2.1 x1 y1 b
    have ex : t = x1 := (nI_eq (by omega) (by have := tc.1; omega)).mp (n2.symm.trans e1)
    subst ex
    exact ⟨y1, b, cl_r ⟨tc.2.1, r, hr, v.1.symm.trans s2, e2⟩⟩
  · obtain ⟨y, b, cy⟩ := ht
    obtain ⟨t32, j, hj, es, en, t'32⟩ := he
    obtain ⟨x', y', e1, b', l1, l2⟩ := mr_ex R b hj es
    have tc := R.2.1 _ _ b
    have tc' := R.2.1 _ _ b'
    have ex : t' = x' := (nI_eq (by omega) (by have := tc'.1; omega)).mp (en.symm.trans e1)
    subst ex
    obtain ⟨z, z6, hz, _, _⟩ := tc.2.2.2.2.1
    rcases yf_l_cases hz tc.2.1 z6 (xh_k H (8 * t + j)) with ⟨i, hi, _, _, l, _⟩ | ⟨_, l, _⟩
    · rw [l] at l1 l2
      exact ⟨y', b', cl_s cy ⟨tc.2.1, z, i, z6, hz, hi, l1, l2, tc'.2.1⟩⟩
    · rw [l] at l1
      exact absurd l1 (by decide)
theorem rc_y (R : mr_ β M H V T) {y : Nat} (h : cl_ (ry_ V) (ey_ T) y) : ∃ x, β x y ∧ cl_ (rx_ M 6) (ex_ H) x := by
  refine h (fun y => ∃ x, β x y ∧ cl_ (rx_ M 6) (ex_ H) x) (fun t ht => ?_) (fun t t' ht he => ?_)
  · obtain ⟨t24, r, hr, s2, n2⟩ := ht
    have v := R.2.2.1 r hr
    obtain ⟨x1, y1, e1, e2, b⟩ := vr_t v (v.1.trans s2)
    have tc := R.2.1 x1 y1 b
    have ey : t = y1 := (nI_eq (by omega) (by have := tc.2.1; omega)).mp (n2.symm.trans e2)
    subst ey
    exact ⟨x1, b, cl_r ⟨tc.1, r, hr, v.1.trans s2, e1⟩⟩
  · obtain ⟨x, b, cx⟩ := ht
    obtain ⟨t24, z, j, z6, hz, hj, es, en, t'24⟩ := he
    have tc := R.2.1 _ _ b
    obtain ⟨z', z6', hz', hh⟩ := mr_ye R b
    have ez : z = z' := (nI_eq (by omega) (by omega)).mp (hz.symm.trans hz')
    subst ez
    have v := (hh j hj).2
    obtain ⟨x', y', e1, e2, b'⟩ := vr_t v (v.1.trans es)
    have tc' := R.2.1 _ _ b'
    have ey : t' = y' := (nI_eq (by omega) (by have := tc'.2.1; omega)).mp (en.symm.trans e2)
    subst ey
    refine ⟨x', b', cl_s cx ⟨tc.1, ?_⟩⟩
    have sx := v.1.trans es
    rcases hs_l_cases (xh_s H) (xh_k H) (xh_n H) (8 * x) (yt_k T (6 * t + j)) with ⟨i, hi, _, _, l⟩ | ⟨_, l⟩
    · rw [l] at sx e1
      exact ⟨i, hi, sx, e1, tc'.1⟩
    · rw [l] at sx
      exact absurd sx (by decide)
theorem rc_cnt (R : mr_ β M H V T) {f : Int32} {s : Nat → Int32} (hf : ∀ t, t < 32 → (bt f t = true ↔ cl_ (rx_ M 6) (ex_ H) t)) (hs : ∀ t, t < 24 → (s t ≠ 0 ↔ cl_ (ry_ V) (ey_ T) t)) : kc_n (bt f) 32 = yq_c s := by
  refine Nat.le_antisymm ?_ ?_
  · refine kc_inj β (fun i i' j h h' => (R.1 i j i' j h h').mpr rfl) _ _ _ _ (fun i hi h => ?_)
    obtain ⟨y, b, c⟩ := rc_x R ((hf i hi).mp h)
    have y24 := (R.2.1 _ _ b).2.1
    exact ⟨y, y24, by simpa using (hs y y24).mpr c, b⟩
  · refine kc_inj (fun y x => β x y) (fun i i' j h h' => (R.1 j i j i' h h').mp rfl) _ _ _ _ (fun i hi h => ?_)
    obtain ⟨x, b, c⟩ := rc_y R ((hs i hi).mp (by simpa using h))
    have x32 := (R.2.1 _ _ b).1
    exact ⟨x, x32, (hf x x32).mpr c, b⟩
theorem rc_gy (R : mr_ β M H V T) : gy_ T (fun y => ∃ x, β x y) := by
  rintro y ⟨x, b⟩
  obtain ⟨z, z6, hz, hh⟩ := mr_ye R b
  refine ⟨(R.2.1 _ _ b).2.1, z, z6, hz, fun j hj es => ?_⟩
  have v := (hh j hj).2
  obtain ⟨x', y', _, e2, b'⟩ := vr_t v (v.1.trans es)
  exact ⟨y', e2, x', b'⟩
theorem rc_vy (R : mr_ β M H V T) {r : Nat} (hr : r < 6) (h : yv_s V r = 2) : ∃ t, yv_n V r = nI t ∧ ∃ x, β x t := by
  have v := R.2.2.1 r hr
  obtain ⟨x, y, _, e2, b⟩ := vr_t v (v.1.trans h)
  exact ⟨y, e2, x, b⟩
theorem bg_yg (R : mr_ β M H V T) {s : Nat → Int32} (hs : ∀ t, t < 24 → (s t ≠ 0 ↔ cl_ (ry_ V) (ey_ T) t)) (tk : ∀ t, t < 24 → yt_t T t = s t) : yg_ V T ∧ yg_c T = yq_c s := by
  have tk' : ∀ t, t < 24 → (yt_t T t ≠ 0 ↔ cl_ (ry_ V) (ey_ T) t) := fun t ht => by rw [tk t ht]; exact hs t ht
  refine ⟨⟨fun r hr => ?_, fun t ht k => ?_⟩, ?_⟩
  · have v := R.2.2.1 r hr
    have vs := vr_s v
    rw [v.1] at vs
    rcases vs with z | z | z
    · exact Or.inl z
    · exact Or.inr (Or.inl z)
    · obtain ⟨t, e, x, b⟩ := rc_vy R hr z
      have t24 := (R.2.1 _ _ b).2.1
      exact Or.inr (Or.inr ⟨z, t, t24, e, (tk' t t24).mpr (cl_r ⟨t24, r, hr, z, e⟩)⟩)
  · have c := (tk' t ht).mp k
    obtain ⟨x, b, _⟩ := rc_y R c
    obtain ⟨z, z6, hz, hh⟩ := mr_ye R b
    refine ⟨z, z6, hz, fun j hj => ⟨(hh j hj).1, ?_⟩⟩
    have v := (hh j hj).2
    have vs := vr_s v
    rw [v.1] at vs
    rcases vs with w | w | w
    · exact Or.inl w
    · exact Or.inr (Or.inl w)
    · obtain ⟨x', y', _, e2, b'⟩ := vr_t v (v.1.trans w)
      have t24 := (R.2.1 _ _ b').2.1
      exact Or.inr (Or.inr ⟨w, y', t24, e2, (tk' y' t24).mpr (cl_s c ⟨ht, z, j, z6, hz, hj, w, e2, t24⟩)⟩)
  · exact kc_congr (fun t ht => by rw [tk t ht])
/-- the registers behind the variables are clear -/
def mc_ (M : gx_M) : Prop := ∀ r, 6 ≤ r → r < 18 → xm_s M r = 0 ∧ xm_n M r = 0
theorem bg_P (R : mr_ β M H V T) (hc : mc_ M) {s : Nat → Int32} (hs : ∀ t, t < 24 → (s t ≠ 0 ↔ cl_ (ry_ V) (ey_ T) t)) (tk : ∀ t, t < 24 → yt_t T t = s t) (r : Int32) :
    ∃ β', mr_ β' M (xh_rc H r) V T ∧ mt_ β' T := by
  refine ⟨fun x y => β x y ∧ cl_ (rx_ M 6) (ex_ H) x, ?_, ?_⟩
  · refine mr_P (P := cl_ (rx_ M 6) (ex_ H)) (u := xh_u H) (r := r) R (fun t t' a b => cl_s a b) (fun t a => ?_) (fun x y h _ => (R.2.1 x y h).2.2.1)
    obtain ⟨t32, q, hq, s2, n2⟩ := a
    by_cases q6 : q < 6
    · exact cl_r ⟨t32, q, q6, s2, n2⟩
    · have := (hc q (by omega) hq).1
      rw [this] at s2
      exact absurd s2 (by decide)
  · rintro x y ⟨b, c⟩
    have y24 := (R.2.1 _ _ b).2.1
    obtain ⟨y', b', c'⟩ := rc_x R c
    have : y = y' := (R.1 _ _ _ _ b b').mp rfl
    subst this
    rw [tk y y24]
    exact (hs y y24).mpr c'
/-- what is clear does no harm -/
theorem mr_clear {M' : gx_M} {i : Int32} (R : mr_ β M H V T) (h : xb_ (xm_cu M i) M' 6 18) : mr_ β M' H V T ∧ mc_ M' := by
  obtain ⟨_, _, _, _, _, h6, h7⟩ := h
  refine ⟨⟨R.1, R.2.1, fun r hr => ?_, fun r hr => ?_⟩, h6⟩
  · have e := h7 r (Or.inl hr)
    rw [e.1, e.2]
    exact R.2.2.1 r hr
  · by_cases r6 : r < 6
    · have e := h7 r (Or.inl r6)
      rw [e.1, e.2]
      exact R.2.2.2 r hr
    · have e := h6 r (by omega) hr
      rw [e.1, e.2]
      exact ⟨0, 0, vr_0 0⟩
end
end
section
/-! the component: an entry is put or taken away -/
section
variable {E : gx_E} {S : gx_S} {C : gx_C} {W : gx_W} {O : gx_O} {M : gx_M} {H : gx_H}
theorem xr_d7 : ∀ a, a < 8 → ∀ b, b < 8 → (nI a - nI b) &&& 7 = nI (hs_d b a) := by decide +kernel
def xh_w (H : gx_H) (ky es en ec : Nat → Int32) : gx_H := (xh_u H, xh_r H, ky, es, en, ec)
theorem xr_loop {t p z : Nat} {es0 ky0 nm0 : Nat → Int32} (ht : t < 32) (o : hs_ok es0 ky0 nm0 (8 * t)) (hp : p < 8) (hop : es0 (8 * t + p) ≠ 0) (hz : z < 8) (hz0 : es0 (8 * t + z) = 0)
    (hv : ∀ j, j < 8 → es0 (8 * t + j) = 0 ∨ es0 (8 * t + j) = 1 ∨ es0 (8 * t + j) = 2) : ∀ (d k hole slot : Nat) (es ky nm : Nat → Int32), hs_R es0 ky0 nm0 (8 * t) p z es ky nm hole slot → hs_d slot z = d + 1 → k + d < 8 →
    ∃ es' ky' nm', (hs_ok es' ky' nm' (8 * t) ∧ (∀ k', hs_l es' ky' nm' (8 * t) k' = if k' = ky0 (8 * t + p) then (0, 0) else hs_l es0 ky0 nm0 (8 * t) k') ∧ hs_c es' (8 * t) + 1 = hs_c es0 (8 * t) ∧
      (∀ q, (q < 8 * t ∨ 8 * t + 8 ≤ q) → es' q = es0 q ∧ ky' q = ky0 q ∧ nm' q = nm0 q)) ∧
      ∀ post : SX → Prop, post (xk E S C W O M (xh_w H ky' es' nm' (xh_c H))) → (wX_removeEntry_24 post (nI t) (xe_n E) (xs_n S) (xc_f C) (xc_n C) (xo_n O) (xm_c M) (xm_h M) (xh_u H) (xh_r H) (d + 1) (nI hole) (nI slot) (nI k) (xe_k E) (xe_x E) (xe_y E) (xe_w E) (xe_s E) (xe_i E) (xe_a E) (xs_o S) (xs_x S) (xs_y S) (xs_z S) (xc_o C) (xc_a C) (xc_b C) (xc_c C) (xc_k C) (xw_n W) (xw_r W) (xw_p W) (xw_t W) (xo_e O) (xo_l O) (xo_p O) (xm_s M) (xm_n M) (xm_l M) (xm_m M) (xm_v M) (ky) (es) (nm) (xh_c H)) := by
  have ie : ∀ j, (8 : Int32) * nI t + nI j = nI (8 * t + j) := fun j => by
    show nI 8 * nI t + nI j = _
    rw [pk_mul, nI_add]
  intro d
  induction d with
  | zero =>
    intro k hole slot es ky nm R hd hk
    have hh := R.1.1
    have hsl := R.1.2.1
    have sl : nI slot + 1 &&& 7 = nI ((slot + 1) % 8) := by rw [nI_1]; exact pk_andN (by omega) (m := 7) 3 (by decide)
    have ez : (slot + 1) % 8 = z := by unfold hs_d at hd; omega
    have ef : es (8 * t + (slot + 1) % 8) = 0 := by rw [ez]; exact (R.2.2.1 z hz).mpr hz0
    refine ⟨_, _, _, hs_Re o hp hop R ef, fun post h => ?_⟩
    refine br_f (nI_ge (b := 8) (by omega) (by decide)) (nm_r sl (nm_r (ie _) (And.intro (by_in (by omega)) (br_t (ix_rd ef) ?_))))
    refine ix_st (8 * t + hole) 256 0 (by omega) ?_ (ie _) (by_v (n := 0) (by omega))
    refine ix_st (8 * t + hole) 256 0 (by omega) ?_ (ie _)
    exact h
  | succ d ih =>
    intro k hole slot es ky nm R hd hk
    have hh := R.1.1
    have hsl := R.1.2.1
    have sl : nI slot + 1 &&& 7 = nI ((slot + 1) % 8) := by rw [nI_1]; exact pk_andN (by omega) (m := 7) 3 (by decide)
    by_cases ef : es (8 * t + (slot + 1) % 8) = 0
    · refine ⟨_, _, _, hs_Re o hp hop R ef, fun post h => ?_⟩
      refine br_f (nI_ge (b := 8) (by omega) (by decide)) (nm_r sl (nm_r (ie _) (And.intro (by_in (by omega)) (br_t (ix_rd ef) ?_))))
      refine ix_st (8 * t + hole) 256 0 (by omega) ?_ (ie _) (by_v (n := 0) (by omega))
      refine ix_st (8 * t + hole) 256 0 (by omega) ?_ (ie _)
      exact h
    · have q := hs_Rs hz hz0 R ef
      have s8 : (slot + 1) % 8 < 8 := by omega
      have hl := hs_lt (ky (8 * t + (slot + 1) % 8))
      have slo := hs_slot (ky (8 * t + (slot + 1) % 8))
      by_cases mv : hs_d hole ((slot + 1) % 8) ≤ hs_d (hs_h (ky (8 * t + (slot + 1) % 8))) ((slot + 1) % 8)
      · have R1 := hs_Rm hz hz0 R ef mv
        obtain ⟨es', ky', nm', h1, h2⟩ := ih (k + 1) _ _ _ _ _ R1 (by omega) (by omega)
        refine ⟨es', ky', nm', h1, fun post h => ?_⟩
        have bs : es (8 * t + (slot + 1) % 8) = 0 ∨ es (8 * t + (slot + 1) % 8) = 1 ∨ es (8 * t + (slot + 1) % 8) = 2 := by
          obtain ⟨j', hj', _, e1, _⟩ := R.2.2.2.2.2.2.2.2.1 _ s8 q.1 ef
          rw [← e1]; exact hv j' hj'
        have bn : vp_nar .byte (es (8 * t + (slot + 1) % 8)) = es (8 * t + (slot + 1) % 8) := by
          rcases bs with b | b | b <;> rw [b]
          · exact by_v (n := 0) (by omega)
          · exact by_v (n := 1) (by omega)
          · exact by_v (n := 2) (by omega)
        refine br_f (nI_ge (b := 8) (by omega) (by decide)) (nm_r sl (nm_r (ie _) (And.intro (by_in (by omega)) (br_f (ix_rn ef) (And.intro (by_in (by omega)) ?_)))))
        rw [ix_ev (a := ky) (i := nI (8 * t + (slot + 1) % 8)) rfl]
        refine nm_r (e' := nI (hs_d (hs_h (ky (8 * t + (slot + 1) % 8))) ((slot + 1) % 8))) (by rw [slo, xr_d7 _ s8 _ hl]) ?_
        refine br_t (by rw [xr_d7 _ s8 _ hh]; exact nI_le mv (by have := hs_d8 (hs_h (ky (8 * t + (slot + 1) % 8))) ((slot + 1) % 8); omega)) (And.intro (by_in (by omega)) ?_)
        refine ix_st (8 * t + hole) 256 (ky (8 * t + (slot + 1) % 8)) (by omega) (And.intro (by_in (by omega)) ?_) (ie _)
        refine ix_st (8 * t + hole) 256 (es (8 * t + (slot + 1) % 8)) (by omega) (And.intro (by_in (by omega)) ?_) (ie _) (by rw [ix_ev (a := es) (i := nI (8 * t + (slot + 1) % 8)) rfl]; exact bn)
        refine ix_st (8 * t + hole) 256 (nm (8 * t + (slot + 1) % 8)) (by omega) ?_ (ie _) (ix_ev rfl)
        exact nm_r (nI_1 k) (h2 post h)
      · have R1 := hs_Rn hz hz0 R ef (by omega)
        obtain ⟨es', ky', nm', h1, h2⟩ := ih (k + 1) _ _ _ _ _ R1 (by omega) (by omega)
        refine ⟨es', ky', nm', h1, fun post h => ?_⟩
        refine br_f (nI_ge (b := 8) (by omega) (by decide)) (nm_r sl (nm_r (ie _) (And.intro (by_in (by omega)) (br_f (ix_rn ef) (And.intro (by_in (by omega)) ?_)))))
        rw [ix_ev (a := ky) (i := nI (8 * t + (slot + 1) % 8)) rfl]
        refine nm_r (e' := nI (hs_d (hs_h (ky (8 * t + (slot + 1) % 8))) ((slot + 1) % 8))) (by rw [slo, xr_d7 _ s8 _ hl]) ?_
        refine br_f (by rw [xr_d7 _ s8 _ hh]; exact nI_ge (by omega) (by have := hs_d8 hole ((slot + 1) % 8); omega)) ?_
        exact nm_r (nI_1 k) (h2 post h)
theorem xr_remove {t p c : Nat} (ht : t < 32) (o : hs_ok (xh_s H) (xh_k H) (xh_n H) (8 * t)) (hp : p < 8) (hop : xh_s H (8 * t + p) ≠ 0)
    (hv : ∀ j, j < 8 → xh_s H (8 * t + j) = 0 ∨ xh_s H (8 * t + j) = 1 ∨ xh_s H (8 * t + j) = 2) (hc : xh_c H t = nI c) (hc' : hs_c (xh_s H) (8 * t) = c) :
    ∃ es' ky' nm', (hs_ok es' ky' nm' (8 * t) ∧ (∀ k', hs_l es' ky' nm' (8 * t) k' = if k' = xh_k H (8 * t + p) then (0, 0) else hs_l (xh_s H) (xh_k H) (xh_n H) (8 * t) k') ∧ hs_c es' (8 * t) + 1 = c ∧
      (∀ q, (q < 8 * t ∨ 8 * t + 8 ≤ q) → es' q = xh_s H q ∧ ky' q = xh_k H q ∧ nm' q = xh_n H q)) ∧
      ∀ post : SX → Prop, post (xk E S C W O M (xh_w H ky' es' nm' (upd (xh_c H) t (nI (c - 1))))) → wpX_removeEntry post (xk E S C W O M H) (nI t) (nI (8 * t + p)) := by
  obtain ⟨z, hz, hz0⟩ := hs_freeEx o.2.2.2
  have R0 := hs_R0 o hp hz hop hz0
  have pz : p ≠ z := fun e => hop (by rw [e]; exact hz0)
  have c1 : 1 ≤ c := by
    rw [← hc']
    exact kc_pos (f := fun j => decide (xh_s H (8 * t + j) ≠ 0)) (n := 8) hp (by simp [hop])
  have c6 : c ≤ 6 := by rw [← hc']; exact o.2.2.2
  have d8 := hs_d8 p z
  obtain ⟨es', ky', nm', h1, h2⟩ := xr_loop (E := E) (S := S) (C := C) (W := W) (O := O) (M := M) (H := xh_w H (xh_k H) (xh_s H) (xh_n H) (upd (xh_c H) t (nI (c - 1)))) ht o hp hop hz hz0 hv (hs_d p z - 1) 0 p p _ _ _ R0 (by unfold hs_d at *; omega) (by omega)
  rw [hc'] at h1
  refine ⟨es', ky', nm', h1, fun post h => ?_⟩
  refine And.intro (by_in ht) ?_
  refine ix_st t 32 (nI (c - 1)) ht ?_ rfl ?_
  · refine nm_r (e' := nI p) ?_ ⟨_, h2 post h⟩
    show nI (8 * t + p) - nI 8 * nI t = nI p
    rw [pk_mul, pk_sub (by omega)]
    exact congrArg nI (by omega)
  · rw [ix_ev (a := xh_c H) (i := nI t) rfl, hc, show c = (c - 1) + 1 from by omega, nI_pred]
    exact by_n (by omega)
def pc_ (c : Nat) (l s : Int32) : Nat := if s = 0 then (if l = 0 then c else c - 1) else (if l = 0 then c + 1 else c)
/-- what a put leaves in the component's tables -/
def xp_R (H H' : gx_H) (t : Nat) (key s n : Int32) : Prop :=
  xh_u H' = xh_u H ∧ (∀ q, (q < 8 * t ∨ 8 * t + 8 ≤ q) → xh_s H' q = xh_s H q ∧ xh_k H' q = xh_k H q ∧ xh_n H' q = xh_n H q) ∧ (∀ q, q ≠ t → xh_c H' q = xh_c H q) ∧
  hs_ok (xh_s H') (xh_k H') (xh_n H') (8 * t) ∧ xh_c H' t = nI (hs_c (xh_s H') (8 * t)) ∧
  (∀ k', hs_l (xh_s H') (xh_k H') (xh_n H') (8 * t) k' = if k' = key then (s, if s = 0 then 0 else n) else hs_l (xh_s H) (xh_k H) (xh_n H) (8 * t) k') ∧
  hs_c (xh_s H') (8 * t) = pc_ (hs_c (xh_s H) (8 * t)) (hs_l (xh_s H) (xh_k H) (xh_n H) (8 * t) key).1 s
theorem xr_store {a b d t c : Nat} (ha : a < 18) (hb : b < 18) (hd : d < 18) (ht : t < 32) (s2 : xm_s M a = 2) (s1 : xm_s M b = 1) (hn : xm_n M a = nI t) (o : hs_ok (xh_s H) (xh_k H) (xh_n H) (8 * t))
    (hv : ∀ j, j < 8 → xh_s H (8 * t + j) = 0 ∨ xh_s H (8 * t + j) = 1 ∨ xh_s H (8 * t + j) = 2) (hc : xh_c H t = nI c) (hc' : hs_c (xh_s H) (8 * t) = c) (hsv : xm_s M d = 0 ∨ xm_s M d = 1 ∨ xm_s M d = 2) :
    (((hs_l (xh_s H) (xh_k H) (xh_n H) (8 * t) (xm_n M b)).1 = 0 ∧ xm_s M d ≠ 0 ∧ c = 6) → ∀ post : Int32 → SX → Prop, post 0 (xk E S C W O M H) → wpX_storeEntry post (xk E S C W O M H) (nI a) (nI b) (nI d)) ∧
    (¬ ((hs_l (xh_s H) (xh_k H) (xh_n H) (8 * t) (xm_n M b)).1 = 0 ∧ xm_s M d ≠ 0 ∧ c = 6) → ∃ H', xp_R H H' t (xm_n M b) (xm_s M d) (xm_n M d) ∧ ∀ post : Int32 → SX → Prop, post 1 (xk E S C W O M H') → wpX_storeEntry post (xk E S C W O M H) (nI a) (nI b) (nI d)) := by
  obtain ⟨i, hat⟩ := hs_place (ky := xh_k H) o.2.2.2 (xm_n M b)
  have hl := hs_found o hat
  have p8 : (hs_h (xm_n M b) + i) % 8 < 8 := by omega
  have c6 : c ≤ 6 := by rw [← hc']; exact o.2.2.2
  -- up to the place
  have pre : ∀ post : Int32 → SX → Prop, (wX_storeEntry_63 post (nI d) (nI t) (xm_n M b) (nI (8 * t + (hs_h (xm_n M b) + i) % 8)) (if xh_s H (8 * t + (hs_h (xm_n M b) + i) % 8) = 0 then 0 else 1) (xe_n E) (xs_n S) (xc_f C) (xc_n C) (xo_n O) (xm_c M) (xm_h M) (xh_u H) (xh_r H) (xe_k E) (xe_x E) (xe_y E) (xe_w E) (xe_s E) (xe_i E) (xe_a E) (xs_o S) (xs_x S) (xs_y S) (xs_z S) (xc_o C) (xc_a C) (xc_b C) (xc_c C) (xc_k C) (xw_n W) (xw_r W) (xw_p W) (xw_t W) (xo_e O) (xo_l O) (xo_p O) (xm_s M) (xm_n M) (xm_l M) (xm_m M) (xm_v M) (xh_k H) (xh_s H) (xh_n H) (xh_c H)) → wpX_storeEntry post (xk E S C W O M H) (nI a) (nI b) (nI d) := by
    intro post h
    refine And.intro (by_in ha) (br_t (ix_rd s2) ⟨by_in hb, br_t (ix_rd s1) ⟨by_in ha, nm_r ((ix_ev rfl).trans hn) ⟨by_in hb, nm_r (ix_ev rfl) ?_⟩⟩⟩)
    refine xp_place ht hat ?_
    refine ⟨by_in (by omega), ?_⟩
    by_cases z : xh_s H (8 * t + (hs_h (xm_n M b) + i) % 8) = 0
    · rw [if_pos z] at h
      exact br_t (ix_rd z) h
    · rw [if_neg z] at h
      exact br_f (ix_rn z) h
  have l1 : (hs_l (xh_s H) (xh_k H) (xh_n H) (8 * t) (xm_n M b)).1 = xh_s H (8 * t + (hs_h (xm_n M b) + i) % 8) := by rw [hl]
  have bd : vp_nar .byte (xm_s M d) = xm_s M d := by
    rcases hsv with w | w | w <;> rw [w]
    · exact by_v (n := 0) (by omega)
    · exact by_v (n := 1) (by omega)
    · exact by_v (n := 2) (by omega)
  refine ⟨?_, ?_⟩
  · rintro ⟨z, sd, e6⟩ post h
    rw [l1] at z
    refine pre post ?_
    rw [if_pos z]
    refine And.intro (by_in hd) (br_f (ix_rn sd) (br_t rfl ⟨by_in ht, br_t (ix_rd (by rw [hc, e6]; rfl)) h⟩))
  · intro hno
    by_cases sd : xm_s M d = 0
    · by_cases z : xh_s H (8 * t + (hs_h (xm_n M b) + i) % 8) = 0
      · refine ⟨H, ⟨rfl, fun _ _ => ⟨rfl, rfl, rfl⟩, fun _ _ => rfl, o, by rw [hc, hc'], fun k' => ?_, ?_⟩, fun post h => ?_⟩
        · by_cases e : k' = xm_n M b
          · rw [if_pos e, e, hl, sd, if_pos rfl, z, o.2.2.1 _ p8 z]
          · rw [if_neg e]
        · unfold pc_
          rw [if_pos sd, l1, if_pos z]
        · refine pre post ?_
          rw [if_pos z]
          exact And.intro (by_in hd) (br_t (ix_rd sd) (br_t rfl h))
      · have ek : xh_k H (8 * t + (hs_h (xm_n M b) + i) % 8) = xm_n M b := hat.2.1.resolve_left z
        obtain ⟨es', ky', nm', ⟨h1, h2, h3, h4⟩, h5⟩ := xr_remove (E := E) (S := S) (C := C) (W := W) (O := O) (M := M) ht o p8 z hv hc hc'
        refine ⟨xh_w H ky' es' nm' (upd (xh_c H) t (nI (c - 1))), ⟨rfl, h4, fun q hq => pk_un hq, h1, ?_, fun k' => ?_, ?_⟩, fun post h => ?_⟩
        · show upd (xh_c H) t (nI (c - 1)) t = nI (hs_c es' (8 * t))
          rw [pk_us]
          exact congrArg nI (by omega)
        · have := h2 k'
          rw [ek] at this
          rw [sd, if_pos rfl]
          exact this
        · unfold pc_
          rw [if_pos sd, l1, if_neg z]
          show hs_c es' (8 * t) = _
          omega
        · refine pre post ?_
          rw [if_neg z]
          refine And.intro (by_in hd) (br_t (ix_rd sd) (br_f (by decide) ?_))
          exact h5 _ h
    · have hcz : xh_s H (8 * t + (hs_h (xm_n M b) + i) % 8) = 0 → hs_c (xh_s H) (8 * t) < 6 := by
        intro z
        rw [hc']
        have : c ≠ 6 := fun w => hno ⟨by rw [l1]; exact z, sd, w⟩
        omega
      obtain ⟨q1, q2, q3⟩ := hs_store (n := xm_n M d) o hat sd hcz
      -- storing at the place
      have st : ∀ (post : Int32 → SX → Prop) (ec : Nat → Int32), post 1 (xk E S C W O M (xh_w H (upd (xh_k H) (8 * t + (hs_h (xm_n M b) + i) % 8) (xm_n M b)) (upd (xh_s H) (8 * t + (hs_h (xm_n M b) + i) % 8) (xm_s M d)) (upd (xh_n H) (8 * t + (hs_h (xm_n M b) + i) % 8) (xm_n M d)) ec)) →
          (wX_storeEntry_125 post (nI d) (xm_n M b) (nI (8 * t + (hs_h (xm_n M b) + i) % 8)) (xe_n E) (xs_n S) (xc_f C) (xc_n C) (xo_n O) (xm_c M) (xm_h M) (xh_u (xh_w H (xh_k H) (xh_s H) (xh_n H) ec)) (xh_r (xh_w H (xh_k H) (xh_s H) (xh_n H) ec)) (xe_k E) (xe_x E) (xe_y E) (xe_w E) (xe_s E) (xe_i E) (xe_a E) (xs_o S) (xs_x S) (xs_y S) (xs_z S) (xc_o C) (xc_a C) (xc_b C) (xc_c C) (xc_k C) (xw_n W) (xw_r W) (xw_p W) (xw_t W) (xo_e O) (xo_l O) (xo_p O) (xm_s M) (xm_n M) (xm_l M) (xm_m M) (xm_v M) (xh_k (xh_w H (xh_k H) (xh_s H) (xh_n H) ec)) (xh_s (xh_w H (xh_k H) (xh_s H) (xh_n H) ec)) (xh_n (xh_w H (xh_k H) (xh_s H) (xh_n H) ec)) (xh_c (xh_w H (xh_k H) (xh_s H) (xh_n H) ec))) := by
        intro post ec h
        refine ix_st (8 * t + (hs_h (xm_n M b) + i) % 8) 256 (xm_n M b) (by omega) (And.intro (by_in hd) ?_)
        refine ix_st (8 * t + (hs_h (xm_n M b) + i) % 8) 256 (xm_s M d) (by omega) (And.intro (by_in hd) ?_) rfl (by rw [ix_ev (a := xm_s M) (i := nI d) rfl]; exact bd)
        refine ix_st (8 * t + (hs_h (xm_n M b) + i) % 8) 256 (xm_n M d) (by omega) ?_ rfl (ix_ev rfl)
        exact h
      by_cases z : xh_s H (8 * t + (hs_h (xm_n M b) + i) % 8) = 0
      · rw [if_pos z] at q3
        have c5 := hcz z
        refine ⟨xh_w H (upd (xh_k H) (8 * t + (hs_h (xm_n M b) + i) % 8) (xm_n M b)) (upd (xh_s H) (8 * t + (hs_h (xm_n M b) + i) % 8) (xm_s M d)) (upd (xh_n H) (8 * t + (hs_h (xm_n M b) + i) % 8) (xm_n M d)) (upd (xh_c H) t (nI (c + 1))), ⟨rfl, fun q hq => ⟨pk_un (by omega), pk_un (by omega), pk_un (by omega)⟩, fun q hq => pk_un hq, q1, ?_, fun k' => ?_, ?_⟩, fun post h => ?_⟩
        · show upd (xh_c H) t (nI (c + 1)) t = nI (hs_c (upd (xh_s H) (8 * t + (hs_h (xm_n M b) + i) % 8) (xm_s M d)) (8 * t))
          rw [pk_us, q3, hc']
        · rw [if_neg sd]
          exact q2 k'
        · unfold pc_
          rw [if_neg sd, l1, if_pos z]
          exact q3
        · refine pre post ?_
          rw [if_pos z]
          refine And.intro (by_in hd) (br_f (ix_rn sd) (br_t rfl ⟨by_in ht, br_f ?_ (br_t rfl ⟨by_in ht, ?_⟩)⟩))
          · rw [ix_ev (a := xh_c H) (i := nI t) rfl, hc]
            exact fun w => absurd ((nI_eq (b := 6) (by omega) (by omega)).mp w) (by omega)
          · refine ix_st t 32 (nI (c + 1)) ht ?_ rfl (by rw [ix_ev (a := xh_c H) (i := nI t) rfl, hc, nI_1]; exact by_n (by omega))
            exact st post _ h
      · rw [if_neg z] at q3
        refine ⟨xh_w H (upd (xh_k H) (8 * t + (hs_h (xm_n M b) + i) % 8) (xm_n M b)) (upd (xh_s H) (8 * t + (hs_h (xm_n M b) + i) % 8) (xm_s M d)) (upd (xh_n H) (8 * t + (hs_h (xm_n M b) + i) % 8) (xm_n M d)) (xh_c H), ⟨rfl, fun q hq => ⟨pk_un (by omega), pk_un (by omega), pk_un (by omega)⟩, fun q hq => rfl, q1, ?_, fun k' => ?_, ?_⟩, fun post h => ?_⟩
        · show xh_c H t = nI (hs_c (upd (xh_s H) (8 * t + (hs_h (xm_n M b) + i) % 8) (xm_s M d)) (8 * t))
          rw [hc, q3, Nat.add_zero, hc']
        · rw [if_neg sd]
          exact q2 k'
        · unfold pc_
          rw [if_neg sd, l1, if_neg z]
          exact q3
        · refine pre post ?_
          rw [if_neg z]
          refine And.intro (by_in hd) (br_f (ix_rn sd) (br_f (by decide) (br_f (by decide) ?_)))
          exact st post _ h
end
end
section
/-! the reference: an entry is put or taken away -/
section
variable {A : gy_A} {B : gy_B} {V : gy_V} {T : gy_T} {K : gy_K} {L : gy_L}
theorem yl_pos {y z j : Nat} {k : Int32} (hz : yt_z T y = nI z) (hy : y < 24) (h6 : z ≤ 6) (hd : ∀ i j, i < z → j < z → yt_k T (6 * y + i) = yt_k T (6 * y + j) → i = j) (hj : j < z) (hk : yt_k T (6 * y + j) = k) : yf_l T y k = (yt_s T (6 * y + j), yt_n T (6 * y + j)) := by
  rw [← hk]
  exact yo_l hz hy h6 hd hj
theorem yl_neg {y z : Nat} {k : Int32} (hz : yt_z T y = nI z) (hy : y < 24) (h6 : z ≤ 6) (hn : ∀ j, j < z → yt_k T (6 * y + j) ≠ k) : yf_l T y k = (0, 0) := by
  rcases yf_l_cases hz hy h6 k with ⟨i, h1, h2, _⟩ | ⟨_, h, _⟩
  · exact absurd h2 (hn i h1)
  · exact h
/-- what a put leaves in the reference's tables -/
def yp_R (T T' : gy_T) (y z : Nat) (key s n : Int32) : Prop :=
  yt_t T' = yt_t T ∧ yt_e T' = yt_e T ∧ (∀ q, q ≠ y → yt_z T' q = yt_z T q) ∧ (∀ q, (q < 6 * y ∨ 6 * y + 6 ≤ q) → yt_k T' q = yt_k T q ∧ yt_s T' q = yt_s T q ∧ yt_n T' q = yt_n T q) ∧
  yo_ T' y ∧ (∀ k', yf_l T' y k' = if k' = key then (s, if s = 0 then 0 else n) else yf_l T y k') ∧ yt_z T' y = nI (pc_ z (yf_l T y key).1 s)
def yk_f1 (K : gy_K) : gy_K := (yk_d K, yk_t K, 1, yk_w K, yk_g K, yk_s K, yk_n K)
theorem yu_6 {f : Nat → Int32} {y j q : Nat} {x : Int32} : upd f (6 * y + j) x (6 * y + q) = if q = j then x else f (6 * y + q) := by
  unfold upd
  by_cases e : q = j
  · subst e; simp
  · rw [if_neg e, if_neg (by omega)]
theorem yp_put {y z : Nat} {key s n : Int32} (y24 : y < 24) (hz : yt_z T y = nI z) (z6 : z ≤ 6) (hs : ∀ j, j < z → yt_s T (6 * y + j) ≠ 0) (hd : ∀ i j, i < z → j < z → yt_k T (6 * y + i) = yt_k T (6 * y + j) → i = j)
    (k0 : yk_s K 0 = 2) (k0' : yk_n K 0 = nI y) (k1 : yk_s K 1 = 1) (k1' : yk_n K 1 = key) (k2 : yk_s K 2 = s) (k2' : yk_n K 2 = n) :
    ((yf_l T y key).1 = 0 ∧ s ≠ 0 ∧ z = 6 → ∀ post : SY → Prop, post (yk A B V T (yk_f1 K) L) → wpY_put post (yk A B V T K L)) ∧
    (¬ ((yf_l T y key).1 = 0 ∧ s ≠ 0 ∧ z = 6) → ∃ T', yp_R T T' y z key s n ∧ ∀ post : SY → Prop, post (yk A B V T' K L) → wpY_put post (yk A B V T K L)) := by
  have e6 : (6 : Int32) * nI y + yt_z T (nI y).toNatClampNeg = nI (6 * y + z) := by
    rw [ix_ev (a := yt_z T) (i := nI y) rfl, hz]
    show nI 6 * nI y + nI z = _
    rw [pk_mul, nI_add]
  subst k1' k2 k2'
  rcases yf_l_cases hz y24 z6 (yk_n K 1) with ⟨j, hj, kj, ef, el, _⟩ | ⟨ef, el, hno⟩
  · have sj := hs j hj
    have l1 : (yf_l T y (yk_n K 1)).1 ≠ 0 := by rw [el]; exact sj
    refine ⟨fun w => absurd w.1 l1, fun _ => ?_⟩
    by_cases sd : yk_s K 2 = 0
    · have ez : nI (6 * y + z) - 1 = nI (6 * y + (z - 1)) := by rw [show 6 * y + z = (6 * y + (z - 1)) + 1 from by omega, nI_pred]
      refine ⟨(upd (yt_z T) y (nI (z - 1)), upd (yt_k T) (6 * y + j) (yt_k T (6 * y + (z - 1))), upd (yt_s T) (6 * y + j) (yt_s T (6 * y + (z - 1))), upd (yt_n T) (6 * y + j) (yt_n T (6 * y + (z - 1))), yt_t T, yt_e T), ?_, fun post h => ?_⟩
      · have hz' : yt_z (upd (yt_z T) y (nI (z - 1)), upd (yt_k T) (6 * y + j) (yt_k T (6 * y + (z - 1))), upd (yt_s T) (6 * y + j) (yt_s T (6 * y + (z - 1))), upd (yt_n T) (6 * y + j) (yt_n T (6 * y + (z - 1))), yt_t T, yt_e T) y = nI (z - 1) := pk_us
        have ak : ∀ i, yt_k (upd (yt_z T) y (nI (z - 1)), upd (yt_k T) (6 * y + j) (yt_k T (6 * y + (z - 1))), upd (yt_s T) (6 * y + j) (yt_s T (6 * y + (z - 1))), upd (yt_n T) (6 * y + j) (yt_n T (6 * y + (z - 1))), yt_t T, yt_e T) (6 * y + i) = if i = j then yt_k T (6 * y + (z - 1)) else yt_k T (6 * y + i) := fun i => yu_6
        have as : ∀ i, yt_s (upd (yt_z T) y (nI (z - 1)), upd (yt_k T) (6 * y + j) (yt_k T (6 * y + (z - 1))), upd (yt_s T) (6 * y + j) (yt_s T (6 * y + (z - 1))), upd (yt_n T) (6 * y + j) (yt_n T (6 * y + (z - 1))), yt_t T, yt_e T) (6 * y + i) = if i = j then yt_s T (6 * y + (z - 1)) else yt_s T (6 * y + i) := fun i => yu_6
        have an : ∀ i, yt_n (upd (yt_z T) y (nI (z - 1)), upd (yt_k T) (6 * y + j) (yt_k T (6 * y + (z - 1))), upd (yt_s T) (6 * y + j) (yt_s T (6 * y + (z - 1))), upd (yt_n T) (6 * y + j) (yt_n T (6 * y + (z - 1))), yt_t T, yt_e T) (6 * y + i) = if i = j then yt_n T (6 * y + (z - 1)) else yt_n T (6 * y + i) := fun i => yu_6
        have oq : ∀ q, (q < 6 * y ∨ 6 * y + 6 ≤ q) → q ≠ 6 * y + j := fun q hq => by omega
        have A1 : yt_t (upd (yt_z T) y (nI (z - 1)), upd (yt_k T) (6 * y + j) (yt_k T (6 * y + (z - 1))), upd (yt_s T) (6 * y + j) (yt_s T (6 * y + (z - 1))), upd (yt_n T) (6 * y + j) (yt_n T (6 * y + (z - 1))), yt_t T, yt_e T) = yt_t T := rfl
        have A2 : yt_e (upd (yt_z T) y (nI (z - 1)), upd (yt_k T) (6 * y + j) (yt_k T (6 * y + (z - 1))), upd (yt_s T) (6 * y + j) (yt_s T (6 * y + (z - 1))), upd (yt_n T) (6 * y + j) (yt_n T (6 * y + (z - 1))), yt_t T, yt_e T) = yt_e T := rfl
        have A3 : ∀ q, q ≠ y → yt_z (upd (yt_z T) y (nI (z - 1)), upd (yt_k T) (6 * y + j) (yt_k T (6 * y + (z - 1))), upd (yt_s T) (6 * y + j) (yt_s T (6 * y + (z - 1))), upd (yt_n T) (6 * y + j) (yt_n T (6 * y + (z - 1))), yt_t T, yt_e T) q = yt_z T q := fun q hq => pk_un hq
        have A4 : ∀ q, (q < 6 * y ∨ 6 * y + 6 ≤ q) → yt_k (upd (yt_z T) y (nI (z - 1)), upd (yt_k T) (6 * y + j) (yt_k T (6 * y + (z - 1))), upd (yt_s T) (6 * y + j) (yt_s T (6 * y + (z - 1))), upd (yt_n T) (6 * y + j) (yt_n T (6 * y + (z - 1))), yt_t T, yt_e T) q = yt_k T q ∧ yt_s (upd (yt_z T) y (nI (z - 1)), upd (yt_k T) (6 * y + j) (yt_k T (6 * y + (z - 1))), upd (yt_s T) (6 * y + j) (yt_s T (6 * y + (z - 1))), upd (yt_n T) (6 * y + j) (yt_n T (6 * y + (z - 1))), yt_t T, yt_e T) q = yt_s T q ∧ yt_n (upd (yt_z T) y (nI (z - 1)), upd (yt_k T) (6 * y + j) (yt_k T (6 * y + (z - 1))), upd (yt_s T) (6 * y + j) (yt_s T (6 * y + (z - 1))), upd (yt_n T) (6 * y + j) (yt_n T (6 * y + (z - 1))), yt_t T, yt_e T) q = yt_n T q := fun q hq => ⟨pk_un (oq q hq), pk_un (oq q hq), pk_un (oq q hq)⟩
        generalize (upd (yt_z T) y (nI (z - 1)), upd (yt_k T) (6 * y + j) (yt_k T (6 * y + (z - 1))), upd (yt_s T) (6 * y + j) (yt_s T (6 * y + (z - 1))), upd (yt_n T) (6 * y + j) (yt_n T (6 * y + (z - 1))), yt_t T, yt_e T) = T1 at *
        have hd' : ∀ i i', i < z - 1 → i' < z - 1 → yt_k T1 (6 * y + i) = yt_k T1 (6 * y + i') → i = i' := by
          intro i i' hi hi' e
          rw [ak, ak] at e
          by_cases e1 : i = j
          · by_cases e2 : i' = j
            · omega
            · rw [if_pos e1, if_neg e2] at e
              have := hd (z - 1) i' (by omega) (by omega) e
              omega
          · by_cases e2 : i' = j
            · rw [if_neg e1, if_pos e2] at e
              have := hd i (z - 1) (by omega) (by omega) e
              omega
            · rw [if_neg e1, if_neg e2] at e
              exact hd i i' (by omega) (by omega) e
        refine ⟨A1, A2, A3, A4, ⟨z - 1, by omega, hz', fun i hi => ?_, hd'⟩, fun k' => ?_, ?_⟩
        · rw [as]
          by_cases e : i = j
          · rw [if_pos e]; exact hs _ (by omega)
          · rw [if_neg e]; exact hs _ (by omega)
        · by_cases e : k' = yk_n K 1
          · rw [if_pos e, sd, if_pos rfl]
            refine yl_neg hz' y24 (by omega) (fun i hi w => ?_)
            rw [ak] at w
            by_cases e1 : i = j
            · rw [if_pos e1, e] at w
              have := hd (z - 1) j (by omega) hj (w.trans kj.symm)
              omega
            · rw [if_neg e1, e] at w
              exact e1 (hd i j (by omega) hj (w.trans kj.symm))
          · rw [if_neg e]
            rcases yf_l_cases hz y24 z6 k' with ⟨i, hi, ki, _, li, _⟩ | ⟨_, li, hno⟩
            · have ij : i ≠ j := fun w => e (by rw [← ki, w]; exact kj)
              rw [li]
              by_cases last : i = z - 1
              · have := yl_pos (k := k') (j := j) hz' y24 (by omega) hd' (by omega) (by rw [ak, if_pos rfl, ← last]; exact ki)
                rw [this, as, an, if_pos rfl, if_pos rfl, last]
              · have := yl_pos (k := k') (j := i) hz' y24 (by omega) hd' (by omega) (by rw [ak, if_neg ij]; exact ki)
                rw [this, as, an, if_neg ij, if_neg ij]
            · rw [li]
              refine yl_neg hz' y24 (by omega) (fun i hi w => ?_)
              rw [ak] at w
              by_cases e1 : i = j
              · rw [if_pos e1] at w; exact hno _ (by omega) w
              · rw [if_neg e1] at w; exact hno _ (by omega) w
        · rw [hz']
          unfold pc_
          rw [if_pos sd, if_neg l1]
      · refine br_t k0 (br_t k1 (nm_r k0' ?_))
        refine ym_find y24 hz z6 ?_
        rw [ef]
        refine ⟨by_in y24, nm_r e6 (br_t sd (br_t (nI_pos' (by omega)) ⟨by_in y24, ?_⟩))⟩
        refine ix_st y 24 (nI (z - 1)) y24 ⟨pk_in (6 * y + (z - 1)) 144 (by omega) ez, ?_⟩ rfl (by rw [ix_ev (a := yt_z T) (i := nI y) rfl, hz, show z = (z - 1) + 1 from by omega, nI_pred]; rfl)
        refine ix_st (6 * y + j) 144 (yt_k T (6 * y + (z - 1))) (by omega) ⟨pk_in (6 * y + (z - 1)) 144 (by omega) ez, ?_⟩ rfl (ix_ev ez)
        refine ix_st (6 * y + j) 144 (yt_s T (6 * y + (z - 1))) (by omega) ⟨pk_in (6 * y + (z - 1)) 144 (by omega) ez, ?_⟩ rfl (ix_ev ez)
        refine ix_st (6 * y + j) 144 (yt_n T (6 * y + (z - 1))) (by omega) ?_ rfl (ix_ev ez)
        exact h
    · refine ⟨(yt_z T, upd (yt_k T) (6 * y + j) (yk_n K 1), upd (yt_s T) (6 * y + j) (yk_s K 2), upd (yt_n T) (6 * y + j) (yk_n K 2), yt_t T, yt_e T), ?_, fun post h => ?_⟩
      · have ak : ∀ i, upd (yt_k T) (6 * y + j) (yk_n K 1) (6 * y + i) = yt_k T (6 * y + i) := fun i => by
          rw [yu_6]
          by_cases e : i = j
          · rw [if_pos e, e]; exact kj.symm
          · rw [if_neg e]
        have hd' : ∀ i i', i < z → i' < z → upd (yt_k T) (6 * y + j) (yk_n K 1) (6 * y + i) = upd (yt_k T) (6 * y + j) (yk_n K 1) (6 * y + i') → i = i' := fun i i' hi hi' e => by
          rw [ak, ak] at e
          exact hd i i' hi hi' e
        refine ⟨rfl, rfl, fun q hq => rfl, fun q hq => ⟨pk_un (by omega), pk_un (by omega), pk_un (by omega)⟩, ⟨z, z6, hz, fun i hi => ?_, hd'⟩, fun k' => ?_, ?_⟩
        · show upd (yt_s T) (6 * y + j) (yk_s K 2) (6 * y + i) ≠ 0
          rw [yu_6]
          by_cases e : i = j
          · rw [if_pos e]; exact sd
          · rw [if_neg e]; exact hs i hi
        · by_cases e : k' = yk_n K 1
          · rw [if_pos e, if_neg sd]
            have := yl_pos (T := (yt_z T, upd (yt_k T) (6 * y + j) (yk_n K 1), upd (yt_s T) (6 * y + j) (yk_s K 2), upd (yt_n T) (6 * y + j) (yk_n K 2), yt_t T, yt_e T)) (k := k') (j := j) hz y24 z6 hd' hj (by rw [e]; exact pk_us)
            rw [this]
            exact congr (congrArg Prod.mk pk_us) pk_us
          · rw [if_neg e]
            rcases yf_l_cases hz y24 z6 k' with ⟨i, hi, ki, _, li, _⟩ | ⟨_, li, hno⟩
            · have ij : i ≠ j := fun w => e (by rw [← ki, w]; exact kj)
              rw [li]
              have := yl_pos (T := (yt_z T, upd (yt_k T) (6 * y + j) (yk_n K 1), upd (yt_s T) (6 * y + j) (yk_s K 2), upd (yt_n T) (6 * y + j) (yk_n K 2), yt_t T, yt_e T)) (k := k') (j := i) hz y24 z6 hd' hi ((ak i).trans ki)
              rw [this]
              exact congr (congrArg Prod.mk (pk_un (by omega))) (pk_un (by omega))
            · rw [li]
              exact yl_neg (T := (yt_z T, upd (yt_k T) (6 * y + j) (yk_n K 1), upd (yt_s T) (6 * y + j) (yk_s K 2), upd (yt_n T) (6 * y + j) (yk_n K 2), yt_t T, yt_e T)) hz y24 z6 (fun i hi w => hno i hi ((ak i).symm.trans w))
        · unfold pc_
          rw [if_neg sd, if_neg l1]
          exact hz
      · refine br_t k0 (br_t k1 (nm_r k0' ?_))
        refine ym_find y24 hz z6 ?_
        rw [ef]
        refine ⟨by_in y24, nm_r e6 (br_f sd (br_t (nI_pos' (by omega)) ?_))⟩
        refine br_t (nI_pos' (by omega)) ?_
        refine br_t (nI_pos' (by omega)) ?_
        refine ix_st (6 * y + j) 144 (yk_n K 1) (by omega) ?_
        refine ix_st (6 * y + j) 144 (yk_s K 2) (by omega) ?_
        refine ix_st (6 * y + j) 144 (yk_n K 2) (by omega) ?_
        exact h
  · have l1 : (yf_l T y (yk_n K 1)).1 = 0 := by rw [el]
    refine ⟨?_, fun hnf => ?_⟩
    · rintro ⟨_, sd, e6'⟩ post h
      refine br_t k0 (br_t k1 (nm_r k0' ?_))
      refine ym_find y24 hz z6 ?_
      rw [ef]
      refine ⟨by_in y24, nm_r e6 (br_f sd (br_f yf_neg1 ⟨by_in y24, br_t (ix_rd (by rw [hz, e6']; rfl)) ?_⟩))⟩
      exact h
    · by_cases sd : yk_s K 2 = 0
      · refine ⟨T, ⟨rfl, rfl, fun _ _ => rfl, fun _ _ => ⟨rfl, rfl, rfl⟩, ⟨z, z6, hz, hs, hd⟩, fun k' => ?_, ?_⟩, fun post h => ?_⟩
        · by_cases e : k' = yk_n K 1
          · rw [if_pos e, e, el, sd, if_pos rfl]
          · rw [if_neg e]
        · unfold pc_
          rw [if_pos sd, if_pos l1]
          exact hz
        · refine br_t k0 (br_t k1 (nm_r k0' ?_))
          refine ym_find y24 hz z6 ?_
          rw [ef]
          refine ⟨by_in y24, nm_r e6 (br_t sd (br_f yf_neg1 ?_))⟩
          exact h
      · have z5 : z < 6 := by
          have : z ≠ 6 := fun w => hnf ⟨l1, sd, w⟩
          omega
        refine ⟨(upd (yt_z T) y (nI (z + 1)), upd (yt_k T) (6 * y + z) (yk_n K 1), upd (yt_s T) (6 * y + z) (yk_s K 2), upd (yt_n T) (6 * y + z) (yk_n K 2), yt_t T, yt_e T), ?_, fun post h => ?_⟩
        · have hz' : yt_z (upd (yt_z T) y (nI (z + 1)), upd (yt_k T) (6 * y + z) (yk_n K 1), upd (yt_s T) (6 * y + z) (yk_s K 2), upd (yt_n T) (6 * y + z) (yk_n K 2), yt_t T, yt_e T) y = nI (z + 1) := pk_us
          have hd' : ∀ i i', i < z + 1 → i' < z + 1 → upd (yt_k T) (6 * y + z) (yk_n K 1) (6 * y + i) = upd (yt_k T) (6 * y + z) (yk_n K 1) (6 * y + i') → i = i' := fun i i' hi hi' e => by
            rw [yu_6, yu_6] at e
            by_cases e1 : i = z
            · by_cases e2 : i' = z
              · omega
              · rw [if_pos e1, if_neg e2] at e
                exact absurd e.symm (hno i' (by omega))
            · by_cases e2 : i' = z
              · rw [if_neg e1, if_pos e2] at e
                exact absurd e (hno i (by omega))
              · rw [if_neg e1, if_neg e2] at e
                exact hd i i' (by omega) (by omega) e
          refine ⟨rfl, rfl, fun q hq => pk_un hq, fun q hq => ⟨pk_un (by omega), pk_un (by omega), pk_un (by omega)⟩, ⟨z + 1, by omega, hz', fun i hi => ?_, hd'⟩, fun k' => ?_, ?_⟩
          · show upd (yt_s T) (6 * y + z) (yk_s K 2) (6 * y + i) ≠ 0
            rw [yu_6]
            by_cases e : i = z
            · rw [if_pos e]; exact sd
            · rw [if_neg e]; exact hs i (by omega)
          · by_cases e : k' = yk_n K 1
            · rw [if_pos e, if_neg sd]
              have := yl_pos (k := k') (j := z) hz' y24 (by omega) hd' (by omega) (by rw [e]; exact pk_us)
              rw [this]
              exact congr (congrArg Prod.mk pk_us) pk_us
            · rw [if_neg e]
              rcases yf_l_cases hz y24 z6 k' with ⟨i, hi, ki, _, li, _⟩ | ⟨_, li, hno'⟩
              · rw [li]
                have := yl_pos (k := k') (j := i) hz' y24 (by omega) hd' (by omega) ((pk_un (by omega)).trans ki)
                rw [this]
                exact congr (congrArg Prod.mk (pk_un (by omega))) (pk_un (by omega))
              · rw [li]
                refine yl_neg hz' y24 (by omega) (fun i hi w => ?_)
                by_cases e1 : i = z
                · rw [e1] at w
                  exact e (w.symm.trans pk_us)
                · exact hno' i (by omega) ((pk_un (by omega)).symm.trans w)
          · rw [hz']
            unfold pc_
            rw [if_neg sd, if_pos l1]
        · refine br_t k0 (br_t k1 (nm_r k0' ?_))
          refine ym_find y24 hz z6 ?_
          rw [ef]
          refine ⟨by_in y24, nm_r e6 (br_f sd (br_f yf_neg1 ⟨by_in y24, br_f (ix_rn (by rw [hz]; exact fun w => absurd ((nI_eq (b := 6) (by omega) (by omega)).mp w) (by omega))) ?_⟩))⟩
          refine br_f yf_neg1 ⟨by_in y24, ?_⟩
          refine ix_st y 24 (nI (z + 1)) y24 ?_ rfl (by rw [ix_ev (a := yt_z T) (i := nI y) rfl, hz, nI_1])
          refine br_f yf_neg1 ?_
          refine ix_st (6 * y + z) 144 (yk_n K 1) (by omega) ?_
          refine ix_st (6 * y + z) 144 (yk_s K 2) (by omega) ?_
          refine ix_st (6 * y + z) 144 (yk_n K 2) (by omega) ?_
          exact h
end
end
section
/-! a put, a show, loops: both sides -/
section
variable {β : Nat → Nat → Prop} {M : gx_M} {H : gx_H} {V : gy_V} {T : gy_T}
theorem yf_cg {T T' : gy_T} {y z : Nat} {k : Int32} (h1 : yt_z T' y = yt_z T y) (h2 : ∀ j, j < 6 → yt_k T' (6 * y + j) = yt_k T (6 * y + j) ∧ yt_s T' (6 * y + j) = yt_s T (6 * y + j) ∧ yt_n T' (6 * y + j) = yt_n T (6 * y + j)) (hz : yt_z T y = nI z) (y24 : y < 24) (z6 : z ≤ 6) (hd : ∀ i j, i < z → j < z → yt_k T (6 * y + i) = yt_k T (6 * y + j) → i = j) : yf_l T' y k = yf_l T y k := by
  have hz' := h1.trans hz
  have hd' : ∀ i j, i < z → j < z → yt_k T' (6 * y + i) = yt_k T' (6 * y + j) → i = j := fun i j hi hj e => by
    rw [(h2 i (by omega)).1, (h2 j (by omega)).1] at e
    exact hd i j hi hj e
  rcases yf_l_cases hz y24 z6 k with ⟨i, hi, ki, _, li, _⟩ | ⟨_, li, hno⟩
  · rw [li, yl_pos hz' y24 z6 hd' hi ((h2 i (by omega)).1.trans ki), (h2 i (by omega)).2.1, (h2 i (by omega)).2.2]
  · rw [li]
    exact yl_neg hz' y24 z6 (fun j hj w => hno j hj ((h2 j (by omega)).1.symm.trans w))
theorem mr_put {H' : gx_H} {T' : gy_T} {x y z : Nat} {key s n s' n' : Int32} (R : mr_ β M H V T) (b : β x y) (v : vr_ β s n s' n') (hz : yt_z T y = nI z) (z6 : z ≤ 6) (hx : xp_R H H' x key s n) (hy : yp_R T T' y z key s' n') : mr_ β M H' V T' := by
  obtain ⟨x1, x2, x3, x4, x5, x6, x7⟩ := hx
  obtain ⟨y1, y2, y3, y4, y5, y6, y7⟩ := hy
  refine ⟨R.1, fun a c h => ?_, R.2.2.1, R.2.2.2⟩
  obtain ⟨t1, t2, t3, t4, t5, t6, t7, t8⟩ := R.2.1 a c h
  by_cases e : a = x
  · have ec : c = y := (R.1 _ _ _ _ h b).mp e
    subst e ec
    have lk := t8 key
    have c6 := t4.2.2.2
    have cz : hs_c (xh_s H) (8 * a) = z := (nI_eq (by omega) (by omega)).mp (t7.trans hz)
    have pc : hs_c (xh_s H') (8 * a) = pc_ z (yf_l T c key).1 s' := by rw [x7, cz, lk.1, v.1]
    refine ⟨t1, t2, by rw [x1]; exact t3, x4, y5, ?_, ?_, fun k' => ?_⟩
    · rw [x5, y7, pc]
    · rw [y7, pc]
    · rw [x6 k', y6 k']
      by_cases ek : k' = key
      · rw [if_pos ek, if_pos ek]
        obtain ⟨vs, vv⟩ := v
        refine ⟨vs, ?_⟩
        rcases vv with ⟨a1, a2⟩ | ⟨a1, a2⟩ | ⟨a1, a2⟩
        · exact Or.inl ⟨a1, by show (if s = 0 then (0 : Int32) else n) = 0; rw [if_pos a1]⟩
        · refine Or.inr (Or.inl ⟨a1, ?_⟩)
          show (if s = 0 then (0 : Int32) else n) = (if s' = 0 then 0 else n')
          rw [if_neg (by rw [a1]; decide), if_neg (by rw [← vs, a1]; decide)]
          exact a2
        · refine Or.inr (Or.inr ⟨a1, ?_⟩)
          show ∃ x y, (if s = 0 then (0 : Int32) else n) = nI x ∧ (if s' = 0 then (0 : Int32) else n') = nI y ∧ β x y
          rw [if_neg (by rw [a1]; decide), if_neg (by rw [← vs, a1]; decide)]
          exact a2
      · rw [if_neg ek, if_neg ek]
        exact t8 k'
  · have ec : c ≠ y := fun w => e ((R.1 _ _ _ _ h b).mpr w)
    have cg : ∀ j, j < 8 → xh_s H' (8 * a + j) = xh_s H (8 * a + j) ∧ xh_k H' (8 * a + j) = xh_k H (8 * a + j) ∧ xh_n H' (8 * a + j) = xh_n H (8 * a + j) := fun j hj => x2 _ (by omega)
    have cy : ∀ j, j < 6 → yt_k T' (6 * c + j) = yt_k T (6 * c + j) ∧ yt_s T' (6 * c + j) = yt_s T (6 * c + j) ∧ yt_n T' (6 * c + j) = yt_n T (6 * c + j) := fun j hj => y4 _ (by omega)
    obtain ⟨z2, z26, hz2, hs2, hd2⟩ := t5
    refine ⟨t1, t2, by rw [x1]; exact t3, hs_ok_congr cg t4, ⟨z2, z26, (y3 c ec).trans hz2, fun j hj => by rw [(cy j (by omega)).2.1]; exact hs2 j hj, fun i j hi hj w => by rw [(cy i (by omega)).1, (cy j (by omega)).1] at w; exact hd2 i j hi hj w⟩, ?_, ?_, fun k' => ?_⟩
    · rw [x3 a e, y3 c ec]; exact t6
    · rw [hs_c_congr (fun j hj => (cg j hj).1), y3 c ec]; exact t7
    · rw [hs_l_congr cg, yf_cg (y3 c ec) cy hz2 t2 z26 hd2]
      exact t8 k'
theorem mr_sv (R : mr_ β M H V T) {x y : Nat} (b : β x y) : ∀ j, j < 8 → xh_s H (8 * x + j) = 0 ∨ xh_s H (8 * x + j) = 1 ∨ xh_s H (8 * x + j) = 2 := by
  intro j hj
  by_cases z : xh_s H (8 * x + j) = 0
  · exact Or.inl z
  · obtain ⟨_, _, _, ok, _, _, _, v⟩ := R.2.1 x y b
    have l := hs_l_pos (nm := xh_n H) ok.2.1 hj z rfl
    have v := v (xh_k H (8 * x + j))
    rw [l] at v
    exact vr_s v
end
section
variable {E : gx_E} {S : gx_S} {C : gx_C} {W : gx_W} {O : gx_O} {M : gx_M} {H : gx_H}
theorem xi_store1 {p a b c : Nat} {k : Int32} {H' : gx_H} (hc : cb_ C p) (hi : in_ C p 13 a b c k) (h : ∀ post : Int32 → SX → Prop, post 1 (xk E S C W O M H') → wpX_storeEntry post (xk E S C W O M H) (nI a) (nI b) (nI c)) : xg_ E S C W O p M H (p + 1) M H' := by
  obtain ⟨z, hz, hp, h350⟩ := hc
  obtain ⟨i1, i2, i3, i4, i5⟩ := hi
  refine xi_act1 hz hp h350 i1 (by omega) (by omega) (by omega) (by omega) (fun post hh => ?_)
  refine And.intro (by_in (by omega)) (nm_r ((ix_ev rfl).trans i2) (br_f (by decide) (br_f (by decide) (br_f (by decide) (br_f (by decide) (br_t rfl ⟨by_in (by omega), by_in (by omega), ?_⟩))))))
  rw [ix_ev (a := xc_b C) (i := nI p) rfl, i3, ix_ev (a := xc_c C) (i := nI p) rfl, i4]
  exact h _ ⟨rfl, hh⟩
theorem xi_store0 {p a b c : Nat} {k : Int32} (hc : cb_ C p) (hi : in_ C p 13 a b c k) (h : ∀ post : Int32 → SX → Prop, post 0 (xk E S C W O M H) → wpX_storeEntry post (xk E S C W O M H) (nI a) (nI b) (nI c)) : xf_ E S C W O p M H M H := by
  obtain ⟨z, hz, hp, h350⟩ := hc
  obtain ⟨i1, i2, i3, i4, i5⟩ := hi
  refine xi_act0 hz hp h350 i1 (by omega) (by omega) (by omega) (by omega) (fun post hh => ?_)
  refine And.intro (by_in (by omega)) (nm_r ((ix_ev rfl).trans i2) (br_f (by decide) (br_f (by decide) (br_f (by decide) (br_f (by decide) (br_t rfl ⟨by_in (by omega), by_in (by omega), ?_⟩))))))
  rw [ix_ev (a := xc_b C) (i := nI p) rfl, i3, ix_ev (a := xc_c C) (i := nI p) rfl, i4]
  exact h _ ⟨rfl, hh⟩
/-- not a table, or no int for a key -/
theorem xr_storef {a b d : Nat} (ha : a < 18) (hb : b < 18) (hn : ¬ (xm_s M a = 2 ∧ xm_s M b = 1)) : ∀ post : Int32 → SX → Prop, post 0 (xk E S C W O M H) → wpX_storeEntry post (xk E S C W O M H) (nI a) (nI b) (nI d) := by
  intro post h
  refine And.intro (by_in ha) ?_
  by_cases s : xm_s M a = 2
  · exact br_t (ix_rd s) ⟨by_in hb, br_f (ix_rn (fun w => hn ⟨s, w⟩)) h⟩
  · exact br_f (ix_rn s) h
theorem xi_begin {D : Nat → Prop} {p i : Nat} (hc : cb_ C p) (hi : in_ C p 18 0 0 0 (nI i)) (gd : gd_ H D) (hr : ∀ r, r < 6 → xm_s M r = 2 → ∃ t, xm_n M r = nI t ∧ D t) :
    ∃ M' f, xb_ (xm_cu M (nI i)) M' 6 18 ∧ (∀ t, t < 32 → (bt f t = true ↔ cl_ (rx_ M' 6) (ex_ H) t)) ∧
      (8 < kc_n (bt f) 32 → xf_ E S C W O p M H M' (xh_rc H f)) ∧ (¬ 8 < kc_n (bt f) 32 → xg_ E S C W O p M H (p + 1) M' (xh_rc H f)) := by
  obtain ⟨z, hz, hp, h350⟩ := hc
  obtain ⟨i1, i2, i3, i4, i5⟩ := hi
  obtain ⟨M', f, h1, h2, h3⟩ := xb_begin (E := E) (S := S) (C := C) (W := W) (O := O) (nI i) gd hr
  have step : ∀ post : Int32 → SX → Prop, post (if 8 < kc_n (bt f) 32 then 0 else 1) (xk E S C W O M' (xh_rc H f)) → wpX_act post (xk E S C W O M H) (nI 18) (nI p) := by
    intro post h
    refine And.intro (by_in (by omega)) (nm_r ((ix_ev rfl).trans i2) (br_t rfl ⟨by_in (by omega), ?_⟩))
    rw [ix_ev (a := xc_k C) (i := nI p) rfl, i5]
    refine h3 _ ?_
    refine ⟨?_, h⟩
    split <;> rfl
  refine ⟨M', f, h1, h2, fun c => ?_, fun c => ?_⟩
  · refine xi_act0 hz hp h350 i1 (by omega) (by omega) (by omega) (by omega) (fun post h => step post ?_)
    rw [if_pos c]; exact h
  · refine xi_act1 hz hp h350 i1 (by omega) (by omega) (by omega) (by omega) (fun post h => step post ?_)
    rw [if_neg c]; exact h
/-- showing: the number that is shown -/
def sh_n (H : gx_H) (s n : Int32) : Int32 := if s = 0 then 0 else if s = 1 then n else xh_c H n.toNatClampNeg
def xm_sh (M : gx_M) (h : Nat) (r : Nat) (v : Int64) : gx_M := (xm_c M, nI (h + 1), xm_s M, xm_n M, xm_l M, xm_m M, if h < 30 then vp_updL (xm_v M) h v else xm_v M)
theorem xi_show {p a h : Nat} {k : Int32} (hc : cb_ C p) (hi : in_ C p 14 a 0 0 k) (ha : a < 18) (hh : xm_h M = nI h) (h31 : h < 2000) (ht : xm_s M a ≠ 0 → xm_s M a ≠ 1 → ∃ x, x < 32 ∧ xm_n M a = nI x) :
    xg_ E S C W O p M H (p + 1) (xm_sh M h a (4 * (sh_n H (xm_s M a) (xm_n M a)).toInt64 + (xm_s M a).toInt64)) H := by
  obtain ⟨z, hz, hp, h350⟩ := hc
  obtain ⟨i1, i2, i3, i4, i5⟩ := hi
  refine xi_act1 hz hp h350 i1 (by omega) (by omega) (by omega) (by omega) (fun post hh' => ?_)
  refine And.intro (by_in (by omega)) (nm_r ((ix_ev rfl).trans i2) (br_f (by decide) (br_f (by decide) (br_f (by decide) (br_t rfl ?_)))))
  unfold xm_sh at hh'
  by_cases c : h < 30
  · rw [if_pos c] at hh'
    refine br_f (by show ¬ 30 ≤ xm_h M; rw [hh]; exact nI_ge (b := 30) c (by decide)) ⟨by_in ha, by_in ha, ?_⟩
    rw [ix_ev (a := xm_s M) (i := nI a) rfl, ix_ev (a := xm_n M) (i := nI a) rfl]
    have fin : ∀ r5, r5 = sh_n H (xm_s M a) (xm_n M a) → (vp_in (nI a) 18 ∧ (vp_in (xm_h M) 30 ∧ ∀ sv : Nat → Int64, sv = vp_updL (xm_v M) (xm_h M).toNatClampNeg ((4 * r5.toInt64) + (xm_s M a).toInt64) → (∀ h' : Int32, h' = xm_h M + 1 → post 1 (xk E S C W O (xm_c M, h', xm_s M, xm_n M, xm_l M, xm_m M, sv) H)))) := by
      intro r5 e5
      refine ⟨by_in ha, ?_⟩
      refine ix_stL h 30 _ c ?_ hh
      rw [e5]
      exact nm_r (e' := nI (h + 1)) (by rw [hh, nI_1]) hh'
    by_cases s0 : xm_s M a = 0
    · refine br_t s0 ?_
      exact fin 0 (by unfold sh_n; rw [if_pos s0])
    · refine br_f s0 ?_
      by_cases s1 : xm_s M a = 1
      · refine br_t s1 ?_
        exact fin _ (by unfold sh_n; rw [if_neg s0, if_pos s1])
      · obtain ⟨x, hx, ex⟩ := ht s0 s1
        refine br_f s1 ⟨by rw [ex]; exact by_in hx, ?_⟩
        exact fin _ (by unfold sh_n; rw [if_neg s0, if_neg s1])
  · rw [if_neg c] at hh'
    refine br_t (by show 30 ≤ xm_h M; rw [hh]; exact nI_le (a := 30) (by omega) (by omega)) ?_
    exact nm_r (e' := nI (h + 1)) (by show xm_h M + 1 = _; rw [hh, nI_1]) hh'
/-- loops -/
def mo_ (v : Int32) : Nat := if 0 ≤ v then (if v ≤ 5 then v.toNatClampNeg else 5) else 0
theorem mo_v {v : Int32} (h0 : 0 ≤ v) (h5 : v ≤ 5) : v = nI v.toNatClampNeg ∧ v.toNatClampNeg ≤ 5 := by
  obtain ⟨j, hj, e⟩ := nI_of2 (x := v) (M := 5) (n := 5) (by decide) (Int32.not_lt.mpr h0) h5
  rw [e, nI_clamp (by omega)]
  exact ⟨rfl, hj⟩
def xm_sl (M : gx_M) (l m : Nat) : gx_M := (xm_c M, xm_h M, xm_s M, xm_n M, upd (xm_l M) l (nI 0), upd (xm_m M) l (nI m), xm_v M)
theorem xi_setl {p b l : Nat} {k : Int32} (hc : cb_ C p) (hi : in_ C p 15 l b 0 k) (hl : l < 2) (hb : b < 18) (s1 : xm_s M b = 1) : xg_ E S C W O p M H (p + 1) (xm_sl M l (mo_ (xm_n M b))) H := by
  obtain ⟨z, hz, hp, h350⟩ := hc
  obtain ⟨i1, i2, i3, i4, i5⟩ := hi
  refine xi_act1 hz hp h350 i1 (by omega) (by omega) (by omega) (by omega) (fun post h => ?_)
  refine And.intro (by_in (by omega)) (nm_r ((ix_ev rfl).trans i2) (br_f (by decide) (br_f (by decide) (br_f (by decide) (br_f (by decide) (br_f (by decide) ⟨by_in (by omega), ?_⟩))))))
  rw [ix_ev (a := xc_b C) (i := nI p) rfl, i3]
  refine ⟨by_in hb, br_t (ix_rd s1) ⟨by_in (by omega), by_in hb, nm_r (ix_ev rfl) ?_⟩⟩
  refine ix_st l 2 (nI 0) hl ?_ rfl (by_v (n := 0) (by omega))
  unfold mo_ at h
  by_cases h0 : 0 ≤ xm_n M b
  · rw [if_pos h0] at h
    refine br_t h0 ?_
    by_cases h5 : xm_n M b ≤ 5
    · rw [if_pos h5] at h
      obtain ⟨e1, e2⟩ := mo_v h0 h5
      refine br_t h5 ?_
      exact ix_st l 2 (nI (xm_n M b).toNatClampNeg) hl h rfl (by rw [show (xm_n M b).toInt8.toInt32 = (nI (xm_n M b).toNatClampNeg).toInt8.toInt32 from by rw [← e1]]; exact by_n (by omega))
    · rw [if_neg h5] at h
      refine br_f h5 ?_
      exact ix_st l 2 (nI 5) hl h rfl (by_n (n := 5) (by omega))
  · rw [if_neg h0] at h
    refine br_f h0 ?_
    exact ix_st l 2 (nI 0) hl h rfl (by_n (n := 0) (by omega))
theorem xi_setlf {p b l : Nat} {k : Int32} (hc : cb_ C p) (hi : in_ C p 15 l b 0 k) (hb : b < 18) (s1 : ¬ xm_s M b = 1) : xf_ E S C W O p M H M H := by
  obtain ⟨z, hz, hp, h350⟩ := hc
  obtain ⟨i1, i2, i3, i4, i5⟩ := hi
  refine xi_act0 hz hp h350 i1 (by omega) (by omega) (by omega) (by omega) (fun post h => ?_)
  refine And.intro (by_in (by omega)) (nm_r ((ix_ev rfl).trans i2) (br_f (by decide) (br_f (by decide) (br_f (by decide) (br_f (by decide) (br_f (by decide) ⟨by_in (by omega), ?_⟩))))))
  rw [ix_ev (a := xc_b C) (i := nI p) rfl, i3]
  exact ⟨by_in hb, br_f (ix_rn s1) h⟩
def xm_nl (M : gx_M) (l a : Nat) : gx_M := (xm_c M, xm_h M, xm_s M, xm_n M, upd (xm_l M) l (nI a), xm_m M, xm_v M)
theorem xi_next1 {p l x a b : Nat} {k : Int32} (hc : cb_ C p) (hi : in_ C p 16 l x 0 k) (hl : l < 2) (hx : x < 18) (ha : xm_l M l = nI a) (hb : xm_m M l = nI b) (lt : a < b) (b5 : b ≤ 5) : xg_ E S C W O p M H (p + 1) (xm_rg (xm_nl M l (a + 1)) x 1 (nI (a + 1))) H := by
  obtain ⟨z, hz, hp, h350⟩ := hc
  obtain ⟨i1, i2, i3, i4, i5⟩ := hi
  intro post n h
  refine ⟨n + 1, br_f (by rw [hz]; exact nI_ge hp (by omega)) (And.intro (by_in (by omega)) (nm_r ((ix_ev rfl).trans i1) (nm_r (nI_1 p) (br_f (by decide) (br_f (by decide) (br_f (by decide) (br_t rfl ?_)))))))⟩
  refine And.intro (by_in (by omega)) (nm_r ((ix_ev rfl).trans i2) (And.intro (by_in hl) (And.intro (by_in hl) (br_t ?_ (And.intro (by_in hl) ?_)))))
  · rw [ix_ev (a := xm_l M) (i := nI l) rfl, ix_ev (a := xm_m M) (i := nI l) rfl, ha, hb]
    exact nI_lt lt (by omega)
  · refine ix_st l 2 (nI (a + 1)) hl (And.intro (by_in (by omega)) (And.intro (by_in hl) ?_)) rfl (by rw [ix_ev (a := xm_l M) (i := nI l) rfl, ha, nI_1]; exact by_n (by omega))
    rw [ix_ev (a := xc_b C) (i := nI p) rfl, i3, ix_ev (a := upd (xm_l M) l (nI (a + 1))) (i := nI l) rfl, pk_us]
    refine xr_set (M := xm_nl M l (a + 1)) hx (by_n (n := 1) (by omega)) ?_
    exact br_f (by decide) (br_t rfl h)
theorem xi_next0 {p l x a b q : Nat} (hc : cb_ C p) (hi : in_ C p 16 l x 0 (nI q)) (hl : l < 2) (ha : xm_l M l = nI a) (hb : xm_m M l = nI b) (le : b ≤ a) (a5 : a ≤ 5) : xg_ E S C W O p M H q M H := by
  obtain ⟨z, hz, hp, h350⟩ := hc
  obtain ⟨i1, i2, i3, i4, i5⟩ := hi
  intro post n h
  refine ⟨n + 1, br_f (by rw [hz]; exact nI_ge hp (by omega)) (And.intro (by_in (by omega)) (nm_r ((ix_ev rfl).trans i1) (nm_r (nI_1 p) (br_f (by decide) (br_f (by decide) (br_f (by decide) (br_t rfl ?_)))))))⟩
  refine And.intro (by_in (by omega)) (nm_r ((ix_ev rfl).trans i2) (And.intro (by_in hl) (And.intro (by_in hl) (br_f ?_ ?_))))
  · rw [ix_ev (a := xm_l M) (i := nI l) rfl, ix_ev (a := xm_m M) (i := nI l) rfl, ha, hb]
    exact nI_nlt le (by omega)
  · refine br_t rfl ⟨by_in (by omega), ?_⟩
    rw [ix_ev (a := xc_k C) (i := nI p) rfl, i5]
    exact br_t rfl h
end
end
section
/-! the reference: a statement is executed -/
/-- the statements of the two sides -/
def rs_ (S : gx_S) (B : gy_B) (n : Nat) : Prop := yb_n B = xs_n S ∧ yb_o B = xs_o S ∧ yb_x B = xs_x S ∧ ∀ i, i < n → (st_k S i ≠ 4 → yb_y B i = xs_y S i) ∧ (st_k S i = 1 ∨ st_k S i = 3 → yb_z B i = xs_z S i)
section
variable {A : gy_A} {B : gy_B} {V : gy_V} {T : gy_T} {K : gy_K} {L : gy_L} {S : gx_S} {c n : Nat}
theorem rs_o (h : rs_ S B n) (hS : so_ok S c n) {i : Nat} (hi : i < n) : yb_o B i = nI (st_k S i) := by rw [h.2.1]; exact (hS.2.2 i hi).1
theorem rs_x (h : rs_ S B n) (hS : so_ok S c n) {i : Nat} (hi : i < n) : yb_x B i = nI (st_x S i) := by rw [h.2.2.1]; exact (hS.2.2 i hi).2.2.1
theorem ym_named {post : Int32 → Prop} {i : Nat} (h : rs_ S B n) (hS : so_ok S c n) (hi : i < n) (hp : post (nI (en_ S i - 1))) : wpY_named post (yk A B V T K L) (nI i) := by
  have so := hS.2.2 i hi
  have n14 := hS.2.1
  have ho := rs_o h hS hi
  have hh := h.2.2.2 i hi
  refine And.intro (by_in (by omega)) ?_
  rw [ix_ev (a := yb_o B) (i := nI i) rfl, ho, ix_ev (a := yb_y B) (i := nI i) rfl, ix_ev (a := yb_z B) (i := nI i) rfl]
  have k4 := so.2.1
  unfold en_ at hp
  refine pk_eq (st_k S i) 2 (fun k2 => ?_) (fun k2 => ?_)
  · rw [if_pos k2] at hp
    refine ⟨by_in (by omega), ?_⟩
    rw [hh.1 (by omega), (so.2.2.2.2.2.2.1 k2).1, nI_add]
    rw [show i + 1 + st_y S i - 1 = i + st_y S i from by omega] at hp
    exact hp
  · rw [if_neg k2] at hp
    refine ⟨by_in (by omega), pk_eq (st_k S i) 3 (fun k3 => ?_) (fun k3 => ?_)⟩
    · rw [if_pos k3] at hp
      refine ⟨by_in (by omega), ?_⟩
      rw [hh.2 (Or.inr k3), (so.2.2.2.2.2.2.2 k3).1, nI_add]
      rw [show i + 1 + st_z S i - 1 = i + st_z S i from by omega] at hp
      exact hp
    · rw [if_neg k3] at hp
      exact hp
theorem ym_set {post : SY → Prop} {v : Nat} {s m : Int32} (hv : v < 6) (h : post (yk A B (yv_h V, yv_o V, upd (yv_s V) v s, upd (yv_n V) v m) T K L)) : wpY_set post (yk A B V T K L) (nI v) s m := by
  refine ix_st v 6 s hv ?_
  refine ix_st v 6 m hv ?_
  exact h
/-- a run of the reference's execute: the next statement and what is left -/
def ye_ (A : gy_A) (B : gy_B) (i : Nat) (V : gy_V) (T : gy_T) (K : gy_K) (L : gy_L) (i' : Nat) (V' : gy_V) (T' : gy_T) (K' : gy_K) (L' : gy_L) : Prop :=
  ∀ post : Int32 → SY → Prop, post (nI i') (yk A B V' T' K' L') → wpY_execute post (yk A B V T K L) (nI i)
/-- working an expression out -/
def yx_ (A : gy_A) (B : gy_B) (V : gy_V) (L : gy_L) (e : Nat) (T : gy_T) (K : gy_K) (T' : gy_T) (K' : gy_K) : Prop := ∀ post : SY → Prop, post (yk A B V T' K' L) → wpY_work post (yk A B V T K L) (nI e)
/-- up to the end of the expressions -/
def y99_ (A : gy_A) (B : gy_B) (i : Nat) (V : gy_V) (T : gy_T) (K : gy_K) (L : gy_L) (T' : gy_T) (K' : gy_K) : Prop :=
  ∀ post : Int32 → SY → Prop, (wY_execute_99 post (nI i) (ya_n A) (yb_n B) (yv_h V) (yk_d K') (yk_t K') (yk_f K') (yl_n L) (ya_k A) (ya_x A) (ya_y A) (ya_w A) (yb_o B) (yb_x B) (yb_y B) (yb_z B) (yv_s V) (yv_n V) (yt_z T') (yt_k T') (yt_s T') (yt_n T') (yt_t T') (yt_e T') (yv_o V) (yk_w K') (yk_g K') (yk_s K') (yk_n K') (yl_a L) (yl_t L) (yl_l L)) → wpY_execute post (yk A B V T K L) (nI i)
theorem y99_n1 {i e : Nat} {T' : gy_T} {K' : gy_K} (h : rs_ S B n) (hS : so_ok S c n) (hi : i < n) (k1 : st_k S i ≠ 1) (he : e = if st_k S i = 0 ∨ st_k S i = 3 then st_y S i else st_x S i) (hx : yx_ A B V L e T (yk_tt K 0) T' K') : y99_ A B i V T K L T' K' := by
  intro post h99
  have so := hS.2.2 i hi
  have n14 := hS.2.1
  have k4 := so.2.1
  have ho := rs_o h hS hi
  have hxx := rs_x h hS hi
  have h72 : (wY_execute_72 post (nI i) (ya_n A) (yb_n B) (yv_h V) (yk_d K') (yk_t K') (yk_f K') (yl_n L) (ya_k A) (ya_x A) (ya_y A) (ya_w A) (yb_o B) (yb_x B) (yb_y B) (yb_z B) (yv_s V) (yv_n V) (yt_z T') (yt_k T') (yt_s T') (yt_n T') (yt_t T') (yt_e T') (yv_o V) (yk_w K') (yk_g K') (yk_s K') (yk_n K') (yl_a L) (yl_t L) (yl_l L)) := by
    refine And.intro (by_in (by omega)) ?_
    rw [ix_ev (a := yb_o B) (i := nI i) rfl, ho]
    exact pk_eq (st_k S i) 1 (fun w => absurd w k1) (fun _ => h99)
  have h39 : (wY_execute_39 post (nI i) (nI e) (ya_n A) (yb_n B) (yv_h V) (yk_d (yk_tt K 0)) (yk_t (yk_tt K 0)) (yk_f (yk_tt K 0)) (yl_n L) (ya_k A) (ya_x A) (ya_y A) (ya_w A) (yb_o B) (yb_x B) (yb_y B) (yb_z B) (yv_s V) (yv_n V) (yt_z T) (yt_k T) (yt_s T) (yt_n T) (yt_t T) (yt_e T) (yv_o V) (yk_w (yk_tt K 0)) (yk_g (yk_tt K 0)) (yk_s (yk_tt K 0)) (yk_n (yk_tt K 0)) (yl_a L) (yl_t L) (yl_l L)) := by
    refine hx _ ?_
    refine And.intro (by_in (by omega)) ?_
    rw [ix_ev (a := yb_o B) (i := nI i) rfl, ho]
    exact pk_eq (st_k S i) 1 (fun w => absurd w k1) (fun _ => h72)
  have y24 : st_k S i = 0 ∨ st_k S i = 3 → (wY_execute_24 post (nI i) (ya_n A) (yb_n B) (yv_h V) (yk_d (yk_tt K 0)) (yk_t (yk_tt K 0)) (yk_f (yk_tt K 0)) (yl_n L) (ya_k A) (ya_x A) (ya_y A) (ya_w A) (yb_o B) (yb_x B) (yb_y B) (yb_z B) (yv_s V) (yv_n V) (yt_z T) (yt_k T) (yt_s T) (yt_n T) (yt_t T) (yt_e T) (yv_o V) (yk_w (yk_tt K 0)) (yk_g (yk_tt K 0)) (yk_s (yk_tt K 0)) (yk_n (yk_tt K 0)) (yl_a L) (yl_t L) (yl_l L)) := by
    intro k
    refine And.intro (by_in (by omega)) ?_
    rw [if_pos k] at he
    rw [ix_ev (a := yb_y B) (i := nI i) rfl, (h.2.2.2 i hi).1 (by omega), (so.2.2.2.1 k).2.1, ← he]
    exact h39
  refine And.intro (by_in (by omega)) ?_
  rw [ix_ev (a := yb_o B) (i := nI i) rfl, ho]
  refine pk_eq (st_k S i) 0 (fun w => y24 (Or.inl w)) (fun w0 => And.intro (by_in (by omega)) (pk_eq (st_k S i) 3 (fun w => y24 (Or.inr w)) (fun w3 => And.intro (by_in (by omega)) ?_)))
  rw [ix_ev (a := yb_x B) (i := nI i) rfl, hxx]
  rw [if_neg (by omega)] at he
  rw [← he]
  exact h39
theorem y99_1a {i : Nat} {T1 : gy_T} {K1 : gy_K} (h : rs_ S B n) (hS : so_ok S c n) (hi : i < n) (k1 : st_k S i = 1) (hx : yx_ A B V L (st_x S i) T (yk_tt K 0) T1 K1) (hf : ¬ yk_f K1 = 0) : y99_ A B i V T K L T1 K1 := by
  intro post h99
  have so := hS.2.2 i hi
  have n14 := hS.2.1
  have ho := rs_o h hS hi
  have hxx := rs_x h hS hi
  rw [k1] at ho
  have oi : yb_o B (nI i).toNatClampNeg = 1 := by rw [ix_ev (a := yb_o B) (i := nI i) rfl, ho]; rfl
  refine And.intro (by_in (by omega)) (br_f (by rw [oi]; decide) ⟨by_in (by omega), br_f (by rw [oi]; decide) ⟨by_in (by omega), ?_⟩⟩)
  rw [ix_ev (a := yb_x B) (i := nI i) rfl, hxx]
  refine hx _ ?_
  refine And.intro (by_in (by omega)) (br_t oi (br_f hf ?_))
  exact And.intro (by_in (by omega)) (br_t oi (br_f hf h99))
theorem y99_1b {i : Nat} {T1 T2 : gy_T} {K1 K2 : gy_K} (h : rs_ S B n) (hS : so_ok S c n) (hi : i < n) (k1 : st_k S i = 1) (hx : yx_ A B V L (st_x S i) T (yk_tt K 0) T1 K1) (hf : yk_f K1 = 0) (hy : yx_ A B V L (st_y S i) T1 K1 T2 K2) (hf2 : ¬ yk_f K2 = 0) : y99_ A B i V T K L T2 K2 := by
  intro post h99
  have so := hS.2.2 i hi
  have n14 := hS.2.1
  have ho := rs_o h hS hi
  have hxx := rs_x h hS hi
  rw [k1] at ho
  have oi : yb_o B (nI i).toNatClampNeg = 1 := by rw [ix_ev (a := yb_o B) (i := nI i) rfl, ho]; rfl
  have hyy := (h.2.2.2 i hi).1 (by omega)
  have sy := so.2.2.2.2.2.1 k1
  refine And.intro (by_in (by omega)) (br_f (by rw [oi]; decide) ⟨by_in (by omega), br_f (by rw [oi]; decide) ⟨by_in (by omega), ?_⟩⟩)
  rw [ix_ev (a := yb_x B) (i := nI i) rfl, hxx]
  refine hx _ ?_
  refine And.intro (by_in (by omega)) (br_t oi (br_t hf ⟨by_in (by omega), ?_⟩))
  rw [ix_ev (a := yb_y B) (i := nI i) rfl, hyy, sy.1]
  refine hy _ ?_
  exact And.intro (by_in (by omega)) (br_t oi (br_f hf2 h99))
theorem y99_1c {i : Nat} {T1 T2 T3 : gy_T} {K1 K2 K3 : gy_K} (h : rs_ S B n) (hS : so_ok S c n) (hi : i < n) (k1 : st_k S i = 1) (hx : yx_ A B V L (st_x S i) T (yk_tt K 0) T1 K1) (hf : yk_f K1 = 0) (hy : yx_ A B V L (st_y S i) T1 K1 T2 K2) (hf2 : yk_f K2 = 0) (hz : yx_ A B V L (st_z S i) T2 K2 T3 K3) : y99_ A B i V T K L T3 K3 := by
  intro post h99
  have so := hS.2.2 i hi
  have n14 := hS.2.1
  have ho := rs_o h hS hi
  have hxx := rs_x h hS hi
  rw [k1] at ho
  have oi : yb_o B (nI i).toNatClampNeg = 1 := by rw [ix_ev (a := yb_o B) (i := nI i) rfl, ho]; rfl
  have hyy := (h.2.2.2 i hi).1 (by omega)
  have hzz := (h.2.2.2 i hi).2 (Or.inl k1)
  have sy := so.2.2.2.2.2.1 k1
  refine And.intro (by_in (by omega)) (br_f (by rw [oi]; decide) ⟨by_in (by omega), br_f (by rw [oi]; decide) ⟨by_in (by omega), ?_⟩⟩)
  rw [ix_ev (a := yb_x B) (i := nI i) rfl, hxx]
  refine hx _ ?_
  refine And.intro (by_in (by omega)) (br_t oi (br_t hf ⟨by_in (by omega), ?_⟩))
  rw [ix_ev (a := yb_y B) (i := nI i) rfl, hyy, sy.1]
  refine hy _ ?_
  refine And.intro (by_in (by omega)) (br_t oi (br_t hf2 ⟨by_in (by omega), ?_⟩))
  rw [ix_ev (a := yb_z B) (i := nI i) rfl, hzz, sy.2.2.1]
  exact hz _ h99
theorem ye_fail {i : Nat} {T' : gy_T} {K' : gy_K} (h : y99_ A B i V T K L T' K') (hf : ¬ yk_f K' = 0) : ye_ A B i V T K L i V T' K' L := fun post hp => h post (br_f hf hp)
theorem ye_0 {i : Nat} {T' : gy_T} {K' : gy_K} (hr : rs_ S B n) (hS : so_ok S c n) (hi : i < n) (k : st_k S i = 0) (h : y99_ A B i V T K L T' K') (hf : yk_f K' = 0) : ye_ A B i V T K L (i + 1) (yv_h V, yv_o V, upd (yv_s V) (st_x S i) (yk_s K' 0), upd (yv_n V) (st_x S i) (yk_n K' 0)) T' K' L := by
  intro post hp
  have so := hS.2.2 i hi
  have n14 := hS.2.1
  have ho := rs_o hr hS hi
  rw [k] at ho
  have oi : yb_o B (nI i).toNatClampNeg = 0 := by rw [ix_ev (a := yb_o B) (i := nI i) rfl, ho]; rfl
  refine h post (br_t hf ⟨by_in (by omega), br_t oi ⟨by_in (by omega), ?_⟩⟩)
  rw [ix_ev (a := yb_x B) (i := nI i) rfl, rs_x hr hS hi]
  refine ym_set (so.2.2.2.1 (Or.inl k)).1 ?_
  refine And.intro (by_in (by omega)) (br_f (by rw [oi]; decide) ?_)
  refine And.intro (by_in (by omega)) (br_f (by rw [oi]; decide) ?_)
  refine And.intro (by_in (by omega)) (br_f (by rw [oi]; decide) ?_)
  refine And.intro (by_in (by omega)) (br_f (by rw [oi]; decide) ?_)
  rw [nI_1]
  exact hp
theorem ye_1 {i : Nat} {T' T2 : gy_T} {K' K2 : gy_K} (hr : rs_ S B n) (hS : so_ok S c n) (hi : i < n) (k : st_k S i = 1) (h : y99_ A B i V T K L T' K') (hf : yk_f K' = 0) (hput : ∀ post : SY → Prop, post (yk A B V T2 K2 L) → wpY_put post (yk A B V T' K' L)) : ye_ A B i V T K L (i + 1) V T2 K2 L := by
  intro post hp
  have n14 := hS.2.1
  have ho := rs_o hr hS hi
  rw [k] at ho
  have oi : yb_o B (nI i).toNatClampNeg = 1 := by rw [ix_ev (a := yb_o B) (i := nI i) rfl, ho]; rfl
  refine h post (br_t hf ⟨by_in (by omega), br_f (by rw [oi]; decide) ?_⟩)
  refine And.intro (by_in (by omega)) (br_t oi ?_)
  refine hput _ ?_
  refine And.intro (by_in (by omega)) (br_f (by rw [oi]; decide) ?_)
  refine And.intro (by_in (by omega)) (br_f (by rw [oi]; decide) ?_)
  refine And.intro (by_in (by omega)) (br_f (by rw [oi]; decide) ?_)
  rw [nI_1]
  exact hp
theorem ye_2 {i : Nat} {T' : gy_T} {K' : gy_K} (hr : rs_ S B n) (hS : so_ok S c n) (hi : i < n) (k : st_k S i = 2) (h : y99_ A B i V T K L T' K') (hf : yk_f K' = 0) : ye_ A B i V T K L (if yk_s K' 0 = 0 then en_ S i else i + 1) V T' K' L := by
  intro post hp
  have n14 := hS.2.1
  have ho := rs_o hr hS hi
  have el := en_le (hS.2.2 i hi)
  rw [k] at ho
  have oi : yb_o B (nI i).toNatClampNeg = 2 := by rw [ix_ev (a := yb_o B) (i := nI i) rfl, ho]; rfl
  refine h post (br_t hf ⟨by_in (by omega), br_f (by rw [oi]; decide) ?_⟩)
  refine And.intro (by_in (by omega)) (br_f (by rw [oi]; decide) ?_)
  refine And.intro (by_in (by omega)) (br_t oi ?_)
  by_cases z : yk_s K' 0 = 0
  · rw [if_pos z] at hp
    refine br_t z ?_
    refine ym_named (T := T') (K := K') hr hS hi ?_
    rw [nI_1, show en_ S i - 1 + 1 = en_ S i from by omega]
    exact hp
  · rw [if_neg z] at hp
    refine br_f z ?_
    refine And.intro (by_in (by omega)) (br_f (by rw [oi]; decide) ?_)
    refine And.intro (by_in (by omega)) (br_f (by rw [oi]; decide) ?_)
    rw [nI_1]
    exact hp
def sh_y (T : gy_T) (s m : Int32) : Int64 := if s = 2 then (yt_z T m.toNatClampNeg).toInt64 else if s = 1 then m.toInt64 else 0
theorem ye_4 {i h0 : Nat} {T' : gy_T} {K' : gy_K} (hr : rs_ S B n) (hS : so_ok S c n) (hi : i < n) (k : st_k S i = 4) (h : y99_ A B i V T K L T' K') (hf : yk_f K' = 0) (hh : yv_h V = nI h0) (h31 : h0 < 2000) (ht : yk_s K' 0 = 2 → ∃ x, x < 24 ∧ yk_n K' 0 = nI x) :
    ye_ A B i V T K L (i + 1) (nI (h0 + 1), (if h0 < 30 then vp_updL (yv_o V) h0 (4 * sh_y T' (yk_s K' 0) (yk_n K' 0) + (yk_s K' 0).toInt64) else yv_o V), yv_s V, yv_n V) T' K' L := by
  intro post hp
  have n14 := hS.2.1
  have ho := rs_o hr hS hi
  rw [k] at ho
  have oi : yb_o B (nI i).toNatClampNeg = 4 := by rw [ix_ev (a := yb_o B) (i := nI i) rfl, ho]; rfl
  refine h post (br_t hf ⟨by_in (by omega), br_f (by rw [oi]; decide) ?_⟩)
  refine And.intro (by_in (by omega)) (br_f (by rw [oi]; decide) ?_)
  refine And.intro (by_in (by omega)) (br_f (by rw [oi]; decide) ?_)
  refine And.intro (by_in (by omega)) (br_t oi ?_)
  have fin : ∀ q, q = sh_y T' (yk_s K' 0) (yk_n K' 0) → (wY_show_46 (fun u => (wY_execute_194 post (nI i) (ya_n (uy_A u)) (yb_n (uy_B u)) (yv_h (uy_V u)) (yk_d (uy_K u)) (yk_t (uy_K u)) (yk_f (uy_K u)) (yl_n (uy_L u)) (ya_k (uy_A u)) (ya_x (uy_A u)) (ya_y (uy_A u)) (ya_w (uy_A u)) (yb_o (uy_B u)) (yb_x (uy_B u)) (yb_y (uy_B u)) (yb_z (uy_B u)) (yv_s (uy_V u)) (yv_n (uy_V u)) (yt_z (uy_T u)) (yt_k (uy_T u)) (yt_s (uy_T u)) (yt_n (uy_T u)) (yt_t (uy_T u)) (yt_e (uy_T u)) (yv_o (uy_V u)) (yk_w (uy_K u)) (yk_g (uy_K u)) (yk_s (uy_K u)) (yk_n (uy_K u)) (yl_a (uy_L u)) (yl_t (uy_L u)) (yl_l (uy_L u)))) q (ya_n A) (yb_n B) (yv_h V) (yk_d K') (yk_t K') (yk_f K') (yl_n L) (ya_k A) (ya_x A) (ya_y A) (ya_w A) (yb_o B) (yb_x B) (yb_y B) (yb_z B) (yv_s V) (yv_n V) (yt_z T') (yt_k T') (yt_s T') (yt_n T') (yt_t T') (yt_e T') (yv_o V) (yk_w K') (yk_g K') (yk_s K') (yk_n K') (yl_a L) (yl_t L) (yl_l L)) := by
    intro q eq
    have last : ∀ V2, post (nI (i + 1)) (yk A B V2 T' K' L) → (wY_execute_194 post (nI i) (ya_n A) (yb_n B) (yv_h V2) (yk_d K') (yk_t K') (yk_f K') (yl_n L) (ya_k A) (ya_x A) (ya_y A) (ya_w A) (yb_o B) (yb_x B) (yb_y B) (yb_z B) (yv_s V2) (yv_n V2) (yt_z T') (yt_k T') (yt_s T') (yt_n T') (yt_t T') (yt_e T') (yv_o V2) (yk_w K') (yk_g K') (yk_s K') (yk_n K') (yl_a L) (yl_t L) (yl_l L)) := by
      intro V2 h2
      refine And.intro (by_in (by omega)) (br_f (by rw [oi]; decide) ?_)
      rw [nI_1]
      exact h2
    rw [eq]
    by_cases c30 : h0 < 30
    · rw [if_pos c30] at hp
      refine br_f (by rw [hh]; exact nI_ge (b := 30) c30 (by decide)) ?_
      refine ix_stL h0 30 _ c30 ?_ hh
      exact nm_r (e' := nI (h0 + 1)) (by rw [hh, nI_1]) (last (nI (h0 + 1), vp_updL (yv_o V) h0 (4 * sh_y T' (yk_s K' 0) (yk_n K' 0) + (yk_s K' 0).toInt64), yv_s V, yv_n V) hp)
    · rw [if_neg c30] at hp
      refine br_t (by rw [hh]; exact nI_le (a := 30) (by omega) (by omega)) ?_
      exact nm_r (e' := nI (h0 + 1)) (by rw [hh, nI_1]) (last (nI (h0 + 1), yv_o V, yv_s V, yv_n V) hp)
  by_cases s2 : yk_s K' 0 = 2
  · obtain ⟨x, hx, ex⟩ := ht s2
    refine br_t s2 ⟨by rw [ex]; exact by_in hx, ?_⟩
    exact fin _ (by unfold sh_y; rw [if_pos s2])
  · refine br_f s2 ?_
    by_cases s1 : yk_s K' 0 = 1
    · refine br_t s1 ?_
      exact fin _ (by unfold sh_y; rw [if_neg s2, if_pos s1])
    · refine br_f s1 ?_
      exact fin _ (by unfold sh_y; rw [if_neg s2, if_neg s1])
end
end
section
/-! the reference: loops, and one turn of run -/
section
variable {A : gy_A} {B : gy_B} {V : gy_V} {T : gy_T} {K : gy_K} {L : gy_L} {S : gx_S} {c n : Nat}
theorem ye_3p {i : Nat} {T' : gy_T} {K' : gy_K} {post : Int32 → SY → Prop} (hr : rs_ S B n) (hS : so_ok S c n) (hi : i < n) (k : st_k S i = 3) (h : y99_ A B i V T K L T' K') (hf : yk_f K' = 0)
    (fin : (yk_s K' 0 = 1 → ((1 ≤ yk_n K' 0 → (vp_in (yl_n L) 2 ∧ ∀ la : Nat → Int32, la = upd (yl_a L) (yl_n L).toNatClampNeg (nI i) → (vp_in (yl_n L) 2 ∧ ∀ lt : Nat → Int32, lt = upd (yl_t L) (yl_n L).toNatClampNeg 1 →
        ((yk_n K' 0 ≤ 5 → (wY_execute_288 post (nI i) (yk_n K' 0) (yl_n L) (ya_n A) (yb_n B) (yv_h V) (yk_d K') (yk_t K') (yk_f K') (yl_n (yl_n L, la, lt, yl_l L)) (ya_k A) (ya_x A) (ya_y A) (ya_w A) (yb_o B) (yb_x B) (yb_y B) (yb_z B) (yv_s V) (yv_n V) (yt_z T') (yt_k T') (yt_s T') (yt_n T') (yt_t T') (yt_e T') (yv_o V) (yk_w K') (yk_g K') (yk_s K') (yk_n K') (yl_a (yl_n L, la, lt, yl_l L)) (yl_t (yl_n L, la, lt, yl_l L)) (yl_l (yl_n L, la, lt, yl_l L)))) ∧ (¬ yk_n K' 0 ≤ 5 → (wY_execute_288 post (nI i) 5 (yl_n L) (ya_n A) (yb_n B) (yv_h V) (yk_d K') (yk_t K') (yk_f K') (yl_n (yl_n L, la, lt, yl_l L)) (ya_k A) (ya_x A) (ya_y A) (ya_w A) (yb_o B) (yb_x B) (yb_y B) (yb_z B) (yv_s V) (yv_n V) (yt_z T') (yt_k T') (yt_s T') (yt_n T') (yt_t T') (yt_e T') (yv_o V) (yk_w K') (yk_g K') (yk_s K') (yk_n K') (yl_a (yl_n L, la, lt, yl_l L)) (yl_t (yl_n L, la, lt, yl_l L)) (yl_l (yl_n L, la, lt, yl_l L)))))))) ∧
        (¬ 1 ≤ yk_n K' 0 → wpY_named (fun r => post (r + 1) (yk A B V T' K' L)) (yk A B V T' K' L) (nI i)))) ∧ (¬ yk_s K' 0 = 1 → post (nI i + 1) (yk A B V T' (yk_f1 K') L))) : wpY_execute post (yk A B V T K L) (nI i) := by
  have n14 := hS.2.1
  have ho := rs_o hr hS hi
  rw [k] at ho
  have oi : yb_o B (nI i).toNatClampNeg = 3 := by rw [ix_ev (a := yb_o B) (i := nI i) rfl, ho]; rfl
  refine h post (br_t hf ⟨by_in (by omega), br_f (by rw [oi]; decide) ?_⟩)
  refine And.intro (by_in (by omega)) (br_f (by rw [oi]; decide) ?_)
  refine And.intro (by_in (by omega)) (br_f (by rw [oi]; decide) ?_)
  refine And.intro (by_in (by omega)) (br_f (by rw [oi]; decide) ?_)
  exact And.intro (by_in (by omega)) (br_t oi fin)
theorem ye_3f {i : Nat} {T' : gy_T} {K' : gy_K} (hr : rs_ S B n) (hS : so_ok S c n) (hi : i < n) (k : st_k S i = 3) (h : y99_ A B i V T K L T' K') (hf : yk_f K' = 0) (s1 : ¬ yk_s K' 0 = 1) : ye_ A B i V T K L (i + 1) V T' (yk_f1 K') L := by
  intro post hp
  refine ye_3p hr hS hi k h hf (br_f s1 ?_)
  rw [nI_1]
  exact hp
theorem ye_3z {i : Nat} {T' : gy_T} {K' : gy_K} (hr : rs_ S B n) (hS : so_ok S c n) (hi : i < n) (k : st_k S i = 3) (h : y99_ A B i V T K L T' K') (hf : yk_f K' = 0) (s1 : yk_s K' 0 = 1) (h1 : ¬ 1 ≤ yk_n K' 0) : ye_ A B i V T K L (en_ S i) V T' K' L := by
  intro post hp
  have el := en_le (hS.2.2 i hi)
  refine ye_3p hr hS hi k h hf (br_t s1 (br_f h1 ?_))
  refine ym_named (T := T') (K := K') hr hS hi ?_
  rw [nI_1, show en_ S i - 1 + 1 = en_ S i from by omega]
  exact hp
theorem ye_3l {i lv : Nat} {T' : gy_T} {K' : gy_K} (hr : rs_ S B n) (hS : so_ok S c n) (hi : i < n) (k : st_k S i = 3) (h : y99_ A B i V T K L T' K') (hf : yk_f K' = 0) (s1 : yk_s K' 0 = 1) (h1 : 1 ≤ yk_n K' 0) (hl : yl_n L = nI lv) (lv2 : lv < 2) :
    ye_ A B i V T K L (i + 1) (yv_h V, yv_o V, upd (yv_s V) (st_x S i) 1, upd (yv_n V) (st_x S i) 1) T' K' (nI (lv + 1), upd (yl_a L) lv (nI i), upd (yl_t L) lv 1, upd (yl_l L) lv (nI (mo_ (yk_n K' 0)))) := by
  intro post hp
  have n14 := hS.2.1
  have so := hS.2.2 i hi
  have h0 : (0 : Int32) ≤ yk_n K' 0 := Int32.le_trans (by decide) h1
  have fin : ∀ z0, z0 = nI (mo_ (yk_n K' 0)) → (wY_execute_288 post (nI i) z0 (yl_n L) (ya_n A) (yb_n B) (yv_h V) (yk_d K') (yk_t K') (yk_f K') (yl_n (yl_n L, upd (yl_a L) lv (nI i), upd (yl_t L) lv 1, yl_l L)) (ya_k A) (ya_x A) (ya_y A) (ya_w A) (yb_o B) (yb_x B) (yb_y B) (yb_z B) (yv_s V) (yv_n V) (yt_z T') (yt_k T') (yt_s T') (yt_n T') (yt_t T') (yt_e T') (yv_o V) (yk_w K') (yk_g K') (yk_s K') (yk_n K') (yl_a (yl_n L, upd (yl_a L) lv (nI i), upd (yl_t L) lv 1, yl_l L)) (yl_t (yl_n L, upd (yl_a L) lv (nI i), upd (yl_t L) lv 1, yl_l L)) (yl_l (yl_n L, upd (yl_a L) lv (nI i), upd (yl_t L) lv 1, yl_l L))) := by
    intro z0 ez
    refine ix_st lv 2 (nI (mo_ (yk_n K' 0))) lv2 ?_ hl ez
    refine nm_r (e' := nI (lv + 1)) (by show yl_n L + 1 = _; rw [hl, nI_1]) (And.intro (by_in (by omega)) ?_)
    rw [ix_ev (a := yb_x B) (i := nI i) rfl, rs_x hr hS hi]
    refine ym_set (T := T') (K := K') (L := (nI (lv + 1), upd (yl_a L) lv (nI i), upd (yl_t L) lv 1, upd (yl_l L) lv (nI (mo_ (yk_n K' 0))))) (so.2.2.2.1 (Or.inr k)).1 ?_
    rw [nI_1]
    exact hp
  refine ye_3p hr hS hi k h hf (br_t s1 (br_t h1 ?_))
  refine ix_st lv 2 (nI i) lv2 ?_ hl
  refine ix_st lv 2 1 lv2 ?_ hl
  unfold mo_ at fin
  rw [if_pos h0] at fin
  by_cases h5 : yk_n K' 0 ≤ 5
  · rw [if_pos h5] at fin
    exact br_t h5 (fin _ (mo_v h0 h5).1)
  · rw [if_neg h5] at fin
    exact br_f h5 (fin _ rfl)
/-- one turn of run's loop -/
def yn_ (A : gy_A) (B : gy_B) (i : Nat) (V : gy_V) (T : gy_T) (K : gy_K) (L : gy_L) (i' : Nat) (V' : gy_V) (T' : gy_T) (K' : gy_K) (L' : gy_L) : Prop :=
  ∀ (post : Int32 → SY → Prop) (m k : Nat), k < 1000 → (wY_run_50 post m (nI i') (nI (k + 1)) (ya_n A) (yb_n B) (yv_h V') (yk_d K') (yk_t K') (yk_f K') (yl_n L') (ya_k A) (ya_x A) (ya_y A) (ya_w A) (yb_o B) (yb_x B) (yb_y B) (yb_z B) (yv_s V') (yv_n V') (yt_z T') (yt_k T') (yt_s T') (yt_n T') (yt_t T') (yt_e T') (yv_o V') (yk_w K') (yk_g K') (yk_s K') (yk_n K') (yl_a L') (yl_t L') (yl_l L')) → (wY_run_50 post (m + 1) (nI i) (nI k) (ya_n A) (yb_n B) (yv_h V) (yk_d K) (yk_t K) (yk_f K) (yl_n L) (ya_k A) (ya_x A) (ya_y A) (ya_w A) (yb_o B) (yb_x B) (yb_y B) (yb_z B) (yv_s V) (yv_n V) (yt_z T) (yt_k T) (yt_s T) (yt_n T) (yt_t T) (yt_e T) (yv_o V) (yk_w K) (yk_g K) (yk_s K) (yk_n K) (yl_a L) (yl_t L) (yl_l L))
/-- the last one -/
def yz_ (A : gy_A) (B : gy_B) (i : Nat) (V : gy_V) (T : gy_T) (K : gy_K) (L : gy_L) (r : Int32) (V' : gy_V) (T' : gy_T) (K' : gy_K) (L' : gy_L) : Prop :=
  ∀ (post : Int32 → SY → Prop) (m k : Nat), k < 1000 → post r (yk A B V' T' K' L') → (wY_run_50 post (m + 1) (nI i) (nI k) (ya_n A) (yb_n B) (yv_h V) (yk_d K) (yk_t K) (yk_f K) (yl_n L) (ya_k A) (ya_x A) (ya_y A) (ya_w A) (yb_o B) (yb_x B) (yb_y B) (yb_z B) (yv_s V) (yv_n V) (yt_z T) (yt_k T) (yt_s T) (yt_n T) (yt_t T) (yt_e T) (yv_o V) (yk_w K) (yk_g K) (yk_s K) (yk_n K) (yl_a L) (yl_t L) (yl_l L))
/-- the innermost loop's stretch does not end before e -/
def el_ (S : gx_S) (L : gy_L) (n lv e : Nat) : Prop := 0 < lv → ∃ j, yl_a L (lv - 1) = nI j ∧ j < n ∧ e ≤ en_ S j
theorem el_le {lv e e1 : Nat} (h : el_ S L n lv e) (le : e1 ≤ e) : el_ S L n lv e1 := fun z => by
  obtain ⟨j, a, b, c⟩ := h z
  exact ⟨j, a, b, Nat.le_trans le c⟩
theorem y94 {i lv : Nat} {post : Int32 → SY → Prop} {m k : Nat} (hr : rs_ S B n) (hS : so_ok S c n) (hl : yl_n L = nI lv) (lv2 : lv ≤ 2) (he : el_ S L n lv (i + 1)) (i14 : i ≤ 14) (hk : k < 1000) (h : (wY_run_94 post (wY_run_50 post m) (nI i) (nI k) (ya_n A) (yb_n B) (yv_h V) (yk_d K) (yk_t K) (yk_f K) (yl_n L) (ya_k A) (ya_x A) (ya_y A) (ya_w A) (yb_o B) (yb_x B) (yb_y B) (yb_z B) (yv_s V) (yv_n V) (yt_z T) (yt_k T) (yt_s T) (yt_n T) (yt_t T) (yt_e T) (yv_o V) (yk_w K) (yk_g K) (yk_s K) (yk_n K) (yl_a L) (yl_t L) (yl_l L))) : (wY_run_50 post (m + 1) (nI i) (nI k) (ya_n A) (yb_n B) (yv_h V) (yk_d K) (yk_t K) (yk_f K) (yl_n L) (ya_k A) (ya_x A) (ya_y A) (ya_w A) (yb_o B) (yb_x B) (yb_y B) (yb_z B) (yv_s V) (yv_n V) (yt_z T) (yt_k T) (yt_s T) (yt_n T) (yt_t T) (yt_e T) (yv_o V) (yk_w K) (yk_g K) (yk_s K) (yk_n K) (yl_a L) (yl_t L) (yl_l L)) := by
  have n14 := hS.2.1
  refine br_f (nI_ge (b := 1000) hk (by decide)) ?_
  by_cases z : lv = 0
  · exact br_t (by rw [hl, z]; exact Int32.le_refl _) h
  · obtain ⟨j, a, b, d⟩ := he (by omega)
    have el := en_le (hS.2.2 j b)
    have lp : yl_n L - 1 = nI (lv - 1) := by rw [hl, show lv = (lv - 1) + 1 from by omega, nI_pred]; rfl
    refine br_f (by rw [hl]; exact nI_nle (by omega) (by omega)) ⟨pk_in (lv - 1) 2 (by omega) lp, ?_⟩
    rw [ix_ev (a := yl_a L) lp, a]
    refine ym_named hr hS b ?_
    refine br_f (fun w => ?_) h
    rw [nI_1] at w
    have := (nI_eq (by omega) (by omega)).mp w
    omega
/-- at the end of the statements -/
theorem yz_end {i : Nat} (hr : rs_ S B n) (hS : so_ok S c n) (hl : yl_n L = nI 0) (hi : i = n) : yz_ A B i V T K L (-4) V T K L := by
  intro post m k hk h
  have n14 := hS.2.1
  refine y94 (lv := 0) hr hS hl (by omega) (fun z => absurd z (by omega)) (by omega) hk ?_
  refine br_f ?_ h
  rw [hr.1, hS.1, hi]
  exact nI_nlt (Nat.le_refl _) (by omega)
def yt_tk (T : gy_T) (tk s : Nat → Int32) : gy_T := (yt_z T, yt_k T, yt_s T, yt_n T, tk, s)
/-- a statement's turn -/
theorem yi_ {i lv : Nat} {D : Nat → Prop} (hr : rs_ S B n) (hS : so_ok S c n) (hi : i < n) (hl : yl_n L = nI lv) (lv2 : lv ≤ 2) (he : el_ S L n lv (i + 1)) (gd : gy_ T D) (hv : ∀ r, r < 6 → yv_s V r = 2 → ∃ t, yv_n V r = nI t ∧ D t) :
    ∃ s tk, (∀ t, t < 24 → (s t ≠ 0 ↔ cl_ (ry_ V) (ey_ T) t)) ∧ (∀ t, t < 24 → tk t = s t) ∧
      (8 < yq_c s → yz_ A B i V T K L (nI i) V (yt_sn T s) K L) ∧
      (¬ 8 < yq_c s → ∀ i' V' T' K' L', ye_ A B i V (yt_tk T tk s) K L i' V' T' K' L' → (yk_f K' = 0 → yn_ A B i V T K L i' V' T' K' L') ∧ (¬ yk_f K' = 0 → yz_ A B i V T K L (nI i) V' T' K' L')) := by
  have n14 := hS.2.1
  obtain ⟨s, b1, hs, hk⟩ := yq_reach (A := A) (B := B) (K := K) (L := L) gd hv
  have cnt : yq_c s ≤ 24 := kc_le _ _
  -- the copy is the same for every post
  have cp : ∃ tk', (∀ t, t < 24 → tk' t = s t) ∧ ∀ (post : Int32 → SY → Prop) (m k : Nat), wpY_execute (fun r u => ((yk_f (uy_K u) = 0 → ∀ x2 : Int32, x2 = nI k + 1 → (wY_run_50 post m r x2 (ya_n (uy_A u)) (yb_n (uy_B u)) (yv_h (uy_V u)) (yk_d (uy_K u)) (yk_t (uy_K u)) (yk_f (uy_K u)) (yl_n (uy_L u)) (ya_k (uy_A u)) (ya_x (uy_A u)) (ya_y (uy_A u)) (ya_w (uy_A u)) (yb_o (uy_B u)) (yb_x (uy_B u)) (yb_y (uy_B u)) (yb_z (uy_B u)) (yv_s (uy_V u)) (yv_n (uy_V u)) (yt_z (uy_T u)) (yt_k (uy_T u)) (yt_s (uy_T u)) (yt_n (uy_T u)) (yt_t (uy_T u)) (yt_e (uy_T u)) (yv_o (uy_V u)) (yk_w (uy_K u)) (yk_g (uy_K u)) (yk_s (uy_K u)) (yk_n (uy_K u)) (yl_a (uy_L u)) (yl_t (uy_L u)) (yl_l (uy_L u)))) ∧ (¬ yk_f (uy_K u) = 0 → post (nI i) u))) (yk A B V (yt_tk T tk' s) K L) (nI i) →
      ∃ n118, (wY_run_118 post (wY_run_50 post m) (nI i) (nI k) (ya_n A) (yb_n B) (yv_h V) (yk_d K) (yk_t K) (yk_f K) (yl_n L) n118 0 (ya_k A) (ya_x A) (ya_y A) (ya_w A) (yb_o B) (yb_x B) (yb_y B) (yb_z B) (yv_s V) (yv_n V) (yt_z (yt_sn T s)) (yt_k (yt_sn T s)) (yt_s (yt_sn T s)) (yt_n (yt_sn T s)) (yt_t (yt_sn T s)) (yt_e (yt_sn T s)) (yv_o V) (yk_w K) (yk_g K) (yk_s K) (yk_n K) (yl_a L) (yl_t L) (yl_l L)) := by
    have gen : ∀ (d x : Nat) (tk : Nat → Int32), x + d = 24 → (∀ t, t < x → tk t = s t) → ∃ tk', (∀ t, t < 24 → tk' t = s t) ∧ ∀ (post : Int32 → SY → Prop) (m k : Nat), wpY_execute (fun r u => ((yk_f (uy_K u) = 0 → ∀ x2 : Int32, x2 = nI k + 1 → (wY_run_50 post m r x2 (ya_n (uy_A u)) (yb_n (uy_B u)) (yv_h (uy_V u)) (yk_d (uy_K u)) (yk_t (uy_K u)) (yk_f (uy_K u)) (yl_n (uy_L u)) (ya_k (uy_A u)) (ya_x (uy_A u)) (ya_y (uy_A u)) (ya_w (uy_A u)) (yb_o (uy_B u)) (yb_x (uy_B u)) (yb_y (uy_B u)) (yb_z (uy_B u)) (yv_s (uy_V u)) (yv_n (uy_V u)) (yt_z (uy_T u)) (yt_k (uy_T u)) (yt_s (uy_T u)) (yt_n (uy_T u)) (yt_t (uy_T u)) (yt_e (uy_T u)) (yv_o (uy_V u)) (yk_w (uy_K u)) (yk_g (uy_K u)) (yk_s (uy_K u)) (yk_n (uy_K u)) (yl_a (uy_L u)) (yl_t (uy_L u)) (yl_l (uy_L u)))) ∧ (¬ yk_f (uy_K u) = 0 → post (nI i) u))) (yk A B V (yt_tk T tk' s) K L) (nI i) →
        (wY_run_118 post (wY_run_50 post m) (nI i) (nI k) (ya_n A) (yb_n B) (yv_h V) (yk_d K) (yk_t K) (yk_f K) (yl_n L) (d + 1) (nI x) (ya_k A) (ya_x A) (ya_y A) (ya_w A) (yb_o B) (yb_x B) (yb_y B) (yb_z B) (yv_s V) (yv_n V) (yt_z (yt_sn T s)) (yt_k (yt_sn T s)) (yt_s (yt_sn T s)) (yt_n (yt_sn T s)) (tk) (yt_e (yt_sn T s)) (yv_o V) (yk_w K) (yk_g K) (yk_s K) (yk_n K) (yl_a L) (yl_t L) (yl_l L)) := by
      intro d
      induction d with
      | zero =>
        intro x tk hx ht
        have e : x = 24 := by omega
        subst e
        exact ⟨tk, ht, fun post m k h => br_t (Int32.le_refl _) h⟩
      | succ d ih =>
        intro x tk hx ht
        obtain ⟨tk', h1, h2⟩ := ih (x + 1) (upd tk x (s x)) (by omega) (fun t h => by
          by_cases e : t = x
          · rw [e]; exact pk_us
          · rw [pk_un e]; exact ht t (by omega))
        refine ⟨tk', h1, fun post m k h => ?_⟩
        refine br_f (nI_ge (b := 24) (by omega) (by decide)) ⟨by_in (by omega), ?_⟩
        refine ix_st x 24 (s x) (by omega) ?_ rfl ?_
        · exact nm_r (nI_1 x) (h2 post m k h)
        · show vp_nar .boolean (s (nI x).toNatClampNeg) = s x
          rw [nI_clamp (by omega)]
          rcases b1 x (by omega) with w | w <;> rw [w] <;> rfl
    obtain ⟨tk', h1, h2⟩ := gen 24 0 (yt_t T) (by omega) (fun t ht => by omega)
    exact ⟨tk', h1, fun post m k h => ⟨25, h2 post m k h⟩⟩
  obtain ⟨tk, ht, hcp⟩ := cp
  have lt : nI i < yb_n B := by rw [hr.1, hS.1]; exact nI_lt hi (by omega)
  refine ⟨s, tk, hs, ht, fun c8 => ?_, fun c8 i' V' T' K' L' he' => ⟨fun hf => ?_, fun hf => ?_⟩⟩
  · intro post m k hk' hp
    refine y94 hr hS hl lv2 he (by omega) hk' (br_t lt ?_)
    refine hk _ ?_
    exact br_f (nI_ge (a := 8) c8 (by omega)) hp
  · intro post m k hk' hp
    refine y94 hr hS hl lv2 he (by omega) hk' (br_t lt ?_)
    refine hk _ ?_
    refine br_t (nI_le (b := 8) (by omega) (by decide)) ?_
    refine hcp post m k ?_
    refine he' _ ?_
    exact br_t hf (fun x2 e2 => by rw [e2, nI_1]; exact hp)
  · intro post m k hk' hp
    refine y94 hr hS hl lv2 he (by omega) hk' (br_t lt ?_)
    refine hk _ ?_
    refine br_t (nI_le (b := 8) (by omega) (by decide)) ?_
    refine hcp post m k ?_
    refine he' _ ?_
    exact br_f hf hp
/-- at the end of a loop's stretch -/
theorem yn_out {j lv a : Nat} (hr : rs_ S B n) (hS : so_ok S c n) (hj : j < n) (hl : yl_n L = nI (lv + 1)) (lv2 : lv < 2) (ha : yl_a L lv = nI j) (ht : yl_t L lv = nI a) (hb : yl_l L lv = nI a) : yn_ A B (en_ S j) V T K L (en_ S j) V T K (nI lv, yl_a L, yl_t L, yl_l L) := by
  intro post m k hk h
  have n14 := hS.2.1
  have el := en_le (hS.2.2 j hj)
  have lp : yl_n L - 1 = nI lv := by rw [hl, nI_pred]
  refine br_f (nI_ge (b := 1000) hk (by decide)) (br_f (by rw [hl]; exact nI_nle (by omega) (by omega)) ⟨pk_in lv 2 lv2 lp, ?_⟩)
  rw [ix_ev (a := yl_a L) lp, ha]
  refine ym_named hr hS hj ?_
  refine br_t (by rw [nI_1, show en_ S j - 1 + 1 = en_ S j from by omega]) ?_
  refine And.intro (pk_in lv 2 lv2 lp) (nm_r ((ix_ev lp).trans ha) (And.intro (pk_in lv 2 lv2 lp) (And.intro (pk_in lv 2 lv2 lp) (br_t ?_ ?_))))
  · rw [ix_ev (a := yl_t L) lp, ix_ev (a := yl_l L) lp, ht, hb]
  · exact nm_r (e' := nI lv) lp (nm_r (nI_1 k) h)
theorem yn_more {j lv a b : Nat} (hr : rs_ S B n) (hS : so_ok S c n) (hj : j < n) (k3 : st_k S j = 3) (hl : yl_n L = nI (lv + 1)) (lv2 : lv < 2) (ha : yl_a L lv = nI j) (ht : yl_t L lv = nI a) (hb : yl_l L lv = nI b) (ab : a < b) (b5 : b ≤ 5) :
    yn_ A B (en_ S j) V T K L (j + 1) (yv_h V, yv_o V, upd (yv_s V) (st_x S j) 1, upd (yv_n V) (st_x S j) (nI (a + 1))) T K (yl_n L, yl_a L, upd (yl_t L) lv (nI (a + 1)), yl_l L) := by
  intro post m k hk h
  have n14 := hS.2.1
  have so := hS.2.2 j hj
  have el := en_le so
  have lp : yl_n L - 1 = nI lv := by rw [hl, nI_pred]
  refine br_f (nI_ge (b := 1000) hk (by decide)) (br_f (by rw [hl]; exact nI_nle (by omega) (by omega)) ⟨pk_in lv 2 lv2 lp, ?_⟩)
  rw [ix_ev (a := yl_a L) lp, ha]
  refine ym_named hr hS hj ?_
  refine br_t (by rw [nI_1, show en_ S j - 1 + 1 = en_ S j from by omega]) ?_
  refine And.intro (pk_in lv 2 lv2 lp) (nm_r ((ix_ev lp).trans ha) (And.intro (pk_in lv 2 lv2 lp) (And.intro (pk_in lv 2 lv2 lp) (br_f ?_ (And.intro (pk_in lv 2 lv2 lp) ?_)))))
  · rw [ix_ev (a := yl_t L) lp, ix_ev (a := yl_l L) lp, ht, hb]
    exact fun w => absurd ((nI_eq (by omega) (by omega)).mp w) (by omega)
  · refine ix_st lv 2 (nI (a + 1)) lv2 (And.intro (by_in (by omega)) (And.intro (pk_in lv 2 lv2 lp) ?_)) lp (by rw [ix_ev (a := yl_t L) lp, ht, nI_1])
    rw [ix_ev (a := yb_x B) (i := nI j) rfl, rs_x hr hS hj, ix_ev (a := upd (yl_t L) lv (nI (a + 1))) lp, pk_us]
    refine ym_set (L := (yl_n L, yl_a L, upd (yl_t L) lv (nI (a + 1)), yl_l L)) (so.2.2.2.1 (Or.inr k3)).1 ?_
    refine nm_r (nI_1 k) ?_
    rw [nI_1]
    exact h
end
end
section
/-! both sides together -/
section
variable {E : gx_E} {S : gx_S} {C : gx_C} {W : gx_W} {O : gx_O} {A : gy_A} {B : gy_B} {M : gx_M} {H : gx_H} {V : gy_V} {T : gy_T} {K : gy_K} {L : gy_L} {c n : Nat}
def sh_ (M : gx_M) (V : gy_V) (k : Nat) : Prop := ∃ h, h ≤ k ∧ xm_h M = nI h ∧ yv_h V = nI h ∧ xm_v M = yv_o V
theorem sh_le {k k' : Nat} (h : sh_ M V k) (le : k ≤ k') : sh_ M V k' := by
  obtain ⟨a, b, c⟩ := h
  exact ⟨a, by omega, c⟩
theorem sh_fr {M' : gx_M} {k : Nat} (h : sh_ M V k) (f : fr_ M M') : sh_ M' V k := by
  obtain ⟨a, b, c, d, e⟩ := h
  exact ⟨a, b, f.2.1.trans c, d, f.2.2.2.2.trans e⟩
def fe_ (M : gx_M) (H : gx_H) (V : gy_V) (T : gy_T) : Prop := (∃ β, mr_ β M H V T) ∧ sh_ M V 1000
/-- both sides come to their end from here, with one answer, in states that belong to each other -/
def fin_ (E : gx_E) (S : gx_S) (C : gx_C) (W : gx_W) (O : gx_O) (A : gy_A) (B : gy_B) (p : Nat) (M : gx_M) (H : gx_H) (i k : Nat) (V : gy_V) (T : gy_T) (K : gy_K) (L : gy_L) : Prop :=
  ∃ r M' H' V' T' K' L', fe_ M' H' V' T' ∧ (∀ post : Int32 → SX → Prop, post r (xk E S C W O M' H') → ∃ m, (wX_execute_2 post m (nI p) (xe_n E) (xs_n S) (xc_f C) (xc_n C) (xo_n O) (xm_c M) (xm_h M) (xh_u H) (xh_r H) (xe_k E) (xe_x E) (xe_y E) (xe_w E) (xe_s E) (xe_i E) (xe_a E) (xs_o S) (xs_x S) (xs_y S) (xs_z S) (xc_o C) (xc_a C) (xc_b C) (xc_c C) (xc_k C) (xw_n W) (xw_r W) (xw_p W) (xw_t W) (xo_e O) (xo_l O) (xo_p O) (xm_s M) (xm_n M) (xm_l M) (xm_m M) (xm_v M) (xh_k H) (xh_s H) (xh_n H) (xh_c H))) ∧
    (∀ post : Int32 → SY → Prop, post r (yk A B V' T' K' L') → ∃ m, (wY_run_50 post m (nI i) (nI k) (ya_n A) (yb_n B) (yv_h V) (yk_d K) (yk_t K) (yk_f K) (yl_n L) (ya_k A) (ya_x A) (ya_y A) (ya_w A) (yb_o B) (yb_x B) (yb_y B) (yb_z B) (yv_s V) (yv_n V) (yt_z T) (yt_k T) (yt_s T) (yt_n T) (yt_t T) (yt_e T) (yv_o V) (yk_w K) (yk_g K) (yk_s K) (yk_n K) (yl_a L) (yl_t L) (yl_l L)))
theorem fin_x {p q i k : Nat} {M1 : gx_M} {H1 : gx_H} (g : xg_ E S C W O p M H q M1 H1) (h : fin_ E S C W O A B q M1 H1 i k V T K L) : fin_ E S C W O A B p M H i k V T K L := by
  obtain ⟨r, M', H', V', T', K', L', h1, h2, h3⟩ := h
  refine ⟨r, M', H', V', T', K', L', h1, fun post hp => ?_, h3⟩
  obtain ⟨m, hm⟩ := h2 post hp
  exact g post m hm
theorem fin_y {p i i' k : Nat} {V1 : gy_V} {T1 : gy_T} {K1 : gy_K} {L1 : gy_L} (hk : k < 1000) (g : yn_ A B i V T K L i' V1 T1 K1 L1) (h : fin_ E S C W O A B p M H i' (k + 1) V1 T1 K1 L1) : fin_ E S C W O A B p M H i k V T K L := by
  obtain ⟨r, M', H', V', T', K', L', h1, h2, h3⟩ := h
  refine ⟨r, M', H', V', T', K', L', h1, h2, fun post hp => ?_⟩
  obtain ⟨m, hm⟩ := h3 post hp
  exact ⟨m + 1, g post m k hk hm⟩
theorem fin_f {p i k : Nat} {r : Int32} {M1 : gx_M} {H1 : gx_H} {V1 : gy_V} {T1 : gy_T} {K1 : gy_K} {L1 : gy_L} (hk : k < 1000) (g : xf_ E S C W O p M H M1 H1) (hc : xm_c M1 = r) (y : yz_ A B i V T K L r V1 T1 K1 L1) (h : fe_ M1 H1 V1 T1) : fin_ E S C W O A B p M H i k V T K L := by
  refine ⟨r, M1, H1, V1, T1, K1, L1, h, fun post hp => g post (by rw [hc]; exact hp), fun post hp => ⟨1, y post 0 k hk hp⟩⟩
theorem fin_e {p k : Nat} (hk : k < 1000) (hr : rs_ S B n) (hS : so_ok S c n) (hp : xc_n C = nI p) (hl : yl_n L = nI 0) (h : fe_ M H V T) : fin_ E S C W O A B p M H n k V T K L := by
  refine ⟨-4, M, H, V, T, K, L, h, fun post hp' => ⟨1, br_t (by rw [hp]; exact Int32.le_refl _) hp'⟩, fun post hp' => ⟨1, yz_end hr hS hl rfl post 0 k hk hp'⟩⟩
/-- an expression, worked out on both sides -/
def jx_ (E : gx_E) (S : gx_S) (C : gx_C) (W : gx_W) (O : gx_O) (A : gy_A) (B : gy_B) (V : gy_V) (L : gy_L) (β : Nat → Nat → Prop) (M : gx_M) (H : gx_H) (T : gy_T) (K : gy_K) (e r p m t : Nat) : Prop :=
  ∃ β' M' H' T' K', mr_ β' M' H' V T' ∧ fr_ M M' ∧ yx_ A B V L e T K T' K' ∧
    ((xf_ E S C W O p M H M' H' ∧ ¬ yk_f K' = 0) ∨
     (xg_ E S C W O p M H m M' H' ∧ yk_f K' = 0 ∧ mt_ β' T' ∧ yg_ V T' ∧ yg_c T' ≤ yg_c T + 4 ∧ yk_t K' = nI (t + 1) ∧ vr_ β' (xm_s M' r) (xm_n M' r) (yk_s K' t) (yk_n K' t) ∧ ke_ β β' M M' r ∧ (∀ j, j < t → yk_s K' j = yk_s K j ∧ yk_n K' j = yk_n K j)))
theorem jx_e {β : Nat → Nat → Prop} {z e r p m t : Nat} (hE : xe_A E = A) (hA : ar_ok A c) (hK : kn_ok E c) (hz : xc_n C = nI z) (z350 : z ≤ 350) (hm : m ≤ z) (hc : ce_ E C 31 (kn_a E e) r p m) (he : e < c) (r6 : 6 ≤ r) (r14 : r < 14)
    (R : mr_ β M H V T) (mt : mt_ β T) (g : yg_ V T) (h24 : yg_c T + 4 ≤ 24) (ht : yk_t K = nI t) (t4 : t < 4) (hf : yk_f K = 0) : jx_ E S C W O A B V L β M H T K e r p m t := by
  subst hE
  have w7 := (hA.2.2 e he).2.2.2.2.1
  have sx := se_x (S := S) (W := W) (O := O) hA hK (se_ hA hK hz z350 31) hc he hm r6 (by omega) R mt g (by omega)
  obtain ⟨K', y1, y2, y3⟩ := yw_work (B := B) (V := V) (L := L) (T := T) hA he ht hf (by omega) g (by omega)
  have yg := ev_yg (V := V) hA e he T g (by omega)
  obtain ⟨β', M', H', h1, h2, h3, h4, h5⟩ := sx
  refine ⟨β', M', H', _, K', h1, h3, y1, ?_⟩
  cases hr : (ev_ (xe_A E) V e T).1 with
  | false =>
    exact Or.inl ⟨h5 hr, by rw [y3 hr]; decide⟩
  | true =>
    obtain ⟨a1, a2, a3⟩ := h4 hr
    obtain ⟨b1, b2, b3, b4, b5⟩ := y2 hr
    refine Or.inr ⟨a1, b2, h2, yg.1, by have := yg.2.2.1; omega, b1, ?_, a3, b5⟩
    rw [b3, b4]
    exact a2
def rn_ (M : gx_M) (H : gx_H) (V : gy_V) (T : gy_T) (K : gy_K) (L : gy_L) (lv k : Nat) : Prop := (∃ β, mr_ β M H V T) ∧ sh_ M V k ∧ yk_f K = 0 ∧ yl_n L = nI lv
/-- a statement begins -/
theorem jb_ {p i k lv : Nat} (hr : rs_ S B n) (hS : so_ok S c n) (hi : i < n) (cb : cb_ C p) (hin : in_ C p 18 0 0 0 (nI i)) (R : rn_ M H V T K L lv k) (lv2 : lv ≤ 2) (he : el_ S L n lv (i + 1)) (hk : k < 1000)
    (go : ∀ β M1 H1 T1, xg_ E S C W O p M H (p + 1) M1 H1 → xm_c M1 = nI i → sh_ M1 V k → xm_l M1 = xm_l M → xm_m M1 = xm_m M → mr_ β M1 H1 V T1 → mt_ β T1 → yg_ V T1 → yg_c T1 ≤ 8 →
      (∀ i' V' T' K' L', ye_ A B i V T1 K L i' V' T' K' L' → (yk_f K' = 0 → yn_ A B i V T K L i' V' T' K' L') ∧ (¬ yk_f K' = 0 → yz_ A B i V T K L (nI i) V' T' K' L')) → fin_ E S C W O A B p M H i k V T K L) : fin_ E S C W O A B p M H i k V T K L := by
  obtain ⟨⟨β, R⟩, sh, hf, hl⟩ := R
  obtain ⟨M1, f, b1, b2, b3, b4⟩ := xi_begin (E := E) (S := S) (W := W) (O := O) cb hin (mr_gd R) (fun r h6 h => mr_reg R (by omega) h)
  obtain ⟨R1, mc⟩ := mr_clear R b1
  obtain ⟨s, tk, s1, s2, s3, s4⟩ := yi_ (A := A) (K := K) hr hS hi hl lv2 he (rc_gy R) (fun r h6 h => rc_vy R h6 h)
  have cnt := rc_cnt R1 b2 s1
  have sh1 : sh_ M1 V k := by
    obtain ⟨a, b, c, d, e⟩ := sh
    exact ⟨a, b, b1.2.1.trans c, d, b1.2.2.2.2.1.trans e⟩
  by_cases c8 : 8 < yq_c s
  · exact fin_f hk (b3 (by omega)) b1.1 (s3 c8) ⟨⟨β, R1⟩, sh_le sh1 (by omega)⟩
  · have RT : mr_ β M1 H V (yt_tk T tk s) := R1
    obtain ⟨yg, yc⟩ := bg_yg RT s1 s2
    obtain ⟨β', R2, mt⟩ := bg_P RT mc s1 s2 f
    exact go β' M1 (xh_rc H f) (yt_tk T tk s) (b4 (by omega)) b1.1 sh1 b1.2.2.1 b1.2.2.2.1 R2 mt yg (by omega) (s4 c8)
theorem mr_var {β : Nat → Nat → Prop} {x : Nat} {s m s' m' : Int32} (R : mr_ β M H V T) (hx : x < 6) (v : vr_ β s m s' m') : mr_ β (xm_rg M x s m) H (yv_h V, yv_o V, upd (yv_s V) x s', upd (yv_n V) x m') T := by
  refine ⟨R.1, R.2.1, fun q hq => ?_, fun q hq => ?_⟩
  · by_cases e : q = x
    · subst e
      show vr_ β (upd (xm_s M) q s q) (upd (xm_n M) q m q) (upd (yv_s V) q s' q) (upd (yv_n V) q m' q)
      rw [pk_us, pk_us, pk_us, pk_us]
      exact v
    · show vr_ β (upd (xm_s M) x s q) (upd (xm_n M) x m q) (upd (yv_s V) x s' q) (upd (yv_n V) x m' q)
      rw [pk_un e, pk_un e, pk_un e, pk_un e]
      exact R.2.2.1 q hq
  · by_cases e : q = x
    · subst e
      show ∃ s n, vr_ β (upd (xm_s M) q _ q) (upd (xm_n M) q _ q) s n
      rw [pk_us, pk_us]
      exact ⟨s', m', v⟩
    · show ∃ s n, vr_ β (upd (xm_s M) x _ q) (upd (xm_n M) x _ q) s n
      rw [pk_un e, pk_un e]
      exact R.2.2.2 q hq
end
end
section
/-! one statement on both sides -/
section
variable {E : gx_E} {S : gx_S} {C : gx_C} {W : gx_W} {O : gx_O} {A : gy_A} {B : gy_B} {M : gx_M} {H : gx_H} {V : gy_V} {T : gy_T} {K : gy_K} {L : gy_L} {c n : Nat}
theorem jt_0 {p i k lv m z : Nat} (hE : xe_A E = A) (hA : ar_ok A c) (hK : kn_ok E c) (hr : rs_ S B n) (hS : so_ok S c n) (hz : xc_n C = nI z) (z350 : z ≤ 350) (hi : i < n) (kd : st_k S i = 0)
    (hin : in_ C p 18 0 0 0 (nI i)) (hc : ce_ E C 31 (kn_a E (st_y S i)) 6 (p + 1) m) (hmv : in_ C m 1 (st_x S i) 6 0 0) (hm : m < z) (R : rn_ M H V T K L lv k) (lv2 : lv ≤ 2) (he : el_ S L n lv (i + 1)) (hk : k < 1000)
    (cont : ∀ M' H' V' T' K', rn_ M' H' V' T' K' L lv (k + 1) → xm_l M' = xm_l M → xm_m M' = xm_m M → fin_ E S C W O A B (m + 1) M' H' (i + 1) (k + 1) V' T' K' L) : fin_ E S C W O A B p M H i k V T K L := by
  have l0 := ce_lt _ _ _ _ _ hc
  have so := (hS.2.2 i hi).2.2.2.1 (Or.inl kd)
  refine jb_ hr hS hi ⟨z, hz, by omega, z350⟩ hin R lv2 he hk (fun β M1 H1 T1 g c1 sh l1 l2 R1 mt yg yc yi => ?_)
  obtain ⟨_, _, hf, hl⟩ := R
  obtain ⟨β2, M2, H2, T2, K2, R2, f2, y2, hx⟩ := jx_e (S := S) (W := W) (O := O) (B := B) (L := L) (K := yk_tt K 0) (t := 0) hE hA hK hz z350 (by omega) hc so.2.2 (by omega) (by omega) R1 mt yg (by omega) rfl (by omega) hf
  have y99 := y99_n1 (K := K) hr hS hi (by omega) (by rw [if_pos (Or.inl kd)]) y2
  rcases hx with ⟨xf, ff⟩ | ⟨xg, ff, _, _, _, _, v, _, _⟩
  · exact fin_f hk (xg_f g xf) (f2.1.trans c1) ((yi _ _ _ _ _ (ye_fail y99 ff)).2 ff) ⟨⟨β2, R2⟩, sh_le (sh_fr sh f2) (by omega)⟩
  · have yn := (yi _ _ _ _ _ (ye_0 hr hS hi kd y99 ff)).1 ff
    have mv := xi_move (E := E) (S := S) (W := W) (O := O) (M := M2) (H := H2) ⟨z, hz, hm, z350⟩ hmv (by omega) (by omega) (vr_s v)
    exact fin_x (xg_tr (xg_tr g xg) mv) (fin_y hk yn (cont _ _ _ _ _ ⟨⟨β2, mr_var R2 so.1 v⟩, sh_le (sh_fr (sh_fr sh f2) fr_rg) (by omega), ff, hl⟩ (f2.2.2.1.trans l1) (f2.2.2.2.1.trans l2)))
theorem jt_2 {p i k lv m z b : Nat} (hE : xe_A E = A) (hA : ar_ok A c) (hK : kn_ok E c) (hr : rs_ S B n) (hS : so_ok S c n) (hz : xc_n C = nI z) (z350 : z ≤ 350) (hi : i < n) (kd : st_k S i = 2)
    (hin : in_ C p 18 0 0 0 (nI i)) (hc : ce_ E C 31 (kn_a E (st_x S i)) 6 (p + 1) m) (hif : in_ C m 19 6 0 0 (nI b)) (hm : m < z) (R : rn_ M H V T K L lv k) (lv2 : lv ≤ 2) (he : el_ S L n lv (i + 1)) (hk : k < 1000)
    (cont0 : ∀ M' H' T' K', rn_ M' H' V T' K' L lv (k + 1) → xm_l M' = xm_l M → xm_m M' = xm_m M → fin_ E S C W O A B b M' H' (en_ S i) (k + 1) V T' K' L)
    (cont1 : ∀ M' H' T' K', rn_ M' H' V T' K' L lv (k + 1) → xm_l M' = xm_l M → xm_m M' = xm_m M → fin_ E S C W O A B (m + 1) M' H' (i + 1) (k + 1) V T' K' L) : fin_ E S C W O A B p M H i k V T K L := by
  have l0 := ce_lt _ _ _ _ _ hc
  have so := (hS.2.2 i hi).2.2.2.2.1 (by omega)
  refine jb_ hr hS hi ⟨z, hz, by omega, z350⟩ hin R lv2 he hk (fun β M1 H1 T1 g c1 sh l1 l2 R1 mt yg yc yi => ?_)
  obtain ⟨_, _, hf, hl⟩ := R
  obtain ⟨β2, M2, H2, T2, K2, R2, f2, y2, hx⟩ := jx_e (S := S) (W := W) (O := O) (B := B) (L := L) (K := yk_tt K 0) (t := 0) hE hA hK hz z350 (by omega) hc so (by omega) (by omega) R1 mt yg (by omega) rfl (by omega) hf
  have y99 := y99_n1 (K := K) hr hS hi (by omega) (by rw [if_neg (by omega)]) y2
  rcases hx with ⟨xf, ff⟩ | ⟨xg, ff, _, _, _, _, v, _, _⟩
  · exact fin_f hk (xg_f g xf) (f2.1.trans c1) ((yi _ _ _ _ _ (ye_fail y99 ff)).2 ff) ⟨⟨β2, R2⟩, sh_le (sh_fr sh f2) (by omega)⟩
  · have yn := (yi _ _ _ _ _ (ye_2 hr hS hi kd y99 ff)).1 ff
    obtain ⟨i1, i2, i3, i4, i5⟩ := hif
    have jp := xi_ifn (E := E) (S := S) (W := W) (O := O) (M := M2) (H := H2) hz hm z350 i1 i2 (by omega) i5
    have rn : rn_ M2 H2 V T2 K2 L lv (k + 1) := ⟨⟨β2, R2⟩, sh_le (sh_fr sh f2) (by omega), ff, hl⟩
    by_cases s0 : yk_s K2 0 = 0
    · rw [if_pos s0] at yn
      rw [if_pos (v.1.trans s0)] at jp
      exact fin_x (xg_tr (xg_tr g xg) jp) (fin_y hk yn (cont0 _ _ _ _ rn (f2.2.2.1.trans l1) (f2.2.2.2.1.trans l2)))
    · rw [if_neg s0] at yn
      rw [if_neg (fun w => s0 (v.1.symm.trans w))] at jp
      exact fin_x (xg_tr (xg_tr g xg) jp) (fin_y hk yn (cont1 _ _ _ _ rn (f2.2.2.1.trans l1) (f2.2.2.2.1.trans l2)))
theorem mo_0 {v : Int32} (h : ¬ 1 ≤ v) : mo_ v = 0 := by
  unfold mo_
  by_cases h0 : 0 ≤ v
  · rw [if_pos h0]
    have h5 : v ≤ 5 := by
      rw [Int32.le_iff_toInt_le] at h ⊢
      have a : (1 : Int32).toInt = 1 := by decide
      have b : (5 : Int32).toInt = 5 := by decide
      omega
    rw [if_pos h5]
    have e := (mo_v h0 h5).1
    rw [e] at h
    have : ¬ 1 ≤ v.toNatClampNeg := fun w => h (nI_le (a := 1) w (by have := (mo_v h0 h5).2; omega))
    omega
  · rw [if_neg h0]
theorem mo_1 {v : Int32} (h : 1 ≤ v) : 1 ≤ mo_ v ∧ mo_ v ≤ 5 := by
  unfold mo_
  have h0 : (0 : Int32) ≤ v := Int32.le_trans (by decide) h
  rw [if_pos h0]
  by_cases h5 : v ≤ 5
  · rw [if_pos h5]
    have e := mo_v h0 h5
    rw [e.1] at h
    have := (nI_leI (a := 1) (b := v.toNatClampNeg) (by omega) (by omega)).mp h
    omega
  · rw [if_neg h5]; omega
/-- the loops outside are as they were -/
def ls_ (M : gx_M) (L : gy_L) (M' : gx_M) (L' : gy_L) (lv : Nat) : Prop := ∀ l, l < lv → xm_l M' l = xm_l M l ∧ xm_m M' l = xm_m M l ∧ yl_a L' l = yl_a L l ∧ yl_t L' l = yl_t L l ∧ yl_l L' l = yl_l L l
/-- a loop is being passed for the a-th time of b -/
def lo_ (M : gx_M) (L : gy_L) (lv j a b : Nat) : Prop := xm_l M lv = nI a ∧ xm_m M lv = nI b ∧ yl_a L lv = nI j ∧ yl_t L lv = nI a ∧ yl_l L lv = nI b
theorem jt_3 {p i k lv m z b : Nat} (hE : xe_A E = A) (hA : ar_ok A c) (hK : kn_ok E c) (hr : rs_ S B n) (hS : so_ok S c n) (hz : xc_n C = nI z) (z350 : z ≤ 350) (hi : i < n) (kd : st_k S i = 3)
    (hin : in_ C p 18 0 0 0 (nI i)) (hc : ce_ E C 31 (kn_a E (st_y S i)) 6 (p + 1) m) (hsl : in_ C m 15 lv 6 0 0) (hnx : in_ C (m + 1) 16 lv (st_x S i) 0 (nI (b + 1))) (hm : m + 1 < z) (R : rn_ M H V T K L lv k) (lv2 : lv < 2) (he : el_ S L n lv (i + 1)) (hk : k < 1000)
    (cont0 : ∀ M' H' T' K', rn_ M' H' V T' K' L lv (k + 1) → ls_ M L M' L lv → fin_ E S C W O A B (b + 1) M' H' (en_ S i) (k + 1) V T' K' L)
    (cont1 : ∀ M' H' V' T' K' L' q, 1 ≤ q → q ≤ 5 → rn_ M' H' V' T' K' L' (lv + 1) (k + 1) → ls_ M L M' L' lv → lo_ M' L' lv i 1 q → fin_ E S C W O A B (m + 2) M' H' (i + 1) (k + 1) V' T' K' L') : fin_ E S C W O A B p M H i k V T K L := by
  have l0 := ce_lt _ _ _ _ _ hc
  have so := (hS.2.2 i hi).2.2.2.1 (Or.inr kd)
  refine jb_ hr hS hi ⟨z, hz, by omega, z350⟩ hin R (by omega) he hk (fun β M1 H1 T1 g c1 sh l1 l2 R1 mt yg yc yi => ?_)
  obtain ⟨_, _, hf, hl⟩ := R
  obtain ⟨β2, M2, H2, T2, K2, R2, f2, y2, hx⟩ := jx_e (S := S) (W := W) (O := O) (B := B) (L := L) (K := yk_tt K 0) (t := 0) hE hA hK hz z350 (by omega) hc so.2.2 (by omega) (by omega) R1 mt yg (by omega) rfl (by omega) hf
  have y99 := y99_n1 (K := K) hr hS hi (by omega) (by rw [if_pos (Or.inr kd)]) y2
  have lm : xm_l M2 = xm_l M := f2.2.2.1.trans l1
  have mm : xm_m M2 = xm_m M := f2.2.2.2.1.trans l2
  rcases hx with ⟨xf, ff⟩ | ⟨xg, ff, _, _, _, _, v, _, _⟩
  · exact fin_f hk (xg_f g xf) (f2.1.trans c1) ((yi _ _ _ _ _ (ye_fail y99 ff)).2 ff) ⟨⟨β2, R2⟩, sh_le (sh_fr sh f2) (by omega)⟩
  · have cbm : cb_ C m := ⟨z, hz, by omega, z350⟩
    have cbm1 : cb_ C (m + 1) := ⟨z, hz, hm, z350⟩
    by_cases s1 : yk_s K2 0 = 1
    · have xs1 : xm_s M2 6 = 1 := v.1.trans s1
      have nn := vr_i v xs1
      have sl := xi_setl (E := E) (S := S) (W := W) (O := O) (H := H2) cbm hsl lv2 (by omega) xs1
      rw [nn] at sl
      have shs : sh_ (xm_sl M2 lv (mo_ (yk_n K2 0))) V k := by
        obtain ⟨h0, q1, q2, q3, q4⟩ := sh_fr sh f2
        exact ⟨h0, q1, q2, q3, q4⟩
      have Rs : mr_ β2 (xm_sl M2 lv (mo_ (yk_n K2 0))) H2 V T2 := R2
      have e1 : xm_l (xm_sl M2 lv (mo_ (yk_n K2 0))) lv = nI 0 := pk_us
      have e2 : xm_m (xm_sl M2 lv (mo_ (yk_n K2 0))) lv = nI (mo_ (yk_n K2 0)) := pk_us
      by_cases h1 : 1 ≤ yk_n K2 0
      · obtain ⟨q1, q5⟩ := mo_1 h1
        have yn := (yi _ _ _ _ _ (ye_3l hr hS hi kd y99 ff s1 h1 hl lv2)).1 ff
        have nx := xi_next1 (E := E) (S := S) (W := W) (O := O) (H := H2) cbm1 hnx lv2 (by omega) e1 e2 (by omega) q5
        refine fin_x (xg_tr (xg_tr (xg_tr g xg) sl) nx) (fin_y hk yn (cont1 _ _ _ _ _ _ (mo_ (yk_n K2 0)) q1 q5 ⟨⟨β2, mr_var (M := xm_nl (xm_sl M2 lv (mo_ (yk_n K2 0))) lv 1) Rs so.1 (vr_1 1)⟩, sh_le shs (by omega), ff, rfl⟩ ?_ ?_))
        · intro l hl'
          have n1 : xm_l (xm_rg (xm_nl (xm_sl M2 lv (mo_ (yk_n K2 0))) lv 1) (st_x S i) 1 (nI 1)) l = xm_l M2 l := (pk_un (by omega)).trans (pk_un (by omega))
          have n2 : xm_m (xm_rg (xm_nl (xm_sl M2 lv (mo_ (yk_n K2 0))) lv 1) (st_x S i) 1 (nI 1)) l = xm_m M2 l := pk_un (by omega)
          exact ⟨n1.trans (by rw [lm]), n2.trans (by rw [mm]), pk_un (by omega), pk_un (by omega), pk_un (by omega)⟩
        · exact ⟨pk_us, pk_us, pk_us, pk_us, pk_us⟩
      · have yn := (yi _ _ _ _ _ (ye_3z hr hS hi kd y99 ff s1 h1)).1 ff
        rw [mo_0 h1] at sl shs Rs e1 e2
        have nx := xi_next0 (E := E) (S := S) (W := W) (O := O) (H := H2) cbm1 hnx lv2 e1 e2 (Nat.le_refl _) (by omega)
        refine fin_x (xg_tr (xg_tr (xg_tr g xg) sl) nx) (fin_y hk yn (cont0 _ _ _ _ ⟨⟨β2, Rs⟩, sh_le shs (by omega), ff, hl⟩ ?_))
        intro l hl'
        have n1 : xm_l (xm_sl M2 lv 0) l = xm_l M2 l := pk_un (by omega)
        have n2 : xm_m (xm_sl M2 lv 0) l = xm_m M2 l := pk_un (by omega)
        exact ⟨n1.trans (by rw [lm]), n2.trans (by rw [mm]), rfl, rfl, rfl⟩
    · have xs1 : ¬ xm_s M2 6 = 1 := fun w => s1 (v.1.symm.trans w)
      have ef := xi_setlf (E := E) (S := S) (W := W) (O := O) (H := H2) cbm hsl (by omega) xs1
      have yz := (yi _ _ _ _ _ (ye_3f hr hS hi kd y99 ff s1)).2 (by show ¬ (1 : Int32) = 0; decide)
      exact fin_f hk (xg_f (xg_tr g xg) ef) (f2.1.trans c1) yz ⟨⟨β2, R2⟩, sh_le (sh_fr sh f2) (by omega)⟩
theorem jt_4 {p i k lv m z : Nat} (hE : xe_A E = A) (hA : ar_ok A c) (hK : kn_ok E c) (hr : rs_ S B n) (hS : so_ok S c n) (hz : xc_n C = nI z) (z350 : z ≤ 350) (hi : i < n) (kd : st_k S i = 4)
    (hin : in_ C p 18 0 0 0 (nI i)) (hc : ce_ E C 31 (kn_a E (st_x S i)) 6 (p + 1) m) (hsh : in_ C m 14 6 0 0 0) (hm : m < z) (R : rn_ M H V T K L lv k) (lv2 : lv ≤ 2) (he : el_ S L n lv (i + 1)) (hk : k < 1000)
    (cont : ∀ M' H' V' T' K', rn_ M' H' V' T' K' L lv (k + 1) → xm_l M' = xm_l M → xm_m M' = xm_m M → fin_ E S C W O A B (m + 1) M' H' (i + 1) (k + 1) V' T' K' L) : fin_ E S C W O A B p M H i k V T K L := by
  have l0 := ce_lt _ _ _ _ _ hc
  have so := (hS.2.2 i hi).2.2.2.2.1 (by omega)
  refine jb_ hr hS hi ⟨z, hz, by omega, z350⟩ hin R lv2 he hk (fun β M1 H1 T1 g c1 sh l1 l2 R1 mt yg yc yi => ?_)
  obtain ⟨_, _, hf, hl⟩ := R
  obtain ⟨β2, M2, H2, T2, K2, R2, f2, y2, hx⟩ := jx_e (S := S) (W := W) (O := O) (B := B) (L := L) (K := yk_tt K 0) (t := 0) hE hA hK hz z350 (by omega) hc so (by omega) (by omega) R1 mt yg (by omega) rfl (by omega) hf
  have y99 := y99_n1 (K := K) hr hS hi (by omega) (by rw [if_neg (by omega)]) y2
  rcases hx with ⟨xf, ff⟩ | ⟨xg, ff, _, _, _, _, v, _, _⟩
  · exact fin_f hk (xg_f g xf) (f2.1.trans c1) ((yi _ _ _ _ _ (ye_fail y99 ff)).2 ff) ⟨⟨β2, R2⟩, sh_le (sh_fr sh f2) (by omega)⟩
  · obtain ⟨h0, hk0, q1, q2, q3⟩ := sh_fr sh f2
    have yn := (yi _ _ _ _ _ (ye_4 hr hS hi kd y99 ff q2 (by omega) (fun s2 => by
      obtain ⟨x, y, _, e2, b⟩ := vr_t v (v.1.trans s2)
      exact ⟨y, (R2.2.1 _ _ b).2.1, e2⟩))).1 ff
    have xs := xi_show (E := E) (S := S) (W := W) (O := O) (H := H2) ⟨z, hz, hm, z350⟩ hsh (by omega) q1 (by omega) (fun a b => by
      have s2 : xm_s M2 6 = 2 := by
        rcases vr_s v with w | w | w
        · exact absurd w a
        · exact absurd w b
        · exact w
      obtain ⟨x, y, e1, _, b⟩ := vr_t v s2
      exact ⟨x, (R2.2.1 _ _ b).1, e1⟩)
    have val : (4 * (sh_n H2 (xm_s M2 6) (xm_n M2 6)).toInt64 + (xm_s M2 6).toInt64) = (4 * sh_y T2 (yk_s K2 0) (yk_n K2 0) + (yk_s K2 0).toInt64) := by
      obtain ⟨vs, vv⟩ := v
      rw [← vs]
      unfold sh_n sh_y
      rcases vv with ⟨a1, a2⟩ | ⟨a1, a2⟩ | ⟨a1, x, y, e1, e2, b⟩
      · rw [a1, if_pos rfl, if_neg (by decide), if_neg (by decide)]
        rfl
      · rw [a1, if_neg (by decide), if_pos rfl, if_neg (by decide), if_pos rfl, a2]
      · have tc := R2.2.1 _ _ b
        rw [a1, if_neg (by decide), if_neg (by decide), if_pos rfl, e1, e2, nI_clamp (by have := tc.1; omega), nI_clamp (by have := tc.2.1; omega), tc.2.2.2.2.2.1]
    rw [val] at xs
    refine fin_x (xg_tr (xg_tr g xg) xs) (fin_y hk yn (cont _ _ _ _ _ ⟨⟨β2, R2⟩, ⟨h0 + 1, by omega, rfl, rfl, ?_⟩, ff, hl⟩ (f2.2.2.1.trans l1) (f2.2.2.2.1.trans l2)))
    show (if h0 < 30 then vp_updL (xm_v M2) h0 _ else xm_v M2) = (if h0 < 30 then vp_updL (yv_o V) h0 _ else yv_o V)
    rw [q3]
end
end
section
/-! put, on both sides -/
section
variable {E : gx_E} {S : gx_S} {C : gx_C} {W : gx_W} {O : gx_O} {A : gy_A} {B : gy_B} {M : gx_M} {H : gx_H} {V : gy_V} {T : gy_T} {K : gy_K} {L : gy_L} {c n : Nat}
theorem yp_putf (hn : ¬ (yk_s K 0 = 2 ∧ yk_s K 1 = 1)) : ∀ post : SY → Prop, post (yk A B V T (yk_f1 K) L) → wpY_put post (yk A B V T K L) := by
  intro post h
  by_cases s : yk_s K 0 = 2
  · exact br_t s (br_f (fun w => hn ⟨s, w⟩) h)
  · exact br_f s h
theorem jt_1 {p i k lv m1 m2 m z : Nat} (hE : xe_A E = A) (hA : ar_ok A c) (hK : kn_ok E c) (hr : rs_ S B n) (hS : so_ok S c n) (hz : xc_n C = nI z) (z350 : z ≤ 350) (hi : i < n) (kd : st_k S i = 1)
    (hin : in_ C p 18 0 0 0 (nI i)) (hc1 : ce_ E C 31 (kn_a E (st_x S i)) 6 (p + 1) m1) (hc2 : ce_ E C 31 (kn_a E (st_y S i)) 7 m1 m2) (hc3 : ce_ E C 31 (kn_a E (st_z S i)) 8 m2 m) (hst : in_ C m 13 6 7 8 0) (hm : m < z) (R : rn_ M H V T K L lv k) (lv2 : lv ≤ 2) (he : el_ S L n lv (i + 1)) (hk : k < 1000)
    (cont : ∀ M' H' T' K', rn_ M' H' V T' K' L lv (k + 1) → xm_l M' = xm_l M → xm_m M' = xm_m M → fin_ E S C W O A B (m + 1) M' H' (i + 1) (k + 1) V T' K' L) : fin_ E S C W O A B p M H i k V T K L := by
  have l0 := ce_lt _ _ _ _ _ hc1
  have l0' := ce_lt _ _ _ _ _ hc2
  have l0'' := ce_lt _ _ _ _ _ hc3
  have so := (hS.2.2 i hi).2.2.2.2.1 (by omega)
  have sy := (hS.2.2 i hi).2.2.2.2.2.1 kd
  refine jb_ hr hS hi ⟨z, hz, by omega, z350⟩ hin R lv2 he hk (fun β M1 H1 T1 g c1 sh l1 l2 R1 mt yg yc yi => ?_)
  obtain ⟨_, _, hf, hl⟩ := R
  obtain ⟨βa, Ma, Ha, Ta, Ka, Ra, fa, ya, hxa⟩ := jx_e (S := S) (W := W) (O := O) (B := B) (L := L) (K := yk_tt K 0) (t := 0) hE hA hK hz z350 (by omega) hc1 so (by omega) (by omega) R1 mt yg (by omega) rfl (by omega) hf
  rcases hxa with ⟨xf, ff⟩ | ⟨xga, ffa, mta, yga, yca, ta, va, kea, _⟩
  · exact fin_f hk (xg_f g xf) (fa.1.trans c1) ((yi _ _ _ _ _ (ye_fail (y99_1a hr hS hi kd ya ff) ff)).2 ff) ⟨⟨βa, Ra⟩, sh_le (sh_fr sh fa) (by omega)⟩
  · obtain ⟨βb, Mb, Hb, Tb, Kb, Rb, fb, yb, hxb⟩ := jx_e (S := S) (W := W) (O := O) (B := B) (L := L) (K := Ka) (t := 1) hE hA hK hz z350 (by omega) hc2 sy.2.1 (by omega) (by omega) Ra mta yga (by omega) ta (by omega) ffa
    rcases hxb with ⟨xf, ff⟩ | ⟨xgb, ffb, mtb, ygb, ycb, tb, vb, keb, bb⟩
    · exact fin_f hk (xg_f (xg_tr g xga) xf) (fb.1.trans (fa.1.trans c1)) ((yi _ _ _ _ _ (ye_fail (y99_1b hr hS hi kd ya ffa yb ff) ff)).2 ff) ⟨⟨βb, Rb⟩, sh_le (sh_fr (sh_fr sh fa) fb) (by omega)⟩
    · obtain ⟨βc, Mc, Hc, Tc, Kc, Rc, fc, yc', hxc⟩ := jx_e (S := S) (W := W) (O := O) (B := B) (L := L) (K := Kb) (t := 2) hE hA hK hz z350 (by omega) hc3 sy.2.2.2 (by omega) (by omega) Rb mtb ygb (by omega) tb (by omega) ffb
      have y99 := y99_1c (K := K) hr hS hi kd ya ffa yb ffb yc'
      have shc := sh_fr (sh_fr (sh_fr sh fa) fb) fc
      have cc := fc.1.trans (fb.1.trans (fa.1.trans c1))
      rcases hxc with ⟨xf, ff⟩ | ⟨xgc, ffc, mtc, ygc, ycc, tc, vc, kec, bc⟩
      · exact fin_f hk (xg_f (xg_tr (xg_tr g xga) xgb) xf) cc ((yi _ _ _ _ _ (ye_fail y99 ff)).2 ff) ⟨⟨βc, Rc⟩, sh_le shc (by omega)⟩
      · have gg := xg_tr (xg_tr (xg_tr g xga) xgb) xgc
        have v0 := kec 6 (by omega) _ _ (keb 6 (by omega) _ _ va)
        have v1 := kec 7 (by omega) _ _ vb
        rw [← (bb 0 (by omega)).1, ← (bb 0 (by omega)).2, ← (bc 0 (by omega)).1, ← (bc 0 (by omega)).2] at v0
        rw [← (bc 1 (by omega)).1, ← (bc 1 (by omega)).2] at v1
        have cbm : cb_ C m := ⟨z, hz, hm, z350⟩
        have lm : xm_l Mc = xm_l M := fc.2.2.1.trans (fb.2.2.1.trans (fa.2.2.1.trans l1))
        have mm : xm_m Mc = xm_m M := fc.2.2.2.1.trans (fb.2.2.2.1.trans (fa.2.2.2.1.trans l2))
        by_cases tk : yk_s Kc 0 = 2 ∧ yk_s Kc 1 = 1
        · have x0 : xm_s Mc 6 = 2 := v0.1.trans tk.1
          have x1 : xm_s Mc 7 = 1 := v1.1.trans tk.2
          obtain ⟨x, y, e1, e2, b⟩ := vr_t v0 x0
          have key := vr_i v1 x1
          have tcc := Rc.2.1 _ _ b
          obtain ⟨zz, z6, hzz, hss, hdd⟩ := tcc.2.2.2.2.1
          have c6 := tcc.2.2.2.1.2.2.2
          have hcz : hs_c (xh_s Hc) (8 * x) = zz := (nI_eq (by omega) (by omega)).mp (tcc.2.2.2.2.2.2.1.trans hzz)
          obtain ⟨xa, xb⟩ := xr_store (E := E) (S := S) (C := C) (W := W) (O := O) (a := 6) (b := 7) (d := 8) (by omega) (by omega) (by omega) tcc.1 x0 x1 e1 tcc.2.2.2.1 (mr_sv Rc b) (tcc.2.2.2.2.2.1.trans hzz) hcz (vr_s vc)
          obtain ⟨y1, y2⟩ := yp_put (A := A) (B := B) (V := V) (L := L) (key := yk_n Kc 1) (s := yk_s Kc 2) (n := yk_n Kc 2) tcc.2.1 hzz z6 hss hdd tk.1 e2 tk.2 rfl rfl rfl
          have lk := tcc.2.2.2.2.2.2.2 (xm_n Mc 7)
          have eqv : ((hs_l (xh_s Hc) (xh_k Hc) (xh_n Hc) (8 * x) (xm_n Mc 7)).1 = 0 ∧ xm_s Mc 8 ≠ 0 ∧ zz = 6) ↔ ((yf_l Tc y (yk_n Kc 1)).1 = 0 ∧ yk_s Kc 2 ≠ 0 ∧ zz = 6) := by
            rw [lk.1, vc.1, key]
          by_cases full : (yf_l Tc y (yk_n Kc 1)).1 = 0 ∧ yk_s Kc 2 ≠ 0 ∧ zz = 6
          · have sf := xi_store0 cbm hst (xa (eqv.mpr full))
            have yz := (yi _ _ _ _ _ (ye_1 hr hS hi kd y99 ffc (y1 full))).2 (by show ¬ (1 : Int32) = 0; decide)
            exact fin_f hk (xg_f gg sf) cc yz ⟨⟨βc, Rc⟩, sh_le shc (by omega)⟩
          · obtain ⟨H', xR, xst⟩ := xb (fun w => full (eqv.mp w))
            obtain ⟨T', yR, yst⟩ := y2 full
            have sg := xi_store1 cbm hst xst
            have yn := (yi _ _ _ _ _ (ye_1 hr hS hi kd y99 ffc yst)).1 ffc
            rw [key] at xR
            exact fin_x (xg_tr gg sg) (fin_y hk yn (cont _ _ _ _ ⟨⟨βc, mr_put Rc b vc hzz z6 xR yR⟩, sh_le shc (by omega), ffc, hl⟩ lm mm))
        · have sf := xi_store0 (E := E) (S := S) (W := W) (O := O) (M := Mc) (H := Hc) cbm hst (xr_storef (by omega) (by omega) (fun w => tk ⟨v0.1.symm.trans w.1, v1.1.symm.trans w.2⟩))
          have yz := (yi _ _ _ _ _ (ye_1 hr hS hi kd y99 ffc (yp_putf tk))).2 (by show ¬ (1 : Int32) = 0; decide)
          exact fin_f hk (xg_f gg sf) cc yz ⟨⟨βc, Rc⟩, sh_le shc (by omega)⟩
end
end
section
/-! a stretch of statements on both sides -/
def ct_ (r : Nat) : Nat := if r = 0 then 1 else if r = 1 then 6 else 30
theorem ct_1 (r : Nat) : 1 ≤ ct_ r := by
  unfold ct_
  split
  · omega
  · split <;> omega
theorem ct_l {lv l : Nat} (h : lv < 2) : 1 + 5 * (l * ct_ (2 - (lv + 1)) + 1) ≤ (l + 1) * ct_ (2 - lv) := by
  have : lv = 0 ∨ lv = 1 := by omega
  rcases this with e | e
  · subst e
    show 1 + 5 * (l * 6 + 1) ≤ (l + 1) * 30
    omega
  · subst e
    show 1 + 5 * (l * 1 + 1) ≤ (l + 1) * 6
    omega
theorem ct_s {i e x : Nat} (h : i < e) : (e - i) * x = x + (e - (i + 1)) * x := by
  rw [show e - i = (e - (i + 1)) + 1 from by omega, Nat.succ_mul]
  omega
theorem ct_a {i f e x : Nat} (h1 : i ≤ f) (h2 : f ≤ e) : (e - i) * x = (f - i) * x + (e - f) * x := by
  rw [← Nat.add_mul]
  exact congrArg (· * x) (by omega)
section
variable {E : gx_E} {S : gx_S} {C : gx_C} {W : gx_W} {O : gx_O} {A : gy_A} {B : gy_B} {c n z : Nat}
theorem ls_rf {M : gx_M} {L : gy_L} {lv : Nat} : ls_ M L M L lv := fun _ _ => ⟨rfl, rfl, rfl, rfl, rfl⟩
theorem ls_tr {M M1 M2 : gx_M} {L L1 L2 : gy_L} {lv lv' : Nat} (a : ls_ M L M1 L1 lv) (b : ls_ M1 L1 M2 L2 lv') (h : lv ≤ lv') : ls_ M L M2 L2 lv := fun l hl => by
  obtain ⟨a1, a2, a3, a4, a5⟩ := a l hl
  obtain ⟨b1, b2, b3, b4, b5⟩ := b l (by omega)
  exact ⟨b1.trans a1, b2.trans a2, b3.trans a3, b4.trans a4, b5.trans a5⟩
theorem ls_m {M M1 : gx_M} {L : gy_L} {lv : Nat} (h1 : xm_l M1 = xm_l M) (h2 : xm_m M1 = xm_m M) : ls_ M L M1 L lv := fun l _ => ⟨by rw [h1], by rw [h2], rfl, rfl, rfl⟩
theorem el_ls {M M1 : gx_M} {L L1 : gy_L} {lv e : Nat} (a : ls_ M L M1 L1 lv) (h : el_ S L n lv e) : el_ S L1 n lv e := fun z => by
  obtain ⟨j, h1, h2, h3⟩ := h z
  exact ⟨j, (a (lv - 1) (by omega)).2.2.1.trans h1, h2, h3⟩
def rk_ (E : gx_E) (S : gx_S) (C : gx_C) (W : gx_W) (O : gx_O) (A : gy_A) (B : gy_B) (M : gx_M) (L : gy_L) (lv q e k b : Nat) : Prop :=
  ∀ k' M' H' V' T' K' L', k ≤ k' → k' ≤ k + b → rn_ M' H' V' T' K' L' lv k' → ls_ M L M' L' lv → fin_ E S C W O A B q M' H' e k' V' T' K' L'
def rg_P (E : gx_E) (S : gx_S) (C : gx_C) (W : gx_W) (O : gx_O) (A : gy_A) (B : gy_B) (n z d : Nat) : Prop :=
  ∀ i e lv p q k M H V T K L, cs_ E S C d i e lv p q → e ≤ n → q ≤ z → lv ≤ 2 → el_ S L n lv e → rn_ M H V T K L lv k → k + (e - i) * ct_ (2 - lv) < 1000 →
    rk_ E S C W O A B M L lv q e k ((e - i) * ct_ (2 - lv)) → fin_ E S C W O A B p M H i k V T K L
/-- the passes of a loop -/
theorem rg_loop {d i lv m b : Nat} (hr : rs_ S B n) (hS : so_ok S c n) (hz : xc_n C = nI z) (z350 : z ≤ 350) (hi : i < n) (kd : st_k S i = 3) (ef : en_ S i ≤ n) (lv2 : lv < 2) (hb : b < z) (hm : m + 1 < z)
    (hnx : in_ C (m + 1) 16 lv (st_x S i) 0 (nI (b + 1))) (hj : in_ C b 17 0 0 0 (nI (m + 1))) (hc : cs_ E S C d (i + 1) (en_ S i) (lv + 1) (m + 2) b) (ih : rg_P E S C W O A B n z d) :
    ∀ (r a q k : Nat) (M : gx_M) (H : gx_H) (V : gy_V) (T : gy_T) (K : gy_K) (L : gy_L), a + r = q → 1 ≤ a → q ≤ 5 → rn_ M H V T K L (lv + 1) k → lo_ M L lv i a q → k + (r + 1) * ((en_ S i - (i + 1)) * ct_ (2 - (lv + 1)) + 1) < 1000 →
      rk_ E S C W O A B M L lv (b + 1) (en_ S i) k ((r + 1) * ((en_ S i - (i + 1)) * ct_ (2 - (lv + 1)) + 1)) → fin_ E S C W O A B (m + 2) M H (i + 1) k V T K L := by
  have so := (hS.2.2 i hi).2.2.2.1 (Or.inr kd)
  intro r
  induction r with
  | zero =>
    intro a q k M H V T K L haq a1 q5 R lo bud cont
    have eaq : a = q := by omega
    subst eaq
    refine ih (i + 1) (en_ S i) (lv + 1) (m + 2) b k M H V T K L hc ef (by omega) (by omega) (fun _ => ⟨i, lo.2.2.1, hi, Nat.le_refl _⟩) R (by omega) ?_
    intro k' M' H' V' T' K' L' hk1 hk2 R' ls
    obtain ⟨n1, n2, n3, n4, n5⟩ := ls lv (by omega)
    have jp := xi_jump (E := E) (S := S) (W := W) (O := O) (M := M') (H := H') hz hb z350 hj.1 hj.2.2.2.2
    have nx := xi_next0 (E := E) (S := S) (W := W) (O := O) (M := M') (H := H') ⟨z, hz, hm, z350⟩ hnx lv2 (n1.trans lo.1) (n2.trans lo.2.1) (Nat.le_refl _) q5
    have yn := yn_out (A := A) (V := V') (T := T') (K := K') hr hS hi R'.2.2.2 lv2 (n3.trans lo.2.2.1) (n4.trans lo.2.2.2.1) (n5.trans lo.2.2.2.2)
    refine fin_x (xg_tr jp nx) (fin_y (by omega) yn (cont (k' + 1) M' H' V' T' K' _ (by omega) (by omega) ⟨R'.1, sh_le R'.2.1 (by omega), R'.2.2.1, rfl⟩ ?_))
    intro l hl
    exact ls l (by omega)
  | succ r ih2 =>
    intro a q k M H V T K L haq a1 q5 R lo bud cont
    rw [Nat.succ_mul] at bud cont
    refine ih (i + 1) (en_ S i) (lv + 1) (m + 2) b k M H V T K L hc ef (by omega) (by omega) (fun _ => ⟨i, lo.2.2.1, hi, Nat.le_refl _⟩) R (by omega) ?_
    intro k' M' H' V' T' K' L' hk1 hk2 R' ls
    obtain ⟨n1, n2, n3, n4, n5⟩ := ls lv (by omega)
    have jp := xi_jump (E := E) (S := S) (W := W) (O := O) (M := M') (H := H') hz hb z350 hj.1 hj.2.2.2.2
    have nx := xi_next1 (E := E) (S := S) (W := W) (O := O) (M := M') (H := H') ⟨z, hz, hm, z350⟩ hnx lv2 (by omega) (n1.trans lo.1) (n2.trans lo.2.1) (by omega) q5
    have yn := yn_more (A := A) (V := V') (T := T') (K := K') hr hS hi kd R'.2.2.2 lv2 (n3.trans lo.2.2.1) (n4.trans lo.2.2.2.1) (n5.trans lo.2.2.2.2) (by omega) q5
    obtain ⟨⟨β, Rm⟩, sh, ff, hl⟩ := R'
    refine fin_x (xg_tr jp nx) (fin_y (by omega) yn ?_)
    refine ih2 (a + 1) q (k' + 1) _ _ _ _ _ _ (by omega) (by omega) q5 ⟨⟨β, mr_var (M := xm_nl M' lv (a + 1)) Rm so.1 (vr_1 (nI (a + 1)))⟩, sh_le sh (by omega), ff, hl⟩ ⟨pk_us, n2.trans lo.2.1, n3.trans lo.2.2.1, pk_us, n5.trans lo.2.2.2.2⟩ (by omega) ?_
    intro k2 M2 H2 V2 T2 K2 L2 h1 h2 R2 ls2
    refine cont k2 M2 H2 V2 T2 K2 L2 (by omega) (by omega) R2 (fun l hl => ?_)
    obtain ⟨q1, q2, q3, q4, q5'⟩ := ls2 l hl
    obtain ⟨w1, w2, w3, w4, w5⟩ := ls l (by omega)
    exact ⟨q1.trans ((pk_un (by omega)).trans w1), q2.trans w2, q3.trans w3, q4.trans ((pk_un (by omega)).trans w4), q5'.trans w5⟩
theorem rg_ (hE : xe_A E = A) (hA : ar_ok A c) (hK : kn_ok E c) (hr : rs_ S B n) (hS : so_ok S c n) (hz : xc_n C = nI z) (z350 : z ≤ 350) : ∀ d, rg_P E S C W O A B n z d := by
  have hk4 : ∀ j, j < n → st_k S j ≤ 4 := fun j hj => (hS.2.2 j hj).2.1
  intro d
  induction d with
  | zero =>
    intro i e lv p q k M H V T K L h he hq lv2 el R bud cont
    obtain ⟨rfl, rfl⟩ := h
    exact cont k M H V T K L (Nat.le_refl _) (by omega) R ls_rf
  | succ d ih =>
    intro i e lv p q k M H V T K L h he hq lv2 el R bud cont
    rcases h with ⟨rfl, rfl⟩ | ⟨lt, hin, h0, h1, h2, h3, h4⟩
    · exact cont k M H V T K L (Nat.le_refl _) (by omega) R ls_rf
    · have k4 := hk4 i (by omega)
      have el1 : el_ S L n lv (i + 1) := el_le el lt
      have c1 := ct_1 (2 - lv)
      have cs := ct_s (x := ct_ (2 - lv)) lt
      have ks : st_k S i = 0 ∨ st_k S i = 1 ∨ st_k S i = 2 ∨ st_k S i = 3 ∨ st_k S i = 4 := by clear h0 h1 h2 h3 h4; omega
      rcases ks with kd | kd | kd | kd | kd
      · obtain ⟨m, a, i1, b⟩ := h0 kd
        clear h0 h1 h2 h3 h4
        have lb := (cs_le _ _ _ _ _ _ n 0 hk4 he b).2
        refine jt_0 hE hA hK hr hS hz z350 (by omega) kd hin a i1 (by omega) R lv2 el1 (by omega) (fun M' H' V' T' K' R' l1 l2 => ?_)
        refine ih (i + 1) e lv (m + 1) q (k + 1) M' H' V' T' K' L b he hq lv2 el R' (by omega) ?_
        intro k' M2 H2 V2 T2 K2 L2 q1 q2 R2 ls
        exact cont k' M2 H2 V2 T2 K2 L2 (by omega) (by omega) R2 (ls_tr (ls_m l1 l2) ls (Nat.le_refl _))
      · obtain ⟨m1, m2, m, a1, a2, a3, i1, b⟩ := h1 kd
        clear h0 h1 h2 h3 h4
        have lb := (cs_le _ _ _ _ _ _ n 0 hk4 he b).2
        refine jt_1 hE hA hK hr hS hz z350 (by omega) kd hin a1 a2 a3 i1 (by omega) R lv2 el1 (by omega) (fun M' H' T' K' R' l1 l2 => ?_)
        refine ih (i + 1) e lv (m + 1) q (k + 1) M' H' V T' K' L b he hq lv2 el R' (by omega) ?_
        intro k' M2 H2 V2 T2 K2 L2 q1 q2 R2 ls
        exact cont k' M2 H2 V2 T2 K2 L2 (by omega) (by omega) R2 (ls_tr (ls_m l1 l2) ls (Nat.le_refl _))
      · obtain ⟨m, b, e1, a, i1, b1, b2⟩ := h2 kd
        clear h0 h1 h2 h3 h4
        have lb1 := (cs_le _ _ _ _ _ _ n 0 hk4 (Nat.le_trans e1 he) b1).2
        have lb2 := (cs_le _ _ _ _ _ _ n 0 hk4 he b2).2
        have enl := en_le (hS.2.2 i (by omega))
        have ca := ct_a (x := ct_ (2 - lv)) (i := i + 1) (f := en_ S i) (e := e) (by omega) e1
        have tail : ∀ (M1 : gx_M) (H1 : gx_H) (V1 : gy_V) (T1 : gy_T) (K1 : gy_K) (L1 : gy_L) (k1 : Nat), k + 1 ≤ k1 → k1 ≤ k + 1 + (en_ S i - (i + 1)) * ct_ (2 - lv) → rn_ M1 H1 V1 T1 K1 L1 lv k1 → ls_ M L M1 L1 lv → fin_ E S C W O A B b M1 H1 (en_ S i) k1 V1 T1 K1 L1 := by
          intro M1 H1 V1 T1 K1 L1 k1 g1 g2 R1 ls1
          refine ih (en_ S i) e lv b q k1 M1 H1 V1 T1 K1 L1 b2 he hq lv2 (el_ls ls1 el) R1 (by omega) ?_
          intro k' M2 H2 V2 T2 K2 L2 q1 q2 R2 ls
          exact cont k' M2 H2 V2 T2 K2 L2 (by omega) (by omega) R2 (ls_tr ls1 ls (Nat.le_refl _))
        refine jt_2 hE hA hK hr hS hz z350 (by omega) kd hin a i1 (by omega) R lv2 el1 (by omega) (fun M' H' T' K' R' l1 l2 => ?_) (fun M' H' T' K' R' l1 l2 => ?_)
        · exact tail M' H' V T' K' L (k + 1) (by omega) (by omega) R' (ls_m l1 l2)
        · refine ih (i + 1) (en_ S i) lv (m + 1) b (k + 1) M' H' V T' K' L b1 (by omega) (by omega) lv2 (el_le el e1) R' (by omega) ?_
          intro k' M2 H2 V2 T2 K2 L2 q1 q2 R2 ls
          exact tail M2 H2 V2 T2 K2 L2 k' (by omega) (by omega) R2 (ls_tr (ls_m l1 l2) ls (Nat.le_refl _))
      · obtain ⟨m, b, e1, lv1, a, i1, i2, b1, i3, b2⟩ := h3 kd
        clear h0 h1 h2 h3 h4
        have lb1 := (cs_le _ _ _ _ _ _ n 0 hk4 (Nat.le_trans e1 he) b1).2
        have lb2 := (cs_le _ _ _ _ _ _ n 0 hk4 he b2).2
        have enl := en_le (hS.2.2 i (by omega))
        have ca := ct_a (x := ct_ (2 - lv)) (i := i) (f := en_ S i) (e := e) (by omega) e1
        have cl := ct_l (l := en_ S i - (i + 1)) lv1
        rw [show en_ S i - (i + 1) + 1 = en_ S i - i from by omega] at cl
        have tail : ∀ (M1 : gx_M) (H1 : gx_H) (V1 : gy_V) (T1 : gy_T) (K1 : gy_K) (L1 : gy_L) (k1 : Nat), k + 1 ≤ k1 → k1 ≤ k + (en_ S i - i) * ct_ (2 - lv) → rn_ M1 H1 V1 T1 K1 L1 lv k1 → ls_ M L M1 L1 lv → fin_ E S C W O A B (b + 1) M1 H1 (en_ S i) k1 V1 T1 K1 L1 := by
          intro M1 H1 V1 T1 K1 L1 k1 g1 g2 R1 ls1
          refine ih (en_ S i) e lv (b + 1) q k1 M1 H1 V1 T1 K1 L1 b2 he hq lv2 (el_ls ls1 el) R1 (by omega) ?_
          intro k' M2 H2 V2 T2 K2 L2 q1 q2 R2 ls
          exact cont k' M2 H2 V2 T2 K2 L2 (by omega) (by omega) R2 (ls_tr ls1 ls (Nat.le_refl _))
        refine jt_3 hE hA hK hr hS hz z350 (by omega) kd hin a i1 i2 (by omega) R lv1 el1 (by omega) (fun M' H' T' K' R' ls' => ?_) (fun M' H' V' T' K' L' w w1 w5 R' ls' lo => ?_)
        · exact tail M' H' V T' K' L (k + 1) (by omega) (by omega) R' ls'
        · have wb : (w - 1 + 1) * ((en_ S i - (i + 1)) * ct_ (2 - (lv + 1)) + 1) ≤ 5 * ((en_ S i - (i + 1)) * ct_ (2 - (lv + 1)) + 1) := Nat.mul_le_mul_right _ (by omega)
          refine rg_loop hr hS hz z350 (by omega) kd (by omega) lv1 (by omega) (by omega) i2 i3 b1 ih (w - 1) 1 w (k + 1) M' H' V' T' K' L' (by omega) (Nat.le_refl _) w5 R' lo (by omega) ?_
          intro k' M2 H2 V2 T2 K2 L2 q1 q2 R2 ls
          exact tail M2 H2 V2 T2 K2 L2 k' (by omega) (by omega) R2 (ls_tr ls' ls (Nat.le_refl _))
      · obtain ⟨m, a, i1, b⟩ := h4 kd
        clear h0 h1 h2 h3 h4
        have lb := (cs_le _ _ _ _ _ _ n 0 hk4 he b).2
        refine jt_4 hE hA hK hr hS hz z350 (by omega) kd hin a i1 (by omega) R lv2 el1 (by omega) (fun M' H' V' T' K' R' l1 l2 => ?_)
        refine ih (i + 1) e lv (m + 1) q (k + 1) M' H' V' T' K' L b he hq lv2 el R' (by omega) ?_
        intro k' M2 H2 V2 T2 K2 L2 q1 q2 R2 ls
        exact cont k' M2 H2 V2 T2 K2 L2 (by omega) (by omega) R2 (ls_tr (ls_m l1 l2) ls (Nat.le_refl _))
/-- all statements -/
theorem rg_all {M : gx_M} {H : gx_H} {V : gy_V} {T : gy_T} {K : gy_K} {L : gy_L} (hE : xe_A E = A) (hA : ar_ok A c) (hK : kn_ok E c) (hr : rs_ S B n) (hS : so_ok S c n) (co : co_ok E S C n) (R : rn_ M H V T K L 0 0) : fin_ E S C W O A B 0 M H 0 0 V T K L := by
  obtain ⟨z, hz, z350, cs⟩ := co
  have n14 := hS.2.1
  have c30 : (n - 0) * ct_ (2 - 0) ≤ 420 := by
    show (n - 0) * 30 ≤ 420
    omega
  refine rg_ (W := W) (O := O) hE hA hK hr hS hz z350 14 0 n 0 0 z 0 M H V T K L cs (Nat.le_refl _) (Nat.le_refl _) (by omega) (fun w => absurd w (by omega)) R (by omega) ?_
  intro k' M' H' V' T' K' L' h1 h2 R' _
  exact fin_e (by omega) hr hS hz R'.2.2.2 ⟨R'.1, sh_le R'.2.1 (by omega)⟩
end
end
section
/-! sound -/
def si_ (S : gx_S) (n i : Nat) : Prop := en_ S i ≤ n ∧ (∀ k, k < i → i < en_ S k → en_ S i ≤ en_ S k) ∧ ld_ S 0 i ≤ 2
section
variable {A : gy_A} {B : gy_B} {V : gy_V} {T : gy_T} {K : gy_K} {L : gy_L} {S : gx_S} {c n : Nat}
theorem yd_28 {post : Int32 → Prop} {J : Int32 → Prop} {i : Nat} (hr : rs_ S B n) (hS : so_ok S c n) (hi : i < n) (hen : en_ S i ≤ n) (h1 : si_ S n i → J (nI (i + 1))) (h0 : ¬ si_ S n i → post 0) : ∀ (d j : Nat), j + d = i → (∀ k, k < j → i < en_ S k → en_ S i ≤ en_ S k) →
    (wY_sound_28 post J (nI i) (ya_n A) (yb_n B) (yv_h V) (yk_d K) (yk_t K) (yk_f K) (yl_n L) (ya_k A) (ya_x A) (ya_y A) (ya_w A) (yb_o B) (yb_x B) (yb_y B) (yb_z B) (yv_s V) (yv_n V) (yt_z T) (yt_k T) (yt_s T) (yt_n T) (yt_t T) (yt_e T) (yv_o V) (yk_w K) (yk_g K) (yk_s K) (yk_n K) (yl_a L) (yl_t L) (yl_l L) (d + 1) (nI (kc_n (fun k => decide (0 ≤ k ∧ st_k S k = 3 ∧ i < en_ S k)) j)) (nI j)) := by
  have n14 := hS.2.1
  have el := en_le (hS.2.2 i hi)
  intro d
  induction d with
  | zero =>
    intro j hj hb
    have e : j = i := by omega
    subst e
    have kl := kc_le (fun k => decide (0 ≤ k ∧ st_k S k = 3 ∧ j < en_ S k)) j
    refine br_t (Int32.le_refl _) ?_
    by_cases c2 : kc_n (fun k => decide (0 ≤ k ∧ st_k S k = 3 ∧ j < en_ S k)) j ≤ 2
    · exact br_t (nI_le (b := 2) c2 (by decide)) (nm_r (nI_1 j) (h1 ⟨hen, hb, c2⟩))
    · exact br_f (nI_ge (a := 2) (by omega) (by omega)) (h0 (fun w => c2 w.2.2))
  | succ d ih =>
    intro j hj hb
    have ej := en_le (hS.2.2 j (by omega))
    have hoj := rs_o hr hS (i := j) (by omega)
    refine br_f (nI_ge (by omega) (by omega)) ?_
    refine ym_named hr hS (by omega) ?_
    by_cases w : i < en_ S j
    · refine br_f (nI_nlt (by omega) (by omega)) ?_
      refine br_f (by decide) ?_
      refine ym_named hr hS hi ?_
      refine ym_named hr hS (by omega) ?_
      by_cases ok : en_ S i ≤ en_ S j
      · refine br_t (nI_le (by omega) (by omega)) ?_
        have ih := ih (j + 1) (by omega) (fun k hk hw => by
          by_cases e : k = j
          · rw [e]; exact ok
          · exact hb k (by omega) hw)
        refine br_f (by decide) ⟨by_in (by omega), ?_⟩
        rw [ix_ev (a := yb_o B) (i := nI j) rfl, hoj]
        have k4 := (hS.2.2 j (by omega)).2.1
        refine pk_eq (st_k S j) 3 (fun k3 => ?_) (fun k3 => ?_)
        · rw [show kc_n (fun k => decide (0 ≤ k ∧ st_k S k = 3 ∧ i < en_ S k)) (j + 1) = kc_n (fun k => decide (0 ≤ k ∧ st_k S k = 3 ∧ i < en_ S k)) j + 1 from by simp [kc_n, k3, w]] at ih
          exact nm_r (nI_1 _) (nm_r (nI_1 j) ih)
        · rw [show kc_n (fun k => decide (0 ≤ k ∧ st_k S k = 3 ∧ i < en_ S k)) (j + 1) = kc_n (fun k => decide (0 ≤ k ∧ st_k S k = 3 ∧ i < en_ S k)) j from by simp [kc_n, k3]] at ih
          exact nm_r (nI_1 j) ih
      · exact br_f (nI_ge (by omega) (by omega)) (h0 (fun q => ok (q.2.1 j (by omega) w)))
    · refine br_t (nI_lt (by omega) (by omega)) ?_
      refine br_t rfl ?_
      refine br_t rfl ?_
      have ih := ih (j + 1) (by omega) (fun k hk hw => by
        by_cases e : k = j
        · rw [e] at hw; exact absurd hw w
        · exact hb k (by omega) hw)
      rw [show kc_n (fun k => decide (0 ≤ k ∧ st_k S k = 3 ∧ i < en_ S k)) (j + 1) = kc_n (fun k => decide (0 ≤ k ∧ st_k S k = 3 ∧ i < en_ S k)) j from by simp [kc_n, w]] at ih
      exact nm_r (nI_1 j) ih
theorem yd_2 {post : Int32 → Prop} (hr : rs_ S B n) (hS : so_ok S c n) (h1 : sd_ S n → post 1) (h0 : ¬ sd_ S n → post 0) : ∀ (d i : Nat), i + d = n → (∀ k, k < i → si_ S n k) → (wY_sound_2 post (ya_n A) (yb_n B) (yv_h V) (yk_d K) (yk_t K) (yk_f K) (yl_n L) (ya_k A) (ya_x A) (ya_y A) (ya_w A) (yb_o B) (yb_x B) (yb_y B) (yb_z B) (yv_s V) (yv_n V) (yt_z T) (yt_k T) (yt_s T) (yt_n T) (yt_t T) (yt_e T) (yv_o V) (yk_w K) (yk_g K) (yk_s K) (yk_n K) (yl_a L) (yl_t L) (yl_l L) (d + 1) (nI i)) := by
  have n14 := hS.2.1
  have hn : yb_n B = nI n := hr.1.trans hS.1
  intro d
  induction d with
  | zero =>
    intro i hi hb
    have e : i = n := by omega
    subst e
    exact br_t (by rw [hn]; exact Int32.le_refl _) (h1 hb)
  | succ d ih =>
    intro i hi hb
    have el := en_le (hS.2.2 i (by omega))
    refine br_f (by rw [hn]; exact nI_ge (by omega) (by omega)) ?_
    refine ym_named hr hS (by omega) ?_
    by_cases en : en_ S i ≤ n
    · refine br_t (by rw [hn]; exact nI_lt (by omega) (by omega)) ⟨i + 1, ?_⟩
      refine yd_28 hr hS (by omega) en (fun ok => ?_) (fun no => ?_) i 0 (by omega) (fun k hk => by omega)
      · exact ih (i + 1) (by omega) (fun k hk => by
          by_cases e : k = i
          · rw [e]; exact ok
          · exact hb k (by omega))
      · exact h0 (fun w => no (w i (by omega)))
    · exact br_f (by rw [hn]; exact nI_nlt (by omega) (by omega)) (h0 (fun w => en (w i (by omega)).1))
theorem yd_ {post : Int32 → Prop} (hr : rs_ S B n) (hS : so_ok S c n) (h1 : sd_ S n → post 1) (h0 : ¬ sd_ S n → post 0) : wpY_sound post (yk A B V T K L) :=
  ⟨n + 1, yd_2 hr hS h1 h0 n 0 (by omega) (fun k hk => by omega)⟩
end
/-! the component's sound: a stack of open stretches -/
def sv_ (S : gx_S) (i t : Nat) (g : Nat → Nat) (O : gx_O) : Prop :=
  (t ≤ i ∧ xo_n O = nI t) ∧ (∀ l, l < t → l ≤ g l ∧ g l < i ∧ (st_k S (g l) = 2 ∨ st_k S (g l) = 3) ∧ i ≤ en_ S (g l) ∧ xo_e O l = nI (en_ S (g l)) ∧ xo_l O l = (if st_k S (g l) = 3 then 1 else 0)) ∧
  (∀ l l', l < l' → l' < t → g l < g l' ∧ en_ S (g l') ≤ en_ S (g l)) ∧ (∀ k, k < i → i < en_ S k → ∃ l, l < t ∧ g l = k)
def sk_ (S : gx_S) (g : Nat → Nat) (t : Nat) : Nat := kc_n (fun l => decide (st_k S (g l) = 3)) t
section
variable {E : gx_E} {S : gx_S} {C : gx_C} {W : gx_W} {O : gx_O} {M : gx_M} {H : gx_H} {c n : Nat}
theorem sv_ld {i t : Nat} {g : Nat → Nat} (h : sv_ S i t g O) (st : ∀ l, l < t → i < en_ S (g l)) : ld_ S 0 i = sk_ S g t := by
  obtain ⟨_, h1, h2, h3⟩ := h
  refine Nat.le_antisymm ?_ ?_
  · refine kc_inj (fun k l => g l = k) (fun k k' l a b => a.symm.trans b) _ _ _ _ (fun k hk hf => ?_)
    simp only [decide_eq_true_eq] at hf
    obtain ⟨l, hl, e⟩ := h3 k hk hf.2.2
    exact ⟨l, hl, by rw [e]; simpa using hf.2.1, e⟩
  · refine kc_inj (fun l k => l < t ∧ g l = k) (fun l l' k a b => ?_) _ _ _ _ (fun l hl hf => ?_)
    · rcases Nat.lt_trichotomy l l' with w | w | w
      · have := (h2 l l' w b.1).1
        omega
      · exact w
      · have := (h2 l' l w a.1).1
        omega
    · simp only [decide_eq_true_eq] at hf
      exact ⟨g l, (h1 l hl).2.1, by simpa using ⟨hf, st l hl⟩, hl, rfl⟩
theorem sk_s {g : Nat → Nat} {t : Nat} : sk_ S g (t + 1) = sk_ S g t + (if st_k S (g t) = 3 then 1 else 0) := by
  unfold sk_
  simp only [kc_n]
  by_cases e : st_k S (g t) = 3
  · simp [e]
  · simp [e]
theorem xd_17 {i : Nat} {g : Nat → Nat} (hS : so_ok S c n) (hi : i ≤ n) : ∀ (t : Nat), sv_ S i t g (oc_ O t) → ∃ t', t' ≤ t ∧ sv_ S i t' g (oc_ O t') ∧ (∀ l, l < t' → i < en_ S (g l)) ∧
    ∀ (post : Int32 → SX → Prop) (m : Nat), (wX_sound_67 post (wX_sound_9 post (xe_n E) (xs_n S) (xc_f C) (xc_n C) (xm_c M) (xm_h M) (xh_u H) (xh_r H) m) (nI (sk_ S g t')) (nI i) (xe_n E) (xs_n S) (xc_f C) (xc_n C) (xo_n (oc_ O t')) (xm_c M) (xm_h M) (xh_u H) (xh_r H) (xe_k E) (xe_x E) (xe_y E) (xe_w E) (xe_s E) (xe_i E) (xe_a E) (xs_o S) (xs_x S) (xs_y S) (xs_z S) (xc_o C) (xc_a C) (xc_b C) (xc_c C) (xc_k C) (xw_n W) (xw_r W) (xw_p W) (xw_t W) (xo_e (oc_ O t')) (xo_l (oc_ O t')) (xo_p (oc_ O t')) (xm_s M) (xm_n M) (xm_l M) (xm_m M) (xm_v M) (xh_k H) (xh_s H) (xh_n H) (xh_c H)) → (wX_sound_17 post (wX_sound_9 post (xe_n E) (xs_n S) (xc_f C) (xc_n C) (xm_c M) (xm_h M) (xh_u H) (xh_r H) m) (nI i) (xe_n E) (xs_n S) (xc_f C) (xc_n C) (xm_c M) (xm_h M) (xh_u H) (xh_r H) (xe_k E) (xe_x E) (xe_y E) (xe_w E) (xe_s E) (xe_i E) (xe_a E) (xs_o S) (xs_x S) (xs_y S) (xs_z S) (xc_o C) (xc_a C) (xc_b C) (xc_c C) (xc_k C) (xw_n W) (xw_r W) (xw_p W) (xw_t W) (xo_e (oc_ O t)) (xo_l (oc_ O t)) (xo_p (oc_ O t)) (xm_s M) (xm_n M) (xm_l M) (xm_m M) (xm_v M) (xh_k H) (xh_s H) (xh_n H) (xh_c H) (t + 1) (nI (sk_ S g t)) (xo_n (oc_ O t))) := by
  have n14 := hS.2.1
  intro t
  induction t with
  | zero =>
    intro h
    exact ⟨0, Nat.le_refl _, h, fun l hl => by omega, fun post m hk => br_t (Int32.le_refl _) hk⟩
  | succ t ih =>
    intro h
    obtain ⟨⟨h0, _⟩, h1, h2, h3⟩ := h
    obtain ⟨q0, q1, q2, q3, q4, q5⟩ := h1 t (by omega)
    have tp : nI (t + 1) - 1 = nI t := nI_pred t
    by_cases e : en_ S (g t) = i
    · have sv' : sv_ S i t g (oc_ O t) := by
        refine ⟨⟨by omega, rfl⟩, fun l hl => h1 l (by omega), fun l l' a b => h2 l l' a (by omega), fun k hk hw => ?_⟩
        obtain ⟨l, hl, el⟩ := h3 k hk hw
        by_cases lt : l = t
        · rw [lt] at el
          rw [← el, e] at hw
          omega
        · exact ⟨l, by omega, el⟩
      obtain ⟨t', a1, a2, a3, a4⟩ := ih sv'
      refine ⟨t', by omega, a2, a3, fun post m hk => ?_⟩
      have hk := a4 post m hk
      refine br_f (nI_nle (by omega) (by omega)) ⟨pk_in t 14 (by omega) tp, br_t ((ix_ev tp).trans (by rw [q4, e])) (nm_r (e' := nI t) tp (And.intro (by_in (by omega)) ?_))⟩
      rw [sk_s]
      by_cases k3 : st_k S (g t) = 3
      · rw [if_pos k3] at q5
        rw [if_pos k3]
        refine br_f (ix_rn (a := xo_l O) (by rw [show xo_l O t = 1 from q5]; decide)) (nm_r (pk_m1 _) hk)
      · rw [if_neg k3] at q5
        rw [if_neg k3]
        exact br_t (ix_rd (a := xo_l O) q5) hk
    · refine ⟨t + 1, Nat.le_refl _, ⟨⟨h0, rfl⟩, h1, h2, h3⟩, fun l hl => ?_, fun post m hk => ?_⟩
      · by_cases lt : l = t
        · rw [lt]; omega
        · have := (h2 l t (by omega) (by omega)).2
          omega
      · refine br_f (nI_nle (by omega) (by omega)) ⟨pk_in t 14 (by omega) tp, br_f (fun w => e ?_) hk⟩
        have w2 := (ix_ev (a := xo_e (oc_ O (t + 1))) tp).symm.trans w
        rw [q4] at w2
        have el := en_le (hS.2.2 (g t) (by omega))
        exact (nI_eq (by omega) (by omega)).mp w2
/-- a stretch is opened -/
theorem sv_push {i t a : Nat} {g : Nat → Nat} {l : Int32} (hS : so_ok S c n) (hi : i < n) (h : sv_ S i t g O) (st : ∀ l, l < t → i < en_ S (g l)) (kd : st_k S i = 2 ∨ st_k S i = 3) (nest : ∀ l, l < t → en_ S i ≤ en_ S (g l)) (hl : l = if st_k S i = 3 then 1 else 0) :
    sv_ S (i + 1) (t + 1) (fun q => if q = t then i else g q) (oo_ O t (en_ S i) l a) := by
  obtain ⟨⟨h0, _⟩, h1, h2, h3⟩ := h
  have el := en_le (hS.2.2 i hi)
  refine ⟨⟨by omega, rfl⟩, fun q hq => ?_, fun q q' w hq' => ?_, fun k hk hw => ?_⟩
  · by_cases e : q = t
    · subst e
      simp only [if_true]
      exact ⟨h0, by omega, kd, by omega, pk_us, pk_us.trans hl⟩
    · simp only [if_neg e]
      obtain ⟨a0, a1, a2, a3, a4, a5⟩ := h1 q (by omega)
      have := st q (by omega)
      exact ⟨a0, by omega, a2, by omega, (pk_un e).trans a4, (pk_un e).trans a5⟩
  · by_cases e : q' = t
    · subst e
      simp only [if_true, if_neg (show q ≠ q' from by omega)]
      exact ⟨(h1 q w).2.1, nest q w⟩
    · simp only [if_neg e, if_neg (show q ≠ t from by omega)]
      exact h2 q q' w (by omega)
  · by_cases e : k = i
    · exact ⟨t, by omega, by simp [e]⟩
    · obtain ⟨l', b1, b2⟩ := h3 k (by omega) (by omega)
      exact ⟨l', by omega, by simp only [if_neg (show l' ≠ t from by omega)]; exact b2⟩
theorem sk_push {i t : Nat} {g : Nat → Nat} : sk_ S (fun q => if q = t then i else g q) (t + 1) = sk_ S g t + (if st_k S i = 3 then 1 else 0) := by
  rw [sk_s]
  simp only [if_true]
  have : sk_ S (fun q => if q = t then i else g q) t = sk_ S g t := kc_congr (fun j hj => by simp only [if_neg (show j ≠ t from by omega)])
  rw [this]
/-- one statement: what is the matter with it, or on to the next -/
theorem xd_67 {i t : Nat} {g : Nat → Nat} (hS : so_ok S c n) (hi : i < n) (h : sv_ S i t g (oc_ O t)) (st : ∀ l, l < t → i < en_ S (g l)) (sk2 : sk_ S g t ≤ 2) :
    (¬ sd_ S n ∧ ∃ O', ∀ (post : Int32 → SX → Prop) (m : Nat), post 0 (xk E S C W O' M H) → (wX_sound_67 post (wX_sound_9 post (xe_n E) (xs_n S) (xc_f C) (xc_n C) (xm_c M) (xm_h M) (xh_u H) (xh_r H) m) (nI (sk_ S g t)) (nI i) (xe_n E) (xs_n S) (xc_f C) (xc_n C) (xo_n (oc_ O t)) (xm_c M) (xm_h M) (xh_u H) (xh_r H) (xe_k E) (xe_x E) (xe_y E) (xe_w E) (xe_s E) (xe_i E) (xe_a E) (xs_o S) (xs_x S) (xs_y S) (xs_z S) (xc_o C) (xc_a C) (xc_b C) (xc_c C) (xc_k C) (xw_n W) (xw_r W) (xw_p W) (xw_t W) (xo_e (oc_ O t)) (xo_l (oc_ O t)) (xo_p (oc_ O t)) (xm_s M) (xm_n M) (xm_l M) (xm_m M) (xm_v M) (xh_k H) (xh_s H) (xh_n H) (xh_c H))) ∨
    (si_ S n i ∧ ∃ O' t' g', sv_ S (i + 1) t' g' O' ∧ sk_ S g' t' ≤ 2 ∧ ∀ (post : Int32 → SX → Prop) (m : Nat), (wX_sound_9 post (xe_n E) (xs_n S) (xc_f C) (xc_n C) (xm_c M) (xm_h M) (xh_u H) (xh_r H) m (nI (sk_ S g' t')) (nI (i + 1)) (xo_n O') (xe_k E) (xe_x E) (xe_y E) (xe_w E) (xe_s E) (xe_i E) (xe_a E) (xs_o S) (xs_x S) (xs_y S) (xs_z S) (xc_o C) (xc_a C) (xc_b C) (xc_c C) (xc_k C) (xw_n W) (xw_r W) (xw_p W) (xw_t W) (xo_e O') (xo_l O') (xo_p O') (xm_s M) (xm_n M) (xm_l M) (xm_m M) (xm_v M) (xh_k H) (xh_s H) (xh_n H) (xh_c H)) → (wX_sound_67 post (wX_sound_9 post (xe_n E) (xs_n S) (xc_f C) (xc_n C) (xm_c M) (xm_h M) (xh_u H) (xh_r H) m) (nI (sk_ S g t)) (nI i) (xe_n E) (xs_n S) (xc_f C) (xc_n C) (xo_n (oc_ O t)) (xm_c M) (xm_h M) (xh_u H) (xh_r H) (xe_k E) (xe_x E) (xe_y E) (xe_w E) (xe_s E) (xe_i E) (xe_a E) (xs_o S) (xs_x S) (xs_y S) (xs_z S) (xc_o C) (xc_a C) (xc_b C) (xc_c C) (xc_k C) (xw_n W) (xw_r W) (xw_p W) (xw_t W) (xo_e (oc_ O t)) (xo_l (oc_ O t)) (xo_p (oc_ O t)) (xm_s M) (xm_n M) (xm_l M) (xm_m M) (xm_v M) (xh_k H) (xh_s H) (xh_n H) (xh_c H))) := by
  have n14 := hS.2.1
  have so := hS.2.2 i hi
  have el := en_le so
  have ld := sv_ld h st
  have k4 := so.2.1
  have oi : xs_o S (nI i).toNatClampNeg = nI (st_k S i) := (ix_ev (a := xs_o S) (i := nI i) rfl).trans so.1
  obtain ⟨⟨h0, h00⟩, h1, h2, h3⟩ := h
  by_cases kd : st_k S i = 2 ∨ st_k S i = 3
  · -- from the choice of operations to the end's test
    have go : ∀ (post : Int32 → SX → Prop) (m : Nat), (wX_sound_90 post (wX_sound_9 post (xe_n E) (xs_n S) (xc_f C) (xc_n C) (xm_c M) (xm_h M) (xh_u H) (xh_r H) m) (nI (sk_ S g t)) (nI i) (xe_n E) (xs_n S) (xc_f C) (xc_n C) (xo_n (oc_ O t)) (xm_c M) (xm_h M) (xh_u H) (xh_r H) (xe_k E) (xe_x E) (xe_y E) (xe_w E) (xe_s E) (xe_i E) (xe_a E) (xs_o S) (xs_x S) (xs_y S) (xs_z S) (xc_o C) (xc_a C) (xc_b C) (xc_c C) (xc_k C) (xw_n W) (xw_r W) (xw_p W) (xw_t W) (xo_e (oc_ O t)) (xo_l (oc_ O t)) (xo_p (oc_ O t)) (xm_s M) (xm_n M) (xm_l M) (xm_m M) (xm_v M) (xh_k H) (xh_s H) (xh_n H) (xh_c H)) → (wX_sound_67 post (wX_sound_9 post (xe_n E) (xs_n S) (xc_f C) (xc_n C) (xm_c M) (xm_h M) (xh_u H) (xh_r H) m) (nI (sk_ S g t)) (nI i) (xe_n E) (xs_n S) (xc_f C) (xc_n C) (xo_n (oc_ O t)) (xm_c M) (xm_h M) (xh_u H) (xh_r H) (xe_k E) (xe_x E) (xe_y E) (xe_w E) (xe_s E) (xe_i E) (xe_a E) (xs_o S) (xs_x S) (xs_y S) (xs_z S) (xc_o C) (xc_a C) (xc_b C) (xc_c C) (xc_k C) (xw_n W) (xw_r W) (xw_p W) (xw_t W) (xo_e (oc_ O t)) (xo_l (oc_ O t)) (xo_p (oc_ O t)) (xm_s M) (xm_n M) (xm_l M) (xm_m M) (xm_v M) (xh_k H) (xh_s H) (xh_n H) (xh_c H)) := by
      intro post m hk
      refine And.intro (by_in (by omega)) ?_
      rw [oi]
      exact pk_eq (st_k S i) 2 (fun _ => hk) (fun n2 => And.intro (by_in (by omega)) (pk_eq (st_k S i) 3 (fun _ => hk) (fun n3 => by omega)))
    by_cases c1 : en_ S i ≤ n
    · have topc : (t = 0 ∨ (0 < t ∧ en_ S i ≤ en_ S (g (t - 1)))) ∨ (0 < t ∧ ¬ en_ S i ≤ en_ S (g (t - 1))) := by omega
      rcases topc with okc | badc
      · have nest : ∀ l, l < t → en_ S i ≤ en_ S (g l) := by
          intro l hl
          rcases okc with z | ⟨_, z⟩
          · omega
          · by_cases e : l = t - 1
            · rw [e]; exact z
            · have := (h2 l (t - 1) (by omega) (by omega)).2
              omega
        have si : si_ S n i := by
          refine ⟨c1, fun k hk hw => ?_, by omega⟩
          obtain ⟨l, hl, e⟩ := h3 k hk hw
          rw [← e]
          exact nest l hl
        have push := sv_push (O := oc_ O t) (a := 0) hS hi ⟨⟨h0, h00⟩, h1, h2, h3⟩ st kd nest rfl
        have sp := sk_push (S := S) (i := i) (t := t) (g := g)
        -- the stack after it
        have fin : ∀ (post : Int32 → SX → Prop) (m : Nat), (wX_sound_186 post (wX_sound_9 post (xe_n E) (xs_n S) (xc_f C) (xc_n C) (xm_c M) (xm_h M) (xh_u H) (xh_r H) m) (nI (sk_ S (fun q => if q = t then i else g q) (t + 1))) (nI i) (xe_n E) (xs_n S) (xc_f C) (xc_n C) (xo_n (nI (t + 1), upd (xo_e O) t (nI (en_ S i)), upd (xo_l O) t (if st_k S i = 3 then 1 else 0), xo_p O)) (xm_c M) (xm_h M) (xh_u H) (xh_r H) (xe_k E) (xe_x E) (xe_y E) (xe_w E) (xe_s E) (xe_i E) (xe_a E) (xs_o S) (xs_x S) (xs_y S) (xs_z S) (xc_o C) (xc_a C) (xc_b C) (xc_c C) (xc_k C) (xw_n W) (xw_r W) (xw_p W) (xw_t W) (xo_e (nI (t + 1), upd (xo_e O) t (nI (en_ S i)), upd (xo_l O) t (if st_k S i = 3 then 1 else 0), xo_p O)) (xo_l (nI (t + 1), upd (xo_e O) t (nI (en_ S i)), upd (xo_l O) t (if st_k S i = 3 then 1 else 0), xo_p O)) (xo_p (nI (t + 1), upd (xo_e O) t (nI (en_ S i)), upd (xo_l O) t (if st_k S i = 3 then 1 else 0), xo_p O)) (xm_s M) (xm_n M) (xm_l M) (xm_m M) (xm_v M) (xh_k H) (xh_s H) (xh_n H) (xh_c H)) →
            (wX_sound_128 post (wX_sound_9 post (xe_n E) (xs_n S) (xc_f C) (xc_n C) (xm_c M) (xm_h M) (xh_u H) (xh_r H) m) (nI (sk_ S g t)) (nI i) (nI (en_ S i)) (xe_n E) (xs_n S) (xc_f C) (xc_n C) (xo_n (oc_ O t)) (xm_c M) (xm_h M) (xh_u H) (xh_r H) (xe_k E) (xe_x E) (xe_y E) (xe_w E) (xe_s E) (xe_i E) (xe_a E) (xs_o S) (xs_x S) (xs_y S) (xs_z S) (xc_o C) (xc_a C) (xc_b C) (xc_c C) (xc_k C) (xw_n W) (xw_r W) (xw_p W) (xw_t W) (xo_e (oc_ O t)) (xo_l (oc_ O t)) (xo_p (oc_ O t)) (xm_s M) (xm_n M) (xm_l M) (xm_m M) (xm_v M) (xh_k H) (xh_s H) (xh_n H) (xh_c H)) := by
          intro post m hk
          rw [sp] at hk
          refine ix_st t 14 (nI (en_ S i)) (by omega) (And.intro (by_in (by omega)) ?_) rfl (by_n (by omega))
          rw [oi]
          refine pk_eq (st_k S i) 3 (fun k3 => ?_) (fun k3 => ?_)
          · rw [if_pos k3, if_pos k3] at hk
            refine ix_st t 14 1 (by omega) (nm_r (nI_1 t) (And.intro (by_in (by omega)) ?_))
            rw [oi, k3]
            exact br_t rfl (nm_r (nI_1 _) hk)
          · rw [if_neg k3, if_neg k3] at hk
            refine ix_st t 14 0 (by omega) (nm_r (nI_1 t) (And.intro (by_in (by omega)) ?_))
            rw [oi]
            exact pk_eq (st_k S i) 3 (fun w => absurd w k3) (fun _ => hk)
        have end_ : ∀ (post : Int32 → SX → Prop) (m : Nat), (wX_sound_186 post (wX_sound_9 post (xe_n E) (xs_n S) (xc_f C) (xc_n C) (xm_c M) (xm_h M) (xh_u H) (xh_r H) m) (nI (sk_ S (fun q => if q = t then i else g q) (t + 1))) (nI i) (xe_n E) (xs_n S) (xc_f C) (xc_n C) (xo_n (nI (t + 1), upd (xo_e O) t (nI (en_ S i)), upd (xo_l O) t (if st_k S i = 3 then 1 else 0), xo_p O)) (xm_c M) (xm_h M) (xh_u H) (xh_r H) (xe_k E) (xe_x E) (xe_y E) (xe_w E) (xe_s E) (xe_i E) (xe_a E) (xs_o S) (xs_x S) (xs_y S) (xs_z S) (xc_o C) (xc_a C) (xc_b C) (xc_c C) (xc_k C) (xw_n W) (xw_r W) (xw_p W) (xw_t W) (xo_e (nI (t + 1), upd (xo_e O) t (nI (en_ S i)), upd (xo_l O) t (if st_k S i = 3 then 1 else 0), xo_p O)) (xo_l (nI (t + 1), upd (xo_e O) t (nI (en_ S i)), upd (xo_l O) t (if st_k S i = 3 then 1 else 0), xo_p O)) (xo_p (nI (t + 1), upd (xo_e O) t (nI (en_ S i)), upd (xo_l O) t (if st_k S i = 3 then 1 else 0), xo_p O)) (xm_s M) (xm_n M) (xm_l M) (xm_m M) (xm_v M) (xh_k H) (xh_s H) (xh_n H) (xh_c H)) →
            (wX_sound_67 post (wX_sound_9 post (xe_n E) (xs_n S) (xc_f C) (xc_n C) (xm_c M) (xm_h M) (xh_u H) (xh_r H) m) (nI (sk_ S g t)) (nI i) (xe_n E) (xs_n S) (xc_f C) (xc_n C) (xo_n (oc_ O t)) (xm_c M) (xm_h M) (xh_u H) (xh_r H) (xe_k E) (xe_x E) (xe_y E) (xe_w E) (xe_s E) (xe_i E) (xe_a E) (xs_o S) (xs_x S) (xs_y S) (xs_z S) (xc_o C) (xc_a C) (xc_b C) (xc_c C) (xc_k C) (xw_n W) (xw_r W) (xw_p W) (xw_t W) (xo_e (oc_ O t)) (xo_l (oc_ O t)) (xo_p (oc_ O t)) (xm_s M) (xm_n M) (xm_l M) (xm_m M) (xm_v M) (xh_k H) (xh_s H) (xh_n H) (xh_c H)) := by
          intro post m hk
          refine go post m ?_
          refine xo_end (O := oc_ O t) so (by omega) ?_
          refine br_f (by rw [hS.1]; exact nI_nlt c1 (by omega)) ?_
          by_cases t0 : t = 0
          · exact br_t (by show nI t ≤ 0; rw [t0]; exact Int32.le_refl _) (fin post m hk)
          · have tp : xo_n (oc_ O t) - 1 = nI (t - 1) := by show nI t - 1 = _; rw [show t = (t - 1) + 1 from by omega, nI_pred]; rfl
            have e4 := (h1 (t - 1) (by omega)).2.2.2.2.1
            have ent := en_le (hS.2.2 (g (t - 1)) (by have := (h1 (t - 1) (by omega)).2.1; omega))
            have g14 := (h1 (t - 1) (by omega)).2.1
            refine br_f (nI_nle (by omega) (by omega)) ⟨pk_in (t - 1) 14 (by omega) tp, br_t ?_ (fin post m hk)⟩
            rw [ix_ev (a := xo_e (oc_ O t)) tp, e4]
            exact nI_le (nest (t - 1) (by omega)) (by omega)
        have skle : sk_ S (fun q => if q = t then i else g q) (t + 1) ≤ 14 := Nat.le_trans (kc_le _ _) (by omega)
        by_cases c2 : sk_ S (fun q => if q = t then i else g q) (t + 1) ≤ 2
        · refine Or.inr ⟨si, (nI (t + 1), upd (xo_e O) t (nI (en_ S i)), upd (xo_l O) t (if st_k S i = 3 then 1 else 0), xo_p O), t + 1, _, ⟨⟨push.1.1, rfl⟩, push.2.1, push.2.2⟩, c2, fun post m hk => end_ post m ?_⟩
          exact br_t (nI_le (b := 2) c2 (by decide)) (nm_r (nI_1 i) hk)
        · refine Or.inl ⟨fun w => ?_, (nI (t + 1), upd (xo_e O) t (nI (en_ S i)), upd (xo_l O) t (if st_k S i = 3 then 1 else 0), xo_p O), fun post m hk => end_ post m (br_f (nI_ge (a := 2) (by omega) (by omega)) hk)⟩
          have k3 : st_k S i = 3 := by
            by_cases k3 : st_k S i = 3
            · exact k3
            · rw [sp, if_neg k3] at c2; omega
          have z1 := so.2.2.2.2.2.2.2 k3
          have eni : en_ S i = i + 1 + st_z S i := by unfold en_; rw [if_neg (by omega), if_pos k3]
          have := sv_ld push (fun l hl => by
            by_cases e : l = t
            · simp only [e, if_true]; omega
            · simp only [if_neg e]
              have := nest l (by omega)
              omega)
          have := (w (i + 1) (by omega)).2.2
          omega
      · refine Or.inl ⟨fun w => ?_, oc_ O t, fun post m hk => go post m ?_⟩
        · have q := h1 (t - 1) (by omega)
          exact badc.2 ((w i hi).2.1 (g (t - 1)) q.2.1 (st (t - 1) (by omega)))
        · refine xo_end (O := oc_ O t) so (by omega) ?_
          refine br_f (by rw [hS.1]; exact nI_nlt c1 (by omega)) ?_
          have tp : xo_n (oc_ O t) - 1 = nI (t - 1) := by show nI t - 1 = _; rw [show t = (t - 1) + 1 from by omega, nI_pred]; rfl
          have e4 := (h1 (t - 1) (by omega)).2.2.2.2.1
          refine br_f (nI_nle (by omega) (by omega)) ⟨pk_in (t - 1) 14 (by omega) tp, br_f ?_ hk⟩
          rw [ix_ev (a := xo_e (oc_ O t)) tp, e4]
          exact nI_ge (by omega) (by omega)
    · refine Or.inl ⟨fun w => c1 (w i hi).1, oc_ O t, fun post m hk => go post m ?_⟩
      refine xo_end (O := oc_ O t) so (by omega) ?_
      exact br_t (by rw [hS.1]; exact nI_lt (by omega) (by omega)) hk
  · have eni : en_ S i = i + 1 := by unfold en_; rw [if_neg (by omega), if_neg (by omega)]
    refine Or.inr ⟨⟨by omega, fun k hk hw => by omega, by omega⟩, oc_ O t, t, g, ⟨⟨by omega, rfl⟩, fun l hl => ?_, h2, fun k hk hw => ?_⟩, sk2, fun post m hk => ?_⟩
    · obtain ⟨a0, a1, a2, a3, a4, a5⟩ := h1 l hl
      have := st l hl
      exact ⟨a0, by omega, a2, by omega, a4, a5⟩
    · by_cases e : k = i
      · rw [e, eni] at hw; omega
      · exact h3 k (by omega) (by omega)
    · refine And.intro (by_in (by omega)) ?_
      rw [oi]
      exact pk_eq (st_k S i) 2 (fun w => by omega) (fun _ => And.intro (by_in (by omega)) (pk_eq (st_k S i) 3 (fun w => by omega) (fun _ => nm_r (nI_1 i) hk)))
theorem xd_9 (hS : so_ok S c n) : ∀ (d i t : Nat) (g : Nat → Nat) (O : gx_O), i + d = n → sv_ S i t g O → sk_ S g t ≤ 2 → (∀ k, k < i → si_ S n k) →
    ∃ r O', ((r = 1 ∧ sd_ S n) ∨ (r = 0 ∧ ¬ sd_ S n)) ∧ ∀ (post : Int32 → SX → Prop), post r (xk E S C W O' M H) → (wX_sound_9 post (xe_n E) (xs_n S) (xc_f C) (xc_n C) (xm_c M) (xm_h M) (xh_u H) (xh_r H) (d + 1) (nI (sk_ S g t)) (nI i) (xo_n O) (xe_k E) (xe_x E) (xe_y E) (xe_w E) (xe_s E) (xe_i E) (xe_a E) (xs_o S) (xs_x S) (xs_y S) (xs_z S) (xc_o C) (xc_a C) (xc_b C) (xc_c C) (xc_k C) (xw_n W) (xw_r W) (xw_p W) (xw_t W) (xo_e O) (xo_l O) (xo_p O) (xm_s M) (xm_n M) (xm_l M) (xm_m M) (xm_v M) (xh_k H) (xh_s H) (xh_n H) (xh_c H)) := by
  have n14 := hS.2.1
  intro d
  induction d with
  | zero =>
    intro i t g O hi sv sk hb
    have e : i = n := by omega
    subst e
    exact ⟨1, O, Or.inl ⟨rfl, hb⟩, fun post h => br_t (by rw [hS.1]; exact Int32.le_refl _) h⟩
  | succ d ih =>
    intro i t g O hi sv sk hb
    have sv1 : sv_ S i t g (oc_ O t) := ⟨⟨sv.1.1, rfl⟩, sv.2.1, sv.2.2⟩
    obtain ⟨t', a1, a2, a3, a4⟩ := xd_17 (E := E) (C := C) (W := W) (M := M) (H := H) hS (by omega) t sv1
    have skt : sk_ S g t' ≤ 2 := by
      have : sk_ S g t' ≤ sk_ S g t := by
        obtain ⟨q, rfl⟩ : ∃ q, t = t' + q := ⟨t - t', by omega⟩
        clear a1 a2 a3 a4 sv sv1 sk
        induction q with
        | zero => exact Nat.le_refl _
        | succ q ihq =>
          rw [show t' + (q + 1) = (t' + q) + 1 from rfl, sk_s]
          omega
      omega
    have hn : ¬ xs_n S ≤ nI i := by rw [hS.1]; exact nI_ge (by omega) (by omega)
    have eo : xo_n O = nI t := sv.1.2
    rcases xd_67 (E := E) (C := C) (W := W) (M := M) (H := H) hS (by omega) a2 a3 skt with ⟨bad, O', hk⟩ | ⟨si, O', t2, g2, sv2, sk2, hk⟩
    · refine ⟨0, O', Or.inr ⟨rfl, bad⟩, fun post h => br_f hn ⟨t + 1, ?_⟩⟩
      have := a4 post (d + 1) (hk post (d + 1) h)
      rw [eo]
      exact this
    · obtain ⟨r, O2, hr, hk2⟩ := ih (i + 1) t2 g2 O' (by omega) sv2 sk2 (fun k hk => by
        by_cases e : k = i
        · rw [e]; exact si
        · exact hb k (by omega))
      refine ⟨r, O2, hr, fun post h => br_f hn ⟨t + 1, ?_⟩⟩
      have := a4 post (d + 1) (hk post (d + 1) (hk2 post h))
      rw [eo]
      exact this
theorem xd_ (hS : so_ok S c n) : ∃ r O', ((r = 1 ∧ sd_ S n) ∨ (r = 0 ∧ ¬ sd_ S n)) ∧ ∀ (post : Int32 → SX → Prop), post r (xk E S C W O' M H) → wpX_sound post (xk E S C W O M H) := by
  obtain ⟨r, O', h1, h2⟩ := xd_9 (E := E) (C := C) (W := W) (M := M) (H := H) hS n 0 0 (fun _ => 0) (nI 0, xo_e O, xo_l O, xo_p O) (by omega) ⟨⟨Nat.le_refl _, rfl⟩, fun l hl => by omega, fun l l' _ h => by omega, fun k hk => by omega⟩ (by show 0 ≤ 2; omega) (fun k hk => by omega)
  exact ⟨r, O', h1, fun post h => ⟨n + 1, h2 post h⟩⟩
end
end
section
/-! the relation; what only looks -/
def ir_ (E : gx_E) (S : gx_S) (C : gx_C) (M : gx_M) (H : gx_H) (A : gy_A) (B : gy_B) (V : gy_V) (T : gy_T) : Prop :=
  ∃ c n, xe_A E = A ∧ ar_ok A c ∧ kn_ok E c ∧ so_ok S c n ∧ rs_ S B n ∧ (xc_f C = 0 ∨ (xc_f C = 1 ∧ co_ok E S C n)) ∧ fe_ M H V T
def i_Rel (_k : Nat) (u : SX) (v : SY) : Prop := ir_ (ux_E u) (ux_S u) (ux_C u) (ux_M u) (ux_H u) (uy_A v) (uy_B v) (uy_V v) (uy_T v)
theorem i_up {k : Nat} {u : SX} {v : SY} (h : i_Rel k u v) : i_Rel (k + 5) u v := h
section
variable {E : gx_E} {S : gx_S} {C : gx_C} {W : gx_W} {O : gx_O} {M : gx_M} {H : gx_H} {A : gy_A} {B : gy_B} {V : gy_V} {T : gy_T} {K : gy_K} {L : gy_L}
theorem ir_k {k : Nat} (h : ir_ E S C M H A B V T) : i_Rel k (xk E S C W O M H) (yk A B V T K L) := h
theorem xv_1 {post : Int32 → Prop} {j : Nat} (hj : j < 6) (h : post 1) : wpX_isVariable post (xk E S C W O M H) (nI j) :=
  br_f (nI_pos (by omega)) (br_f (nI_ge (b := 6) hj (by decide)) h)
theorem xv_0 {post : Int32 → Prop} {v : Int32} (hv : v < 0 ∨ nI 6 ≤ v) (h : post 0) : wpX_isVariable post (xk E S C W O M H) v := by
  by_cases a : v < 0
  · exact br_t a h
  · exact br_f a (br_t (hv.resolve_left a) h)
theorem yv_1 {post : Int32 → Prop} {j : Nat} (hj : j < 6) (h : post 1) : wpY_isVariable post (yk A B V T K L) (nI j) :=
  br_f (nI_pos (by omega)) (br_f (nI_nlt (a := 5) (by omega) (by decide)) h)
theorem yv_0 {post : Int32 → Prop} {v : Int32} (hv : v < 0 ∨ nI 6 ≤ v) (h : post 0) : wpY_isVariable post (yk A B V T K L) v := by
  by_cases a : v < 0
  · exact br_t a h
  · exact br_f a (br_t (Int32.lt_of_lt_of_le (by decide) (hv.resolve_left a)) h)
theorem iv_c (v : Int32) : (v < 0 ∨ nI 6 ≤ v) ∨ ∃ j, j < 6 ∧ v = nI j := by
  rcases pk_ix v (n := 6) (by omega) with a | a | a
  · exact Or.inl (Or.inl a)
  · exact Or.inl (Or.inr a)
  · exact Or.inr a
theorem xn_ {post : Int32 → Prop} {s m : Int32} (ht : s ≠ 0 → s ≠ 1 → ∃ x, x < 32 ∧ m = nI x) (h : post (sh_n H s m)) : wpX_shownNumber post (xk E S C W O M H) s m := by
  unfold sh_n at h
  by_cases s0 : s = 0
  · rw [if_pos s0] at h
    exact br_t s0 h
  · rw [if_neg s0] at h
    by_cases s1 : s = 1
    · rw [if_pos s1] at h
      exact br_f s0 (br_t s1 h)
    · rw [if_neg s1] at h
      obtain ⟨x, hx, e⟩ := ht s0 s1
      exact br_f s0 (br_f s1 ⟨by rw [e]; exact by_in hx, h⟩)
/-- the number that is shown, on the other side -/
theorem sh_eq {β : Nat → Nat → Prop} {s m s' m' : Int32} (R : mr_ β M H V T) (v : vr_ β s m s' m') : sh_n H s m = (if s' = 0 then 0 else if s' = 1 then m' else yt_z T m'.toNatClampNeg) := by
  obtain ⟨e, a⟩ := v
  subst e
  unfold sh_n
  rcases a with ⟨a1, a2⟩ | ⟨a1, a2⟩ | ⟨a1, x, y, e1, e2, b⟩
  · rw [if_pos a1, if_pos a1]
  · rw [a1, if_neg (by decide), if_pos rfl, if_neg (by decide), if_pos rfl, a2]
  · have tc := R.2.1 _ _ b
    rw [a1, if_neg (by decide), if_neg (by decide), if_neg (by decide), if_neg (by decide), e1, e2, nI_clamp (by have := tc.1; omega), nI_clamp (by have := tc.2.1; omega), tc.2.2.2.2.2.1]
theorem vr_x {β : Nat → Nat → Prop} {s m s' m' : Int32} (R : mr_ β M H V T) (v : vr_ β s m s' m') : s ≠ 0 → s ≠ 1 → ∃ x, x < 32 ∧ m = nI x := by
  intro a b
  rcases vr_s v with w | w | w
  · exact absurd w a
  · exact absurd w b
  · obtain ⟨x, y, e1, _, q⟩ := vr_t v w
    exact ⟨x, (R.2.1 _ _ q).1, e1⟩
theorem vr_y {β : Nat → Nat → Prop} {s m s' m' : Int32} (R : mr_ β M H V T) (v : vr_ β s m s' m') : s' ≠ 0 → s' ≠ 1 → ∃ x, x < 24 ∧ m' = nI x := by
  intro a b
  rw [← v.1] at a b
  rcases vr_s v with w | w | w
  · exact absurd w a
  · exact absurd w b
  · obtain ⟨x, y, _, e2, q⟩ := vr_t v w
    exact ⟨y, (R.2.1 _ _ q).2.1, e2⟩
theorem q_sort {k : Nat} (I : ir_ E S C M H A B V T) (v1 : Int32) : wpX_sort (fun r => wpY_sort (fun r' => r' = r ∧ i_Rel k (xk E S C W O M H) (yk A B V T K L)) (yk A B V T K L) v1) (xk E S C W O M H) v1 := by
  have I' := I
  obtain ⟨c, n, _, _, _, _, _, _, ⟨β, R⟩, _⟩ := I'
  unfold wpX_sort xk
  dsimp only
  rcases iv_c v1 with a | ⟨j, hj, rfl⟩
  · refine xv_0 (E := E) (S := S) (C := C) (W := W) (O := O) (M := M) (H := H) a (br_t rfl ?_)
    unfold wpY_sort yk
    dsimp only
    exact yv_0 (A := A) (B := B) (V := V) (T := T) (K := K) (L := L) a (br_t rfl ⟨rfl, I⟩)
  · refine xv_1 (E := E) (S := S) (C := C) (W := W) (O := O) (M := M) (H := H) hj (br_f (by decide) ⟨by_in (by omega), ?_⟩)
    unfold wpY_sort yk
    dsimp only
    refine yv_1 (A := A) (B := B) (V := V) (T := T) (K := K) (L := L) hj (br_f (by decide) ⟨by_in hj, ?_, I⟩)
    rw [ix_ev (a := yv_s V) (i := nI j) rfl, ix_ev (a := xm_s M) (i := nI j) rfl]
    exact (R.2.2.1 j hj).1.symm
theorem q_number {k : Nat} (I : ir_ E S C M H A B V T) (v1 : Int32) : wpX_number (fun r => wpY_number (fun r' => r' = r ∧ i_Rel k (xk E S C W O M H) (yk A B V T K L)) (yk A B V T K L) v1) (xk E S C W O M H) v1 := by
  have I' := I
  obtain ⟨c, n, _, _, _, _, _, _, ⟨β, R⟩, _⟩ := I'
  unfold wpX_number xk
  dsimp only
  rcases iv_c v1 with a | ⟨j, hj, rfl⟩
  · refine xv_0 (E := E) (S := S) (C := C) (W := W) (O := O) (M := M) (H := H) a (br_t rfl ?_)
    unfold wpY_number yk
    dsimp only
    exact yv_0 (A := A) (B := B) (V := V) (T := T) (K := K) (L := L) a (br_t rfl ⟨rfl, I⟩)
  · have v := R.2.2.1 j hj
    refine xv_1 (E := E) (S := S) (C := C) (W := W) (O := O) (M := M) (H := H) hj (br_f (by decide) ⟨by_in (by omega), by_in (by omega), ?_⟩)
    rw [ix_ev (a := xm_s M) (i := nI j) rfl, ix_ev (a := xm_n M) (i := nI j) rfl]
    refine xn_ (E := E) (S := S) (C := C) (W := W) (O := O) (M := M) (H := H) (vr_x R v) ?_
    rw [sh_eq R v]
    unfold wpY_number yk
    dsimp only
    refine yv_1 (A := A) (B := B) (V := V) (T := T) (K := K) (L := L) hj (br_f (by decide) ⟨by_in hj, ?_⟩)
    rw [ix_ev (a := yv_s V) (i := nI j) rfl, ix_ev (a := yv_n V) (i := nI j) rfl]
    by_cases s0 : yv_s V j = 0
    · rw [if_pos s0]
      exact br_t s0 ⟨rfl, I⟩
    · rw [if_neg s0]
      by_cases s1 : yv_s V j = 1
      · rw [if_pos s1]
        exact br_f s0 ⟨by_in hj, br_t s1 ⟨by_in hj, rfl, I⟩⟩
      · rw [if_neg s1]
        obtain ⟨x, hx, e⟩ := vr_y R v s0 s1
        exact br_f s0 ⟨by_in hj, br_f s1 ⟨by_in hj, by rw [e]; exact by_in hx, rfl, I⟩⟩
theorem q_entrySort {k : Nat} (I : ir_ E S C M H A B V T) (v1 v2 : Int32) : wpX_entrySort (fun r => wpY_entrySort (fun r' => r' = r ∧ i_Rel k (xk E S C W O M H) (yk A B V T K L)) (yk A B V T K L) v1 v2) (xk E S C W O M H) v1 v2 := by
  have I' := I
  obtain ⟨c, n, _, _, _, _, _, _, ⟨β, R⟩, _⟩ := I'
  unfold wpX_entrySort xk
  dsimp only
  rcases iv_c v1 with a | ⟨j, hj, rfl⟩
  · refine xv_0 (E := E) (S := S) (C := C) (W := W) (O := O) (M := M) (H := H) a (br_t rfl ?_)
    unfold wpY_entrySort yk
    dsimp only
    exact yv_0 (A := A) (B := B) (V := V) (T := T) (K := K) (L := L) a (br_t rfl ⟨rfl, I⟩)
  · have v := R.2.2.1 j hj
    refine xv_1 (E := E) (S := S) (C := C) (W := W) (O := O) (M := M) (H := H) hj (br_f (by decide) ⟨by_in (by omega), ?_⟩)
    rw [ix_ev (a := xm_s M) (i := nI j) rfl, ix_ev (a := xm_n M) (i := nI j) rfl]
    by_cases s2 : xm_s M j = 2
    · obtain ⟨x, y, e1, e2, b⟩ := vr_t v s2
      have tc := R.2.1 _ _ b
      obtain ⟨z, z6, hz, hs, hd⟩ := tc.2.2.2.2.1
      obtain ⟨i, hat⟩ := hs_place (ky := xh_k H) tc.2.2.2.1.2.2.2 v2
      have hl := hs_found tc.2.2.2.1 hat
      have lk := tc.2.2.2.2.2.2.2 v2
      rw [hl] at lk
      refine br_t s2 ⟨by_in (by omega), ?_⟩
      rw [e1]
      refine xp_place (E := E) (S := S) (C := C) (W := W) (O := O) (M := M) (H := H) tc.1 hat ⟨by_in (by have := tc.1; omega), ?_⟩
      rw [ix_ev (a := xh_s H) (i := nI (8 * x + (hs_h v2 + i) % 8)) rfl (by have := tc.1; omega)]
      unfold wpY_entrySort yk
      dsimp only
      refine yv_1 (A := A) (B := B) (V := V) (T := T) (K := K) (L := L) hj (br_f (by decide) ⟨by_in hj, ?_⟩)
      rw [ix_ev (a := yv_s V) (i := nI j) rfl, ix_ev (a := yv_n V) (i := nI j) rfl]
      refine br_t (v.1.symm.trans s2) ⟨by_in hj, ?_⟩
      rw [e2]
      refine ym_find (A := A) (B := B) (V := V) (T := T) (K := K) (L := L) tc.2.1 hz z6 ?_
      have y24 := tc.2.1
      rcases yf_l_cases hz tc.2.1 z6 v2 with ⟨i', hi', _, ef, el, _⟩ | ⟨ef, el, _⟩
      · rw [el] at lk
        rw [ef]
        refine br_t (nI_pos' (by omega)) ⟨by_in (by omega), ?_, I⟩
        rw [ix_ev (a := yt_s T) (i := nI (6 * y + i')) rfl]
        exact lk.1.symm
      · rw [el] at lk
        rw [ef]
        exact br_f yf_neg1 ⟨lk.1.symm, I⟩
    · refine br_f s2 ?_
      unfold wpY_entrySort yk
      dsimp only
      refine yv_1 (A := A) (B := B) (V := V) (T := T) (K := K) (L := L) hj (br_f (by decide) ⟨by_in hj, ?_⟩)
      rw [ix_ev (a := yv_s V) (i := nI j) rfl]
      exact br_f (fun w => s2 (v.1.trans w)) ⟨rfl, I⟩
theorem q_entryNumber {k : Nat} (I : ir_ E S C M H A B V T) (v1 v2 : Int32) : wpX_entryNumber (fun r => wpY_entryNumber (fun r' => r' = r ∧ i_Rel k (xk E S C W O M H) (yk A B V T K L)) (yk A B V T K L) v1 v2) (xk E S C W O M H) v1 v2 := by
  have I' := I
  obtain ⟨c, n, _, _, _, _, _, _, ⟨β, R⟩, _⟩ := I'
  unfold wpX_entryNumber xk
  dsimp only
  rcases iv_c v1 with a | ⟨j, hj, rfl⟩
  · refine xv_0 (E := E) (S := S) (C := C) (W := W) (O := O) (M := M) (H := H) a (br_t rfl ?_)
    unfold wpY_entryNumber yk
    dsimp only
    exact yv_0 (A := A) (B := B) (V := V) (T := T) (K := K) (L := L) a (br_t rfl ⟨rfl, I⟩)
  · have v := R.2.2.1 j hj
    refine xv_1 (E := E) (S := S) (C := C) (W := W) (O := O) (M := M) (H := H) hj (br_f (by decide) ⟨by_in (by omega), ?_⟩)
    rw [ix_ev (a := xm_s M) (i := nI j) rfl, ix_ev (a := xm_n M) (i := nI j) rfl]
    by_cases s2 : xm_s M j = 2
    · obtain ⟨x, y, e1, e2, b⟩ := vr_t v s2
      have tc := R.2.1 _ _ b
      obtain ⟨z, z6, hz, hs, hd⟩ := tc.2.2.2.2.1
      obtain ⟨i, hat⟩ := hs_place (ky := xh_k H) tc.2.2.2.1.2.2.2 v2
      have hl := hs_found tc.2.2.2.1 hat
      have lk := tc.2.2.2.2.2.2.2 v2
      rw [hl] at lk
      refine br_t s2 ⟨by_in (by omega), ?_⟩
      rw [e1]
      have x32 := tc.1
      refine xp_place (E := E) (S := S) (C := C) (W := W) (O := O) (M := M) (H := H) tc.1 hat ⟨by_in (by omega), by_in (by omega), ?_⟩
      rw [ix_ev (a := xh_s H) (i := nI (8 * x + (hs_h v2 + i) % 8)) rfl (by omega), ix_ev (a := xh_n H) (i := nI (8 * x + (hs_h v2 + i) % 8)) rfl (by omega)]
      refine xn_ (E := E) (S := S) (C := C) (W := W) (O := O) (M := M) (H := H) (vr_x R lk) ?_
      rw [sh_eq R lk]
      unfold wpY_entryNumber yk
      dsimp only
      refine yv_1 (A := A) (B := B) (V := V) (T := T) (K := K) (L := L) hj (br_f (by decide) ⟨by_in hj, ?_⟩)
      rw [ix_ev (a := yv_s V) (i := nI j) rfl, ix_ev (a := yv_n V) (i := nI j) rfl]
      refine br_t (v.1.symm.trans s2) ⟨by_in hj, ?_⟩
      rw [e2]
      refine ym_find (A := A) (B := B) (V := V) (T := T) (K := K) (L := L) tc.2.1 hz z6 ?_
      have y24 := tc.2.1
      rcases yf_l_cases hz tc.2.1 z6 v2 with ⟨i', hi', _, ef, el, _⟩ | ⟨ef, el, _⟩
      · rw [el] at lk ⊢
        rw [ef]
        refine br_t (nI_pos' (by omega)) ⟨by_in (by omega), ?_⟩
        rw [ix_ev (a := yt_s T) (i := nI (6 * y + i')) rfl, ix_ev (a := yt_n T) (i := nI (6 * y + i')) rfl]
        have s0 := hs i' hi'
        rw [if_neg s0]
        by_cases t2 : yt_s T (6 * y + i') = 2
        · have t1 : ¬ yt_s T (6 * y + i') = 1 := by rw [t2]; decide
          obtain ⟨q, hq, eq⟩ := vr_y R lk s0 t1
          have eq : yt_n T (6 * y + i') = nI q := eq
          refine br_t t2 ⟨by_in (by omega), by rw [eq]; exact by_in hq, ?_, I⟩
          rw [if_neg t1]
        · have t1 : yt_s T (6 * y + i') = 1 := by
            have vs := vr_s lk
            rw [lk.1] at vs
            rcases vs with w | w | w
            · exact absurd w s0
            · exact w
            · exact absurd w t2
          refine br_f t2 ⟨by_in (by omega), ?_, I⟩
          rw [if_pos t1]
      · rw [el, ef]
        exact br_f yf_neg1 ⟨rfl, I⟩
    · refine br_f s2 ?_
      unfold wpY_entryNumber yk
      dsimp only
      refine yv_1 (A := A) (B := B) (V := V) (T := T) (K := K) (L := L) hj (br_f (by decide) ⟨by_in hj, ?_⟩)
      rw [ix_ev (a := yv_s V) (i := nI j) rfl]
      exact br_f (fun w => s2 (v.1.trans w)) ⟨rfl, I⟩
theorem q_same {k : Nat} (I : ir_ E S C M H A B V T) (v1 v2 : Int32) : wpX_same (fun r => wpY_same (fun r' => r' = r ∧ i_Rel k (xk E S C W O M H) (yk A B V T K L)) (yk A B V T K L) v1 v2) (xk E S C W O M H) v1 v2 := by
  have I' := I
  obtain ⟨c, n, _, _, _, _, _, _, ⟨β, R⟩, _⟩ := I'
  unfold wpX_same xk
  dsimp only
  rcases iv_c v1 with a | ⟨i, hi, rfl⟩
  · refine xv_0 (E := E) (S := S) (C := C) (W := W) (O := O) (M := M) (H := H) a (br_t rfl ?_)
    unfold wpY_same yk
    dsimp only
    exact yv_0 (A := A) (B := B) (V := V) (T := T) (K := K) (L := L) a (br_t rfl ⟨rfl, I⟩)
  · refine xv_1 (E := E) (S := S) (C := C) (W := W) (O := O) (M := M) (H := H) hi (br_f (by decide) ?_)
    rcases iv_c v2 with a | ⟨j, hj, rfl⟩
    · refine xv_0 (E := E) (S := S) (C := C) (W := W) (O := O) (M := M) (H := H) a (br_t rfl ?_)
      unfold wpY_same yk
      dsimp only
      refine yv_1 (A := A) (B := B) (V := V) (T := T) (K := K) (L := L) hi (br_f (by decide) ?_)
      exact yv_0 (A := A) (B := B) (V := V) (T := T) (K := K) (L := L) a (br_t rfl ⟨rfl, I⟩)
    · refine xv_1 (E := E) (S := S) (C := C) (W := W) (O := O) (M := M) (H := H) hj (br_f (by decide) ?_)
      refine xr_same (E := E) (S := S) (C := C) (W := W) (O := O) (M := M) (H := H) (by omega) (by omega) ?_
      have e := vr_eq R (R.2.2.1 i hi) (R.2.2.1 j hj)
      have fin : ∀ b : Int32, b = ev_tr (decide (xm_s M i = xm_s M j ∧ xm_n M i = xm_n M j)) → wpY_same (fun r' => r' = b ∧ i_Rel k (xk E S C W O M H) (yk A B V T K L)) (yk A B V T K L) (nI i) (nI j) := by
        intro b eb
        unfold wpY_same yk
        dsimp only
        refine yv_1 (A := A) (B := B) (V := V) (T := T) (K := K) (L := L) hi (br_f (by decide) ?_)
        refine yv_1 (A := A) (B := B) (V := V) (T := T) (K := K) (L := L) hj (br_f (by decide) ⟨by_in hi, by_in hj, ?_⟩)
        rw [ix_ev (a := yv_s V) (i := nI i) rfl, ix_ev (a := yv_s V) (i := nI j) rfl, ix_ev (a := yv_n V) (i := nI i) rfl, ix_ev (a := yv_n V) (i := nI j) rfl]
        by_cases es : yv_s V i = yv_s V j
        · refine br_t es ⟨by_in hi, ?_⟩
          by_cases s0 : yv_s V i = 0
          · rw [decide_eq_true (e.mpr ⟨es, Or.inl s0⟩)] at eb
            exact br_t s0 ⟨eb.symm, I⟩
          · refine br_f s0 ⟨by_in hi, by_in hj, ?_⟩
            by_cases en : yv_n V i = yv_n V j
            · rw [decide_eq_true (e.mpr ⟨es, Or.inr en⟩)] at eb
              exact br_t en ⟨eb.symm, I⟩
            · rw [decide_eq_false (fun w => (e.mp w).2.elim s0 en)] at eb
              exact br_f en ⟨eb.symm, I⟩
        · rw [decide_eq_false (fun w => es (e.mp w).1)] at eb
          exact br_f es ⟨eb.symm, I⟩
      cases hd : decide (xm_s M i = xm_s M j ∧ xm_n M i = xm_n M j) with
      | true => exact br_f (by decide) (fin 1 (by rw [hd]; rfl))
      | false => exact br_t rfl (fin 0 (by rw [hd]; rfl))
theorem q_shown {k : Nat} (I : ir_ E S C M H A B V T) : wpX_shown (fun r => wpY_shown (fun r' => r' = r ∧ i_Rel k (xk E S C W O M H) (yk A B V T K L)) (yk A B V T K L)) (xk E S C W O M H) := by
  have I' := I
  obtain ⟨c, n, _, _, _, _, _, _, _, ⟨h, _, h1, h2, _⟩⟩ := I'
  exact ⟨h2.trans h1.symm, I⟩
theorem q_output {k : Nat} (I : ir_ E S C M H A B V T) (v1 : Int32) : wpX_output (fun r => wpY_output (fun r' => r' = r ∧ i_Rel k (xk E S C W O M H) (yk A B V T K L)) (yk A B V T K L) v1) (xk E S C W O M H) v1 := by
  have I' := I
  obtain ⟨c, n, _, _, _, _, _, _, _, ⟨h, _, h1, h2, h3⟩⟩ := I'
  by_cases a : v1 < 0
  · exact br_t a (br_t a ⟨rfl, I⟩)
  · refine br_f a ?_
    by_cases b : xm_h M ≤ v1
    · exact br_t b (br_f a (br_t (by rw [h2, ← h1]; exact b) ⟨rfl, I⟩))
    · have b' : ¬ yv_h V ≤ v1 := by rw [h2, ← h1]; exact b
      refine br_f b ?_
      by_cases d : v1 ≤ 29
      · have d' : ¬ 29 < v1 := Int32.not_lt.mpr d
        obtain ⟨j, hj, rfl⟩ := nI_of2 (x := v1) (M := 29) (n := 29) (by decide) a d
        refine br_t d ⟨by_in (by omega), ?_⟩
        exact br_f a (br_f b' (br_f d' ⟨by_in (by omega), by rw [← h3], I⟩))
      · exact br_f d (br_f a (br_f b' (br_t (Int32.not_le.mp d) ⟨rfl, I⟩)))
theorem q_tables {k : Nat} (I : ir_ E S C M H A B V T) : wpX_tables (fun r u' => wpY_tables (fun r' v' => r' = r ∧ i_Rel k u' v') (yk A B V T K L)) (xk E S C W O M H) := by
  obtain ⟨c, n, i1, i2, i3, i4, i5, i6, ⟨β, R⟩, i7⟩ := I
  obtain ⟨f, hf, hk⟩ := xq_tables (E := E) (S := S) (C := C) (W := W) (O := O) (mr_gd R) (fun r h6 h => mr_reg R (by omega) h)
  refine hk _ ?_
  obtain ⟨s, _, hs, hk2⟩ := yq_reach (A := A) (B := B) (K := K) (L := L) (rc_gy R) (fun r h6 h => rc_vy R h6 h)
  unfold wpY_tables yk
  dsimp only
  refine hk2 _ ?_
  refine ⟨by rw [rc_cnt R hf hs], ?_⟩
  have R' : mr_ β M (xh_rc H f) V (yt_sn T s) := R
  exact ⟨c, n, i1, i2, i3, i4, i5, i6, ⟨β, R'⟩, i7⟩
end
end
section
/-! sound, run, retract -/
section
variable {E : gx_E} {S : gx_S} {C : gx_C} {W : gx_W} {O : gx_O} {M : gx_M} {H : gx_H} {A : gy_A} {B : gy_B} {V : gy_V} {T : gy_T} {K : gy_K} {L : gy_L}
theorem q_sound {k : Nat} (I : ir_ E S C M H A B V T) : wpX_sound (fun r u' => wpY_sound (fun r' => r' = r ∧ i_Rel k u' (yk A B V T K L)) (yk A B V T K L)) (xk E S C W O M H) := by
  have I' := I
  obtain ⟨c, n, i1, i2, i3, i4, i5, i6, i7⟩ := I'
  obtain ⟨r, O', hr, hk⟩ := xd_ (E := E) (C := C) (W := W) (O := O) (M := M) (H := H) i4
  refine hk _ ?_
  refine yd_ i5 i4 (fun sd => ⟨?_, I⟩) (fun nsd => ⟨?_, I⟩)
  · rcases hr with ⟨h, _⟩ | ⟨_, h⟩
    · exact h.symm
    · exact absurd sd h
  · rcases hr with ⟨_, h⟩ | ⟨h, _⟩
    · exact absurd h nsd
    · exact h.symm
theorem xu_16 : ∀ (d r : Nat) (M1 : gx_M), r + d = 18 → xb_ M M1 0 r → ∃ M', xb_ M M' 0 18 ∧ ∀ (post : Int32 → SX → Prop), wpX_execute post (xk E S C W O (xm_c M', 0, xm_s M', xm_n M', xm_l M', xm_m M', xm_v M') (0, xh_r H, xh_k H, xh_s H, xh_n H, xh_c H)) → (wX_run_16 post (d + 1) (nI r) (xe_n E) (xs_n S) (xc_f C) (xc_n C) (xo_n O) (xm_c M1) (xm_h M1) (xh_u H) (xh_r H) (xe_k E) (xe_x E) (xe_y E) (xe_w E) (xe_s E) (xe_i E) (xe_a E) (xs_o S) (xs_x S) (xs_y S) (xs_z S) (xc_o C) (xc_a C) (xc_b C) (xc_c C) (xc_k C) (xw_n W) (xw_r W) (xw_p W) (xw_t W) (xo_e O) (xo_l O) (xo_p O) (xm_s M1) (xm_n M1) (xm_l M1) (xm_m M1) (xm_v M1) (xh_k H) (xh_s H) (xh_n H) (xh_c H)) := by
  intro d
  induction d with
  | zero =>
    intro r M1 hd hb
    have e : r = 18 := by omega
    subst e
    exact ⟨M1, hb, fun post h => br_t (Int32.le_refl _) h⟩
  | succ d ih =>
    intro r M1 hd hb
    obtain ⟨M', h1, h2⟩ := ih (r + 1) (xm_rg M1 r 0 0) (by omega) (xb_s hb (by omega))
    refine ⟨M', h1, fun post h => ?_⟩
    refine br_f (nI_ge (b := 18) (by omega) (by decide)) ?_
    refine xr_clear (by omega) ?_
    exact nm_r (nI_1 r) (h2 post h)
theorem yu_12 : ∀ (d r : Nat) (V1 : gy_V), r + d = 6 → (yv_h V1 = yv_h V ∧ yv_o V1 = yv_o V ∧ ∀ q, q < r → yv_s V1 q = 0 ∧ yv_n V1 q = 0) →
    ∃ V', (yv_h V' = 0 ∧ yv_o V' = yv_o V ∧ ∀ q, q < 6 → yv_s V' q = 0 ∧ yv_n V' q = 0) ∧ ∀ (post : Int32 → SY → Prop) (m : Nat), (wY_run_50 post m 0 0 (ya_n A) (yb_n B) (yv_h V') (yk_d (yk_d K, yk_t K, 0, yk_w K, yk_g K, yk_s K, yk_n K)) (yk_t (yk_d K, yk_t K, 0, yk_w K, yk_g K, yk_s K, yk_n K)) (yk_f (yk_d K, yk_t K, 0, yk_w K, yk_g K, yk_s K, yk_n K)) (yl_n (0, yl_a L, yl_t L, yl_l L)) (ya_k A) (ya_x A) (ya_y A) (ya_w A) (yb_o B) (yb_x B) (yb_y B) (yb_z B) (yv_s V') (yv_n V') (yt_z T) (yt_k T) (yt_s T) (yt_n T) (yt_t T) (yt_e T) (yv_o V') (yk_w (yk_d K, yk_t K, 0, yk_w K, yk_g K, yk_s K, yk_n K)) (yk_g (yk_d K, yk_t K, 0, yk_w K, yk_g K, yk_s K, yk_n K)) (yk_s (yk_d K, yk_t K, 0, yk_w K, yk_g K, yk_s K, yk_n K)) (yk_n (yk_d K, yk_t K, 0, yk_w K, yk_g K, yk_s K, yk_n K)) (yl_a (0, yl_a L, yl_t L, yl_l L)) (yl_t (0, yl_a L, yl_t L, yl_l L)) (yl_l (0, yl_a L, yl_t L, yl_l L))) → (wY_run_12 post (d + 1) (nI r) (ya_n A) (yb_n B) (yv_h V1) (yk_d K) (yk_t K) (yk_f K) (yl_n L) (ya_k A) (ya_x A) (ya_y A) (ya_w A) (yb_o B) (yb_x B) (yb_y B) (yb_z B) (yv_s V1) (yv_n V1) (yt_z T) (yt_k T) (yt_s T) (yt_n T) (yt_t T) (yt_e T) (yv_o V1) (yk_w K) (yk_g K) (yk_s K) (yk_n K) (yl_a L) (yl_t L) (yl_l L)) := by
  intro d
  induction d with
  | zero =>
    intro r V1 hd hb
    have e : r = 6 := by omega
    subst e
    exact ⟨(0, yv_o V1, yv_s V1, yv_n V1), ⟨rfl, hb.2.1, hb.2.2⟩, fun post m h => br_t (Int32.le_refl _) ⟨m, h⟩⟩
  | succ d ih =>
    intro r V1 hd hb
    obtain ⟨V', h1, h2⟩ := ih (r + 1) (yv_h V1, yv_o V1, upd (yv_s V1) r 0, upd (yv_n V1) r 0) (by omega) ⟨hb.1, hb.2.1, fun q hq => by
      by_cases e : q = r
      · rw [e]; exact ⟨pk_us, pk_us⟩
      · have := hb.2.2 q (by omega)
        exact ⟨(pk_un e).trans this.1, (pk_un e).trans this.2⟩⟩
    refine ⟨V', h1, fun post m h => ?_⟩
    refine br_f (nI_ge (b := 6) (by omega) (by decide)) ?_
    refine ym_set (by omega) ?_
    exact nm_r (nI_1 r) (h2 post m h)
theorem q_run {k : Nat} (I : ir_ E S C M H A B V T) : wpX_run (fun r u' => wpY_run (fun r' v' => r' = r ∧ i_Rel k u' v') (yk A B V T K L)) (xk E S C W O M H) := by
  have I' := I
  obtain ⟨c, n, i1, i2, i3, i4, i5, i6, i7⟩ := I'
  obtain ⟨r, O1, hr, hk⟩ := xd_ (E := E) (C := C) (W := W) (O := O) (M := M) (H := H) i4
  unfold wpX_run xk
  dsimp only
  refine hk _ ?_
  rcases hr with ⟨er, sd⟩ | ⟨er, nsd⟩
  · subst er
    refine br_f (by decide) ?_
    -- compile, or what was compiled before
    have comp : ∃ C' W' O', co_ok E S C' n ∧ xc_f C' = 1 ∧ ∀ post : SX → Prop, post (xk E S C' W' O' M H) → wpX_compile post (xk E S C W O1 M H) := by
      rcases i6 with f0 | ⟨f1, co⟩
      · exact kb_all (by rw [i1]; exact i2) i3 i4 sd f0
      · exact ⟨C, W, O1, co, f1, fun post h => br_f (by rw [f1]; decide) h⟩
    obtain ⟨C', W', O', co, f1, hcomp⟩ := comp
    refine hcomp _ ?_
    obtain ⟨M', hb, h16⟩ := xu_16 (E := E) (S := S) (C := C') (W := W') (O := O') (M := M) (H := H) 18 0 M (by omega) xb_0
    obtain ⟨V', ⟨v1, v2, v3⟩, h12⟩ := yu_12 (A := A) (B := B) (V := V) (T := T) (K := K) (L := L) 6 0 V (by omega) ⟨rfl, rfl, fun q hq => by omega⟩
    have sh := i7.2
    have rn : rn_ (xm_c M', 0, xm_s M', xm_n M', xm_l M', xm_m M', xm_v M') (0, xh_r H, xh_k H, xh_s H, xh_n H, xh_c H) V' T (yk_d K, yk_t K, 0, yk_w K, yk_g K, yk_s K, yk_n K) (0, yl_a L, yl_t L, yl_l L) 0 0 := by
      refine ⟨⟨fun _ _ => False, fun x y x' y' h => h.elim, fun x y h => h.elim, fun q hq => ?_, fun q hq => ?_⟩, ⟨0, Nat.le_refl _, rfl, v1, ?_⟩, rfl, rfl⟩
      · have a := hb.2.2.2.2.2.1 q (by omega) (by omega)
        have b := v3 q hq
        show vr_ _ (xm_s M' q) (xm_n M' q) (yv_s V' q) (yv_n V' q)
        rw [a.1, a.2, b.1, b.2]
        exact vr_0 0
      · have a := hb.2.2.2.2.2.1 q (by omega) (by omega)
        show ∃ s n, vr_ _ (xm_s M' q) (xm_n M' q) s n
        rw [a.1, a.2]
        exact ⟨0, 0, vr_0 0⟩
      · obtain ⟨_, _, _, _, e⟩ := sh
        show xm_v M' = yv_o V'
        rw [v2, ← e]
        exact hb.2.2.2.2.1
    obtain ⟨r, M2, H2, V2, T2, K2, L2, fe, hX, hY⟩ := rg_all (W := W') (O := O') i1 i2 i3 i5 i4 co rn
    refine ⟨19, h16 _ ?_⟩
    refine hX _ ?_
    unfold wpY_run yk
    dsimp only
    refine yd_ (A := A) (B := B) (V := V) (T := T) (K := K) (L := L) i5 i4 (fun _ => ?_) (fun w => absurd sd w)
    refine br_f (by decide) ?_
    obtain ⟨m, hm⟩ := hY (fun r' v' => r' = r ∧ i_Rel k (xk E S C' W' O' M2 H2) v') ⟨rfl, ⟨c, n, i1, i2, i3, i4, i5, Or.inr ⟨f1, co⟩, fe⟩⟩
    exact ⟨7, h12 _ m hm⟩
  · subst er
    refine br_t rfl ?_
    unfold wpY_run yk
    dsimp only
    exact yd_ (A := A) (B := B) (V := V) (T := T) (K := K) (L := L) i5 i4 (fun w => absurd w nsd) (fun _ => br_t rfl ⟨rfl, I⟩)
theorem q_retract {k : Nat} (I : ir_ E S C M H A B V T) : wpX_retract (fun r u' => wpY_retract (fun r' v' => r' = r ∧ i_Rel k u' v') (yk A B V T K L)) (xk E S C W O M H) := by
  have I' := I
  obtain ⟨c, n, i1, i2, i3, i4, i5, i6, i7⟩ := I'
  have n14 := i4.2.1
  have hb : yb_n B = nI n := i5.1.trans i4.1
  by_cases z : n = 0
  · refine br_t (by rw [i4.1, z]; rfl) ?_
    exact br_t (by rw [hb, z]; rfl) ⟨rfl, I⟩
  · obtain ⟨m, rfl⟩ : ∃ m, n = m + 1 := ⟨n - 1, by omega⟩
    refine br_f (by rw [i4.1]; exact nI_ne0 (by omega) (by omega)) (nm_r (e' := nI m) (by rw [i4.1, nI_pred]) ?_)
    refine br_f (by rw [hb]; exact nI_ne0 (by omega) (by omega)) (nm_r (e' := nI m) (by rw [hb, nI_pred]) ⟨rfl, ?_⟩)
    exact ⟨c, m, i1, i2, i3, ⟨rfl, by omega, fun i hi => i4.2.2 i (by omega)⟩, ⟨rfl, i5.2.1, i5.2.2.1, fun i hi => i5.2.2.2 i (by omega)⟩, Or.inl rfl, i7⟩
end
end
section
/-! state -/
def tE_ (c : Nat) (v : Int32) : Prop := ∃ j, j < c ∧ v = nI j
def tV_ (v : Int32) : Prop := ∃ j, j < 6 ∧ v = nI j
def tT_ (v : Int32) : Prop := ∃ j, 1 ≤ j ∧ j ≤ 6 ∧ v = nI j
def ft_ (c : Nat) (op x y z : Int32) : Prop :=
  (op = 0 ∧ tV_ x ∧ tE_ c y) ∨ (op = 1 ∧ tE_ c x ∧ tE_ c y ∧ tE_ c z) ∨ (op = 2 ∧ tE_ c x ∧ tT_ y) ∨ (op = 3 ∧ tV_ x ∧ tE_ c y ∧ tT_ z) ∨ (op = 4 ∧ tE_ c x)
section
variable {E : gx_E} {S : gx_S} {C : gx_C} {W : gx_W} {O : gx_O} {M : gx_M} {H : gx_H} {A : gy_A} {B : gy_B} {V : gy_V} {T : gy_T} {K : gy_K} {L : gy_L} {c n : Nat}
theorem xE_ {post : Int32 → Prop} {v : Int32} (hc : xe_n E = nI c) (c30 : c ≤ 30) (h1 : tE_ c v → post 1) (h0 : ¬ tE_ c v → post 0) : wpX_isExpression post (xk E S C W O M H) v := by
  by_cases a : v < 0
  · refine br_t a (h0 ?_)
    rintro ⟨j, hj, rfl⟩
    exact nI_pos (by omega) a
  · refine br_f a ?_
    by_cases b : xe_n E ≤ v
    · refine br_t b (h0 ?_)
      rintro ⟨j, hj, rfl⟩
      rw [hc] at b
      exact nI_ge hj (by omega) b
    · refine br_f b (h1 ?_)
      rw [hc] at b
      obtain ⟨j, hj, e, _⟩ := pk_ix v (n := c) (by omega) |>.resolve_left a |>.resolve_left b |> fun ⟨j, hj, e⟩ => (⟨j, hj, e, trivial⟩ : ∃ j, j < c ∧ v = nI j ∧ True)
      exact ⟨j, hj, e⟩
theorem yE_ {post : Int32 → Prop} {v : Int32} (hc : ya_n A = nI c) (c30 : c ≤ 30) (h1 : tE_ c v → post 1) (h0 : ¬ tE_ c v → post 0) : wpY_isExpression post (yk A B V T K L) v := by
  by_cases a : v < 0
  · refine br_t a (h0 ?_)
    rintro ⟨j, hj, rfl⟩
    exact nI_pos (by omega) a
  · refine br_f a ?_
    by_cases b : ya_n A ≤ v
    · refine br_t b (h0 ?_)
      rintro ⟨j, hj, rfl⟩
      rw [hc] at b
      exact nI_ge hj (by omega) b
    · refine br_f b (h1 ?_)
      rw [hc] at b
      rcases pk_ix v (n := c) (by omega) with w | w | w
      · exact absurd w a
      · exact absurd w b
      · exact w
theorem yV_ {post : Int32 → Prop} {v : Int32} (h1 : tV_ v → post 1) (h0 : ¬ tV_ v → post 0) : wpY_isVariable post (yk A B V T K L) v := by
  rcases iv_c v with a | ⟨j, hj, e⟩
  · refine yv_0 a (h0 ?_)
    rintro ⟨j, hj, rfl⟩
    rcases a with a | a
    · exact nI_pos (by omega) a
    · exact nI_ge hj (by omega) a
  · subst e
    exact yv_1 hj (h1 ⟨j, hj, rfl⟩)
theorem tT_c (v : Int32) : (v < 1 ∧ ¬ tT_ v) ∨ (¬ v < 1 ∧ ¬ v ≤ 6 ∧ ¬ tT_ v) ∨ (¬ v < 1 ∧ v ≤ 6 ∧ tT_ v) := by
  by_cases a : v < 1
  · refine Or.inl ⟨a, ?_⟩
    rintro ⟨j, h1, h6, rfl⟩
    exact nI_nlt (b := 1) h1 (by omega) a
  · by_cases b : v ≤ 6
    · refine Or.inr (Or.inr ⟨a, b, ?_⟩)
      have a0 : ¬ v < 0 := fun w => a (Int32.lt_of_lt_of_le w (by decide))
      obtain ⟨j, hj, e⟩ := nI_of2 (x := v) (M := 6) (n := 6) (by decide) a0 b
      refine ⟨j, ?_, hj, e⟩
      rw [e] at a
      by_cases z : j = 0
      · rw [z] at a; exact absurd (by decide) a
      · omega
    · refine Or.inr (Or.inl ⟨a, b, ?_⟩)
      rintro ⟨j, h1, h6, rfl⟩
      exact b (nI_le (b := 6) h6 (by decide))
theorem yT_ {post : Int32 → Prop} {v : Int32} (h1 : tT_ v → post 1) (h0 : ¬ tT_ v → post 0) : wpY_isStretch post (yk A B V T K L) v := by
  rcases tT_c v with ⟨a, b⟩ | ⟨a, b, d⟩ | ⟨a, b, d⟩
  · exact br_t a (h0 b)
  · exact br_f a (br_t (Int32.not_le.mp b) (h0 d))
  · exact br_f a (br_f (Int32.not_lt.mpr b) (h1 d))
theorem yF_ {post : Int32 → Prop} {op x y z : Int32} (hc : ya_n A = nI c) (c30 : c ≤ 30) (h1 : ft_ c op x y z → post 1) (h0 : ¬ ft_ c op x y z → post 0) : wpY_fits post (yk A B V T K L) op x y z := by
  by_cases o0 : op = 0
  · refine br_t o0 ?_
    subst o0
    refine yV_ (fun a => br_f (by decide) ?_) (fun a => br_t rfl (h0 ?_))
    · refine yE_ hc c30 (fun b => br_f (by decide) (h1 (Or.inl ⟨rfl, a, b⟩))) (fun b => br_t rfl (h0 ?_))
      rintro (w | w | w | w | w)
      · exact b w.2.2
      all_goals exact absurd w.1 (by decide)
    · rintro (w | w | w | w | w)
      · exact a w.2.1
      all_goals exact absurd w.1 (by decide)
  · refine br_f o0 ?_
    by_cases o1 : op = 1
    · refine br_t o1 ?_
      subst o1
      refine yE_ hc c30 (fun a => br_f (by decide) ?_) (fun a => br_t rfl (h0 ?_))
      · refine yE_ hc c30 (fun b => br_f (by decide) ?_) (fun b => br_t rfl (h0 ?_))
        · refine yE_ hc c30 (fun d => br_f (by decide) (h1 (Or.inr (Or.inl ⟨rfl, a, b, d⟩)))) (fun d => br_t rfl (h0 ?_))
          rintro (w | w | w | w | w)
          · exact absurd w.1 (by decide)
          · exact d w.2.2.2
          all_goals exact absurd w.1 (by decide)
        · rintro (w | w | w | w | w)
          · exact absurd w.1 (by decide)
          · exact b w.2.2.1
          all_goals exact absurd w.1 (by decide)
      · rintro (w | w | w | w | w)
        · exact absurd w.1 (by decide)
        · exact a w.2.1
        all_goals exact absurd w.1 (by decide)
    · refine br_f o1 ?_
      by_cases o2 : op = 2
      · refine br_t o2 ?_
        subst o2
        refine yE_ hc c30 (fun a => br_f (by decide) ?_) (fun a => br_t rfl (h0 ?_))
        · refine yT_ (fun b => br_f (by decide) (h1 (Or.inr (Or.inr (Or.inl ⟨rfl, a, b⟩))))) (fun b => br_t rfl (h0 ?_))
          rintro (w | w | w | w | w)
          · exact absurd w.1 (by decide)
          · exact absurd w.1 (by decide)
          · exact b w.2.2
          all_goals exact absurd w.1 (by decide)
        · rintro (w | w | w | w | w)
          · exact absurd w.1 (by decide)
          · exact absurd w.1 (by decide)
          · exact a w.2.1
          all_goals exact absurd w.1 (by decide)
      · refine br_f o2 ?_
        by_cases o3 : op = 3
        · refine br_t o3 ?_
          subst o3
          refine yV_ (fun a => br_f (by decide) ?_) (fun a => br_t rfl (h0 ?_))
          · refine yE_ hc c30 (fun b => br_f (by decide) ?_) (fun b => br_t rfl (h0 ?_))
            · refine yT_ (fun d => br_f (by decide) (h1 (Or.inr (Or.inr (Or.inr (Or.inl ⟨rfl, a, b, d⟩)))))) (fun d => br_t rfl (h0 ?_))
              rintro (w | w | w | w | w)
              · exact absurd w.1 (by decide)
              · exact absurd w.1 (by decide)
              · exact absurd w.1 (by decide)
              · exact d w.2.2.2
              · exact absurd w.1 (by decide)
            · rintro (w | w | w | w | w)
              · exact absurd w.1 (by decide)
              · exact absurd w.1 (by decide)
              · exact absurd w.1 (by decide)
              · exact b w.2.2.1
              · exact absurd w.1 (by decide)
          · rintro (w | w | w | w | w)
            · exact absurd w.1 (by decide)
            · exact absurd w.1 (by decide)
            · exact absurd w.1 (by decide)
            · exact a w.2.1
            · exact absurd w.1 (by decide)
        · refine br_f o3 ?_
          by_cases o4 : op = 4
          · refine br_t o4 ?_
            subst o4
            refine yE_ hc c30 (fun a => br_f (by decide) (h1 (Or.inr (Or.inr (Or.inr (Or.inr ⟨rfl, a⟩)))))) (fun a => br_t rfl (h0 ?_))
            rintro (w | w | w | w | w)
            · exact absurd w.1 (by decide)
            · exact absurd w.1 (by decide)
            · exact absurd w.1 (by decide)
            · exact absurd w.1 (by decide)
            · exact a w.2
          · refine br_f o4 (h0 ?_)
            rintro (w | w | w | w | w)
            · exact o0 w.1
            · exact o1 w.1
            · exact o2 w.1
            · exact o3 w.1
            · exact o4 w.1
/-- the component's tests -/
theorem xF_ {post : Int32 → SX → Prop} {op x y z : Int32} (hc : xe_n E = nI c) (c30 : c ≤ 30) (hn : xs_n S = nI n) (n14 : n < 14)
    (h1 : ft_ c op x y z → (wX_state_141 post op x y z (xe_n E) (xs_n S) (xc_f C) (xc_n C) (xo_n O) (xm_c M) (xm_h M) (xh_u H) (xh_r H) (xe_k E) (xe_x E) (xe_y E) (xe_w E) (xe_s E) (xe_i E) (xe_a E) (xs_o S) (xs_x S) (xs_y S) (xs_z S) (xc_o C) (xc_a C) (xc_b C) (xc_c C) (xc_k C) (xw_n W) (xw_r W) (xw_p W) (xw_t W) (xo_e O) (xo_l O) (xo_p O) (xm_s M) (xm_n M) (xm_l M) (xm_m M) (xm_v M) (xh_k H) (xh_s H) (xh_n H) (xh_c H))) (h0 : ¬ ft_ c op x y z → post (-1) (xk E S C W O M H)) : wpX_state post (xk E S C W O M H) op x y z := by
  refine br_t (by rw [hn]; exact nI_lt (b := 14) n14 (by decide)) ?_
  have big : ∀ k : Nat, k ≤ 4 → ∀ v : Int32, v = nI k → ¬ v < 0 ∧ v ≤ 4 := fun k hk v e => by
    rw [e]; exact ⟨nI_pos (by omega), nI_le (b := 4) hk (by decide)⟩
  -- the tests behind the first field
  have v67 : (op = 0 ∨ op = 3) → tV_ x → (wX_state_67 post op x y z 1 (xe_n E) (xs_n S) (xc_f C) (xc_n C) (xo_n O) (xm_c M) (xm_h M) (xh_u H) (xh_r H) (xe_k E) (xe_x E) (xe_y E) (xe_w E) (xe_s E) (xe_i E) (xe_a E) (xs_o S) (xs_x S) (xs_y S) (xs_z S) (xc_o C) (xc_a C) (xc_b C) (xc_c C) (xc_k C) (xw_n W) (xw_r W) (xw_p W) (xw_t W) (xo_e O) (xo_l O) (xo_p O) (xm_s M) (xm_n M) (xm_l M) (xm_m M) (xm_v M) (xh_k H) (xh_s H) (xh_n H) (xh_c H)) → (wX_state_37 post op x y z 1 (xe_n E) (xs_n S) (xc_f C) (xc_n C) (xo_n O) (xm_c M) (xm_h M) (xh_u H) (xh_r H) (xe_k E) (xe_x E) (xe_y E) (xe_w E) (xe_s E) (xe_i E) (xe_a E) (xs_o S) (xs_x S) (xs_y S) (xs_z S) (xc_o C) (xc_a C) (xc_b C) (xc_c C) (xc_k C) (xw_n W) (xw_r W) (xw_p W) (xw_t W) (xo_e O) (xo_l O) (xo_p O) (xm_s M) (xm_n M) (xm_l M) (xm_m M) (xm_v M) (xh_k H) (xh_s H) (xh_n H) (xh_c H)) := by
    rintro _ ⟨j, hj, rfl⟩ h
    exact br_f (by decide) (br_f (nI_pos (by omega)) (br_t (nI_lt (b := 6) hj (by decide)) h))
  have v37 : ¬ tV_ x → post (-1) (xk E S C W O M H) → (wX_state_37 post op x y z 1 (xe_n E) (xs_n S) (xc_f C) (xc_n C) (xo_n O) (xm_c M) (xm_h M) (xh_u H) (xh_r H) (xe_k E) (xe_x E) (xe_y E) (xe_w E) (xe_s E) (xe_i E) (xe_a E) (xs_o S) (xs_x S) (xs_y S) (xs_z S) (xc_o C) (xc_a C) (xc_b C) (xc_c C) (xc_k C) (xw_n W) (xw_r W) (xw_p W) (xw_t W) (xo_e O) (xo_l O) (xo_p O) (xm_s M) (xm_n M) (xm_l M) (xm_m M) (xm_v M) (xh_k H) (xh_s H) (xh_n H) (xh_c H)) := by
    intro nv h
    refine br_f (by decide) ?_
    by_cases a : x < 0
    · exact br_t a h
    · refine br_f a (br_f (fun w => nv ?_) h)
      rcases pk_ix x (n := 6) (by omega) with q | q | q
      · exact absurd q a
      · exact absurd w (Int32.not_lt.mpr q)
      · exact q
  by_cases o0 : op = 0
  · obtain ⟨b1, b2⟩ := big 0 (by omega) op o0
    refine br_f b1 (br_t b2 (br_t o0 ?_))
    subst o0
    by_cases tv : tV_ x
    · refine v67 (Or.inl rfl) tv (br_f (by decide) ?_)
      refine xE_ hc c30 (fun b => br_f (by decide) ?_) (fun b => br_t rfl (h0 ?_))
      · exact br_f (by decide) (br_f (by decide) (br_f (by decide) (h1 (Or.inl ⟨rfl, tv, b⟩))))
      · rintro (w | w | w | w | w)
        · exact b w.2.2
        all_goals exact absurd w.1 (by decide)
    · refine v37 tv (h0 ?_)
      rintro (w | w | w | w | w)
      · exact tv w.2.1
      all_goals exact absurd w.1 (by decide)
  · by_cases o1 : op = 1
    · obtain ⟨b1, b2⟩ := big 1 (by omega) op o1
      refine br_f b1 (br_t b2 (br_f o0 (br_f (by rw [o1]; decide) (br_t rfl ?_))))
      subst o1
      refine xE_ hc c30 (fun a => br_f (by decide) (br_t rfl (br_t rfl ?_))) (fun a => br_t rfl (h0 ?_))
      · refine xE_ hc c30 (fun b => br_f (by decide) (br_t rfl ?_)) (fun b => br_t rfl (h0 ?_))
        · refine xE_ hc c30 (fun d => br_f (by decide) ?_) (fun d => br_t rfl (h0 ?_))
          · exact br_f (by decide) (br_f (by decide) (h1 (Or.inr (Or.inl ⟨rfl, a, b, d⟩))))
          · rintro (w | w | w | w | w)
            · exact absurd w.1 (by decide)
            · exact d w.2.2.2
            all_goals exact absurd w.1 (by decide)
        · rintro (w | w | w | w | w)
          · exact absurd w.1 (by decide)
          · exact b w.2.2.1
          all_goals exact absurd w.1 (by decide)
      · rintro (w | w | w | w | w)
        · exact absurd w.1 (by decide)
        · exact a w.2.1
        all_goals exact absurd w.1 (by decide)
    · by_cases o2 : op = 2
      · obtain ⟨b1, b2⟩ := big 2 (by omega) op o2
        refine br_f b1 (br_t b2 (br_f o0 (br_f (by rw [o2]; decide) (br_t rfl ?_))))
        subst o2
        refine xE_ hc c30 (fun a => br_f (by decide) (br_t rfl (br_f (by decide) (br_f (by decide) ?_)))) (fun a => br_t rfl (h0 ?_))
        · refine br_t rfl ?_
          have no : ¬ tT_ y → ¬ ft_ c 2 x y z := by
            intro b
            rintro (w | w | w | w | w)
            · exact absurd w.1 (by decide)
            · exact absurd w.1 (by decide)
            · exact b w.2.2
            all_goals exact absurd w.1 (by decide)
          rcases tT_c y with ⟨q, b⟩ | ⟨q, b, d⟩ | ⟨q, b, d⟩
          · exact br_t q (h0 (no b))
          · exact br_f q (br_f b (h0 (no d)))
          · exact br_f q (br_t b (br_f (by decide) (h1 (Or.inr (Or.inr (Or.inl ⟨rfl, a, d⟩))))))
        · rintro (w | w | w | w | w)
          · exact absurd w.1 (by decide)
          · exact absurd w.1 (by decide)
          · exact a w.2.1
          all_goals exact absurd w.1 (by decide)
      · by_cases o3 : op = 3
        · obtain ⟨b1, b2⟩ := big 3 (by omega) op o3
          refine br_f b1 (br_t b2 (br_f o0 (br_t o3 ?_)))
          subst o3
          by_cases tv : tV_ x
          · refine v67 (Or.inr rfl) tv (br_f (by decide) ?_)
            refine xE_ hc c30 (fun b => br_f (by decide) ?_) (fun b => br_t rfl (h0 ?_))
            · refine br_f (by decide) (br_f (by decide) (br_t rfl ?_))
              have no : ¬ tT_ z → ¬ ft_ c 3 x y z := by
                intro b
                rintro (w | w | w | w | w)
                · exact absurd w.1 (by decide)
                · exact absurd w.1 (by decide)
                · exact absurd w.1 (by decide)
                · exact b w.2.2.2
                · exact absurd w.1 (by decide)
              rcases tT_c z with ⟨q, d⟩ | ⟨q, d, e⟩ | ⟨q, d, e⟩
              · exact br_t q (h0 (no d))
              · exact br_f q (br_f d (h0 (no e)))
              · exact br_f q (br_t d (h1 (Or.inr (Or.inr (Or.inr (Or.inl ⟨rfl, tv, b, e⟩))))))
            · rintro (w | w | w | w | w)
              · exact absurd w.1 (by decide)
              · exact absurd w.1 (by decide)
              · exact absurd w.1 (by decide)
              · exact b w.2.2.1
              · exact absurd w.1 (by decide)
          · refine v37 tv (h0 ?_)
            rintro (w | w | w | w | w)
            · exact absurd w.1 (by decide)
            · exact absurd w.1 (by decide)
            · exact absurd w.1 (by decide)
            · exact tv w.2.1
            · exact absurd w.1 (by decide)
        · by_cases o4 : op = 4
          · obtain ⟨b1, b2⟩ := big 4 (by omega) op o4
            refine br_f b1 (br_t b2 (br_f o0 (br_f o3 (br_t rfl ?_))))
            subst o4
            refine xE_ hc c30 (fun a => br_f (by decide) (br_t rfl (br_f (by decide) (br_f (by decide) ?_)))) (fun a => br_t rfl (h0 ?_))
            · exact br_f (by decide) (br_f (by decide) (h1 (Or.inr (Or.inr (Or.inr (Or.inr ⟨rfl, a⟩))))))
            · rintro (w | w | w | w | w)
              · exact absurd w.1 (by decide)
              · exact absurd w.1 (by decide)
              · exact absurd w.1 (by decide)
              · exact absurd w.1 (by decide)
              · exact a w.2
          · have nf : ¬ ft_ c op x y z := by
              rintro (w | w | w | w | w)
              · exact o0 w.1
              · exact o1 w.1
              · exact o2 w.1
              · exact o3 w.1
              · exact o4 w.1
            by_cases ng : op < 0
            · exact br_t ng (h0 nf)
            · refine br_f ng (br_f (fun le => ?_) (h0 nf))
              obtain ⟨j, hj, e⟩ := nI_of2 (x := op) (M := 4) (n := 4) (by decide) ng le
              have : j = 0 ∨ j = 1 ∨ j = 2 ∨ j = 3 ∨ j = 4 := by omega
              rcases this with w | w | w | w | w <;> subst w
              · exact o0 e
              · exact o1 e
              · exact o2 e
              · exact o3 e
              · exact o4 e
end
end
section
/-! state: what it leaves -/
section
variable {E : gx_E} {S : gx_S} {C : gx_C} {W : gx_W} {O : gx_O} {M : gx_M} {H : gx_H} {A : gy_A} {B : gy_B} {V : gy_V} {T : gy_T} {K : gy_K} {L : gy_L} {c n : Nat}
theorem so_cg {S S' : gx_S} {i : Nat} (h1 : xs_o S' i = xs_o S i) (h2 : xs_x S' i = xs_x S i) (h3 : xs_y S' i = xs_y S i) (h4 : xs_z S' i = xs_z S i) (so : so_1 S c i) : so_1 S' c i := by
  unfold so_1 st_k st_x st_y st_z at *
  rw [h1, h2, h3, h4]
  exact so
def s8_ (v : Int32) : Int32 := v.toInt8.toInt32
theorem s8_n {j : Nat} (h : j < 128) : s8_ (nI j) = nI j := by_8 j h
def xs_w (S : gx_S) (n : Nat) (op x y z : Int32) : gx_S := (nI (n + 1), upd (xs_o S) n (s8_ op), upd (xs_x S) n (s8_ x), upd (xs_y S) n (s8_ y), upd (xs_z S) n (s8_ z))
def yb_w (B : gy_B) (n : Nat) (op x y z : Int32) : gy_B := (nI (n + 1), upd (yb_o B) n op, upd (yb_x B) n x, upd (yb_y B) n y, upd (yb_z B) n z)
def xc_0 (C : gx_C) : gx_C := (0, xc_n C, xc_o C, xc_a C, xc_b C, xc_c C, xc_k C)
theorem x141 {post : Int32 → SX → Prop} {op x y z : Int32} (hn : xs_n S = nI n) (n14 : n < 14) (h : post (nI (n + 1)) (xk E (xs_w S n op x y z) (xc_0 C) W O M H)) : (wX_state_141 post op x y z (xe_n E) (xs_n S) (xc_f C) (xc_n C) (xo_n O) (xm_c M) (xm_h M) (xh_u H) (xh_r H) (xe_k E) (xe_x E) (xe_y E) (xe_w E) (xe_s E) (xe_i E) (xe_a E) (xs_o S) (xs_x S) (xs_y S) (xs_z S) (xc_o C) (xc_a C) (xc_b C) (xc_c C) (xc_k C) (xw_n W) (xw_r W) (xw_p W) (xw_t W) (xo_e O) (xo_l O) (xo_p O) (xm_s M) (xm_n M) (xm_l M) (xm_m M) (xm_v M) (xh_k H) (xh_s H) (xh_n H) (xh_c H)) := by
  refine ix_st n 14 (s8_ op) n14 ?_ hn (pk_vb op)
  refine ix_st n 14 (s8_ x) n14 ?_ hn (pk_vb x)
  refine ix_st n 14 (s8_ y) n14 ?_ hn (pk_vb y)
  refine ix_st n 14 (s8_ z) n14 ?_ hn (pk_vb z)
  exact nm_r (e' := nI (n + 1)) (by rw [hn, nI_1]) h
/-- the new statement -/
theorem so_new {op x y z : Int32} (c30 : c ≤ 30) (ft : ft_ c op x y z) : so_1 (xs_w S n op x y z) c n ∧ s8_ op = op ∧ s8_ x = x ∧ ((s8_ op).toNatClampNeg ≠ 4 → s8_ y = y) ∧ ((s8_ op).toNatClampNeg = 1 ∨ (s8_ op).toNatClampNeg = 3 → s8_ z = z) := by
  have eo : xs_o (xs_w S n op x y z) n = s8_ op := pk_us
  have ex : xs_x (xs_w S n op x y z) n = s8_ x := pk_us
  have ey : xs_y (xs_w S n op x y z) n = s8_ y := pk_us
  have ez : xs_z (xs_w S n op x y z) n = s8_ z := pk_us
  unfold so_1 st_k st_x st_y st_z
  rw [eo, ex, ey, ez]
  have cl : ∀ j, j < 128 → s8_ (nI j) = nI j ∧ (nI j).toNatClampNeg = j := fun j hj => ⟨s8_n hj, nI_clamp (by omega)⟩
  rcases ft with ⟨rfl, ⟨a, ha, rfl⟩, ⟨b, hb, rfl⟩⟩ | ⟨rfl, ⟨a, ha, rfl⟩, ⟨b, hb, rfl⟩, ⟨d, hd, rfl⟩⟩ | ⟨rfl, ⟨a, ha, rfl⟩, ⟨b, hb, hb', rfl⟩⟩ | ⟨rfl, ⟨a, ha, rfl⟩, ⟨b, hb, rfl⟩, ⟨d, hd, hd', rfl⟩⟩ | ⟨rfl, ⟨a, ha, rfl⟩⟩
  · have o := cl 0 (by omega)
    have o1 : s8_ 0 = nI 0 := o.1
    have a1 := cl a (by omega)
    have b1 := cl b (by omega)
    rw [o1, a1.1, b1.1, o.2, a1.2, b1.2]
    exact ⟨⟨rfl, by omega, rfl, fun _ => ⟨ha, rfl, hb⟩, fun w => by omega, fun w => by omega, fun w => by omega, fun w => by omega⟩, rfl, rfl, fun _ => rfl, fun w => by omega⟩
  · have o := cl 1 (by omega)
    have o1 : s8_ 1 = nI 1 := o.1
    have a1 := cl a (by omega)
    have b1 := cl b (by omega)
    have d1 := cl d (by omega)
    rw [o1, a1.1, b1.1, d1.1, o.2, a1.2, b1.2, d1.2]
    exact ⟨⟨rfl, by omega, rfl, fun w => by omega, fun _ => ha, fun _ => ⟨rfl, hb, rfl, hd⟩, fun w => by omega, fun w => by omega⟩, rfl, rfl, fun _ => rfl, fun _ => rfl⟩
  · have o := cl 2 (by omega)
    have o1 : s8_ 2 = nI 2 := o.1
    have a1 := cl a (by omega)
    have b1 := cl b (by omega)
    rw [o1, a1.1, b1.1, o.2, a1.2, b1.2]
    exact ⟨⟨rfl, by omega, rfl, fun w => by omega, fun _ => ha, fun w => by omega, fun _ => ⟨rfl, hb, hb'⟩, fun w => by omega⟩, rfl, rfl, fun _ => rfl, fun w => by omega⟩
  · have o := cl 3 (by omega)
    have o1 : s8_ 3 = nI 3 := o.1
    have a1 := cl a (by omega)
    have b1 := cl b (by omega)
    have d1 := cl d (by omega)
    rw [o1, a1.1, b1.1, d1.1, o.2, a1.2, b1.2, d1.2]
    exact ⟨⟨rfl, by omega, rfl, fun _ => ⟨ha, rfl, hb⟩, fun w => by omega, fun w => by omega, fun w => by omega, fun _ => ⟨rfl, hd, hd'⟩⟩, rfl, rfl, fun _ => rfl, fun _ => rfl⟩
  · have o := cl 4 (by omega)
    have o1 : s8_ 4 = nI 4 := o.1
    have a1 := cl a (by omega)
    rw [o1, a1.1, o.2, a1.2]
    exact ⟨⟨rfl, by omega, rfl, fun w => by omega, fun _ => ha, fun w => by omega, fun w => by omega, fun w => by omega⟩, rfl, rfl, fun w => absurd rfl w, fun w => by omega⟩
theorem q_state {k : Nat} (I : ir_ E S C M H A B V T) (v1 v2 v3 v4 : Int32) : wpX_state (fun r u' => wpY_state (fun r' v' => r' = r ∧ i_Rel k u' v') (yk A B V T K L) v1 v2 v3 v4) (xk E S C W O M H) v1 v2 v3 v4 := by
  have I' := I
  obtain ⟨c, n, i1, i2, i3, i4, i5, i6, i7⟩ := I'
  have n14 := i4.2.1
  have c30 := i2.2.1
  have hb : yb_n B = nI n := i5.1.trans i4.1
  have hc : xe_n E = nI c := by have := i2.1; rw [← i1] at this; exact this
  by_cases full : n = 14
  · refine br_f (by rw [i4.1, full]; decide) ?_
    exact br_t (by rw [hb, full]; rfl) ⟨rfl, I⟩
  · have nf : ¬ yb_n B = 14 := by
      rw [hb]
      exact fun w => full ((nI_eq (b := 14) (by omega) (by omega)).mp w)
    refine xF_ hc c30 i4.1 (by omega) (fun ft => ?_) (fun nft => ?_)
    · refine x141 i4.1 (by omega) ?_
      refine br_f nf ?_
      refine yF_ i2.1 c30 (fun _ => br_f (by decide) ?_) (fun w => absurd ft w)
      refine ix_st n 14 v1 (by omega) ?_ hb
      refine ix_st n 14 v2 (by omega) ?_ hb
      refine ix_st n 14 v3 (by omega) ?_ hb
      refine ix_st n 14 v4 (by omega) ?_ hb
      refine nm_r (e' := nI (n + 1)) (by rw [hb, nI_1]) ⟨rfl, ?_⟩
      obtain ⟨sn, e1, e2, e3, e4⟩ := so_new (S := S) (n := n) c30 ft
      refine ir_k (B := yb_w B n v1 v2 v3 v4) ⟨c, n + 1, i1, i2, i3, ⟨rfl, by omega, fun i hi => ?_⟩, ⟨rfl, ?_, ?_, fun i hi => ?_⟩, Or.inl rfl, i7⟩
      · by_cases e : i = n
        · rw [e]; exact sn
        · exact so_cg (pk_un e) (pk_un e) (pk_un e) (pk_un e) (i4.2.2 i (by omega))
      · show upd (yb_o B) n v1 = upd (xs_o S) n (s8_ v1)
        rw [i5.2.1, e1]
      · show upd (yb_x B) n v2 = upd (xs_x S) n (s8_ v2)
        rw [i5.2.2.1, e2]
      · show (((upd (xs_o S) n (s8_ v1)) i).toNatClampNeg ≠ 4 → upd (yb_y B) n v3 i = upd (xs_y S) n (s8_ v3) i) ∧ (((upd (xs_o S) n (s8_ v1)) i).toNatClampNeg = 1 ∨ ((upd (xs_o S) n (s8_ v1)) i).toNatClampNeg = 3 → upd (yb_z B) n v4 i = upd (xs_z S) n (s8_ v4) i)
        by_cases e : i = n
        · rw [e, pk_us, pk_us, pk_us, pk_us, pk_us]
          exact ⟨fun w => (e3 w).symm, fun w => (e4 w).symm⟩
        · rw [pk_un e, pk_un e, pk_un e, pk_un e, pk_un e]
          exact i5.2.2.2 i (by omega)
    · refine br_f nf ?_
      exact yF_ i2.1 c30 (fun w => absurd w nft) (fun _ => br_t rfl ⟨rfl, I⟩)
end
end
section
/-! what is worked out beforehand -/
theorem uu_ {f : Nat → Int32} {e : Nat} {x y : Int32} : upd (upd f e x) e y = upd f e y := by
  funext j
  unfold upd
  by_cases h : j = e
  · rw [if_pos h, if_pos h]
  · rw [if_neg h, if_neg h, if_neg h]
def es_ (E : gx_E) (e : Nat) (s i a : Int32) : gx_E := (xe_n E, xe_k E, xe_x E, xe_y E, xe_w E, upd (xe_s E) e s, upd (xe_i E) e i, upd (xe_a E) e a)
section
variable {E : gx_E} {S : gx_S} {C : gx_C} {W : gx_W} {O : gx_O} {M : gx_M} {H : gx_H}
theorem es_s {e j : Nat} {s i a : Int32} (h : j ≠ e) : xe_s (es_ E e s i a) j = xe_s E j := pk_un h
theorem es_i {e j : Nat} {s i a : Int32} (h : j ≠ e) : xe_i (es_ E e s i a) j = xe_i E j := pk_un h
theorem es_a {e j : Nat} {s i a : Int32} (h : j ≠ e) : xe_a (es_ E e s i a) j = xe_a E j := pk_un h
theorem kw_2 {post : SX → Prop} {e : Nat} {s0 i0 a p1 s i : Int32} (he : e < 30) (hs : vp_nar .byte p1.toInt8.toInt32 = s) (h : post (xk (es_ E e s i a) S C W O M H)) : wpX_know post (xk (es_ E e s0 i0 a) S C W O M H) (nI e) p1 i := by
  refine And.intro (by_in he) (nm_r (e' := upd (xe_s E) e s) ?_ (And.intro (by_in he) (nm_r (e' := upd (xe_i E) e i) ?_ h)))
  · rw [nI_clamp (by omega), hs]
    exact uu_
  · rw [nI_clamp (by omega)]
    exact uu_
theorem kw_t {post : SX → Prop} {e : Nat} {s0 i0 a : Int32} (b : Bool) (he : e < 30) (h : post (xk (es_ E e (if b = true then 1 else 2) (ev_tr b) a) S C W O M H)) : wpX_knowTruth post (xk (es_ E e s0 i0 a) S C W O M H) (nI e) (ev_tr b) := by
  cases b with
  | true =>
    refine br_f (by decide) ?_
    refine br_f (by decide) ?_
    exact kw_2 he (by_n (n := 1) (by omega)) h
  | false =>
    refine br_t rfl ?_
    refine br_t rfl ?_
    exact kw_2 he (by_n (n := 2) (by omega)) h
/-- two parts that are known -/
theorem kw_c {post : SX → Prop} {e k x y : Nat} (he : e < 30) (hx : x < e) (hy : y < e) (k2 : 2 ≤ k) (k6 : k ≤ 6)
    (h : (xe_s E x = 0 ∨ xe_s E y = 0 → post (xk (es_ E e 0 0 (nI e)) S C W O M H)) ∧
      (xe_s E x ≠ 0 → xe_s E y ≠ 0 → (k = 6 → post (xk (es_ E e (if decide (xe_s E x = xe_s E y ∧ xe_i E x = xe_i E y) = true then 1 else 2) (ev_tr (decide (xe_s E x = xe_s E y ∧ xe_i E x = xe_i E y))) (nI e)) S C W O M H)) ∧
        (k ≠ 6 → (xe_s E x = 2 ∨ xe_s E y = 2 → post (xk (es_ E e 0 0 (nI e)) S C W O M H)) ∧ (xe_s E x ≠ 2 → xe_s E y ≠ 2 →
          (k = 5 → post (xk (es_ E e (if decide (xe_i E x < xe_i E y) = true then 1 else 2) (ev_tr (decide (xe_i E x < xe_i E y))) (nI e)) S C W O M H)) ∧
          (k ≠ 5 → post (xk (es_ E e 1 (if k = 2 then xe_i E x + xe_i E y else if k = 3 then xe_i E x - xe_i E y else xe_i E x * xe_i E y) (nI e)) S C W O M H)))))) :
    wpX_combineKnown post (xk (es_ E e 0 0 (nI e)) S C W O M H) (nI e) (nI k) (nI x) (nI y) := by
  have sx : xe_s (es_ E e 0 0 (nI e)) (nI x).toNatClampNeg = xe_s E x := by rw [nI_clamp (by omega)]; exact es_s (by omega)
  have sy : xe_s (es_ E e 0 0 (nI e)) (nI y).toNatClampNeg = xe_s E y := by rw [nI_clamp (by omega)]; exact es_s (by omega)
  have ix : xe_i (es_ E e 0 0 (nI e)) (nI x).toNatClampNeg = xe_i E x := by rw [nI_clamp (by omega)]; exact es_i (by omega)
  have iy : xe_i (es_ E e 0 0 (nI e)) (nI y).toNatClampNeg = xe_i E y := by rw [nI_clamp (by omega)]; exact es_i (by omega)
  have bx : vp_in (nI x) 30 := by_in (by omega)
  have by' : vp_in (nI y) 30 := by_in (by omega)
  refine And.intro bx ?_
  rw [sx, sy, ix, iy]
  by_cases x0 : xe_s E x = 0
  · exact br_t x0 (h.1 (Or.inl x0))
  · refine br_f x0 ⟨by', ?_⟩
    by_cases y0 : xe_s E y = 0
    · exact br_t y0 (h.1 (Or.inr y0))
    · refine br_f y0 ?_
      obtain ⟨h6, h5⟩ := h.2 x0 y0
      refine pk_eq k 6 (fun e6 => ?_) (fun n6 => ?_)
      · have h6 := h6 e6
        refine ⟨bx, by', ?_⟩
        by_cases es : xe_s E x = xe_s E y
        · refine br_t es ⟨bx, by', ?_⟩
          by_cases ei : xe_i E x = xe_i E y
          · rw [decide_eq_true ⟨es, ei⟩] at h6
            exact br_t ei (kw_t true he h6)
          · rw [decide_eq_false (fun w => ei w.2)] at h6
            exact br_f ei (kw_t false he h6)
        · rw [decide_eq_false (fun w => es w.1)] at h6
          exact br_f es (kw_t false he h6)
      · obtain ⟨h2, h1⟩ := h5 n6
        refine ⟨bx, ?_⟩
        by_cases x2 : xe_s E x = 2
        · exact br_t x2 (h2 (Or.inl x2))
        · refine br_f x2 ⟨by', ?_⟩
          by_cases y2 : xe_s E y = 2
          · exact br_t y2 (h2 (Or.inr y2))
          · obtain ⟨a5, a4⟩ := h1 x2 y2
            refine br_f y2 ?_
            refine pk_eq k 5 (fun e5 => ?_) (fun n5 => ?_)
            · have a5 := a5 e5
              refine ⟨bx, by', ?_⟩
              by_cases lt : xe_i E y ≤ xe_i E x
              · rw [decide_eq_false (fun w => absurd lt (Int32.not_le.mpr w))] at a5
                exact br_t lt (kw_t false he a5)
              · rw [decide_eq_true (Int32.not_le.mp lt)] at a5
                exact br_f lt (kw_t true he a5)
            · have a4 := a4 n5
              refine ⟨bx, by', ?_⟩
              refine pk_eq k 2 (fun e2 => ?_) (fun n2 => ?_)
              · rw [if_pos e2] at a4
                exact kw_2 he (by_n (n := 1) (by omega)) a4
              · rw [if_neg n2] at a4
                refine pk_eq k 3 (fun e3 => ?_) (fun n3 => ?_)
                · rw [if_pos e3] at a4
                  exact kw_2 he (by_n (n := 1) (by omega)) a4
                · rw [if_neg n3] at a4
                  exact kw_2 he (by_n (n := 1) (by omega)) a4
/-- the part that a choice comes to -/
theorem kw_155 {post : SX → Prop} {e t : Nat} (he : e < 30) (ht : t < e) (ks : xe_s E t = 0 ∨ xe_s E t = 1 ∨ xe_s E t = 2) (ka : xe_a E t = nI (kn_a E t)) (ka30 : kn_a E t < 30)
    (h : post (xk (es_ E e (xe_s E t) (xe_i E t) (xe_a E t)) S C W O M H)) : (wX_workOutBeforehand_155 post (nI e) (nI t) (xe_n (es_ E e 0 0 (nI e))) (xs_n S) (xc_f C) (xc_n C) (xo_n O) (xm_c M) (xm_h M) (xh_u H) (xh_r H) (xe_k (es_ E e 0 0 (nI e))) (xe_x (es_ E e 0 0 (nI e))) (xe_y (es_ E e 0 0 (nI e))) (xe_w (es_ E e 0 0 (nI e))) (xe_s (es_ E e 0 0 (nI e))) (xe_i (es_ E e 0 0 (nI e))) (xe_a (es_ E e 0 0 (nI e))) (xs_o S) (xs_x S) (xs_y S) (xs_z S) (xc_o C) (xc_a C) (xc_b C) (xc_c C) (xc_k C) (xw_n W) (xw_r W) (xw_p W) (xw_t W) (xo_e O) (xo_l O) (xo_p O) (xm_s M) (xm_n M) (xm_l M) (xm_m M) (xm_v M) (xh_k H) (xh_s H) (xh_n H) (xh_c H)) := by
  have st : xe_s (es_ E e 0 0 (nI e)) (nI t).toNatClampNeg = xe_s E t := by rw [nI_clamp (by omega)]; exact es_s (by omega)
  have it : xe_i (es_ E e 0 0 (nI e)) (nI t).toNatClampNeg = xe_i E t := by rw [nI_clamp (by omega)]; exact es_i (by omega)
  have at' : xe_a (es_ E e 0 0 (nI e)) (nI t).toNatClampNeg = xe_a E t := by rw [nI_clamp (by omega)]; exact es_a (by omega)
  refine And.intro (by_in (by omega)) (And.intro (by_in he) (nm_r (e' := upd (xe_a E) e (xe_a E t)) ?_ ?_))
  · rw [nI_clamp (n := e) (by omega), at', ka, by_v (by omega)]
    exact uu_
  · refine ⟨by_in (by omega), by_in (by omega), ?_⟩
    rw [st, it]
    exact kw_2 (a := xe_a E t) he (bs_ ks) h
theorem kw_106 {post : SX → Prop} {c e k x y : Nat} (hK : kn_ok E c) (he : e < 30) (ec : e ≤ c) (hx : x < e) (hy : y < e) (k7 : k = 7 ∨ k = 8) (py : xe_y E e = nI y)
    (h0 : xe_s E x = 0 → post (xk (es_ E e 0 0 (nI e)) S C W O M H))
    (h1 : xe_s E x ≠ 0 → ∀ t, t = (if decide (xe_s E x = 2) = decide (k = 8) then y else x) → post (xk (es_ E e (xe_s E t) (xe_i E t) (xe_a E t)) S C W O M H)) :
    (wX_workOutBeforehand_106 post (nI e) (nI k) (nI x) (xe_n (es_ E e 0 0 (nI e))) (xs_n S) (xc_f C) (xc_n C) (xo_n O) (xm_c M) (xm_h M) (xh_u H) (xh_r H) (xe_k (es_ E e 0 0 (nI e))) (xe_x (es_ E e 0 0 (nI e))) (xe_y (es_ E e 0 0 (nI e))) (xe_w (es_ E e 0 0 (nI e))) (xe_s (es_ E e 0 0 (nI e))) (xe_i (es_ E e 0 0 (nI e))) (xe_a (es_ E e 0 0 (nI e))) (xs_o S) (xs_x S) (xs_y S) (xs_z S) (xc_o C) (xc_a C) (xc_b C) (xc_c C) (xc_k C) (xw_n W) (xw_r W) (xw_p W) (xw_t W) (xo_e O) (xo_l O) (xo_p O) (xm_s M) (xm_n M) (xm_l M) (xm_m M) (xm_v M) (xh_k H) (xh_s H) (xh_n H) (xh_c H)) := by
  have sx : xe_s (es_ E e 0 0 (nI e)) (nI x).toNatClampNeg = xe_s E x := by rw [nI_clamp (by omega)]; exact es_s (by omega)
  have go : ∀ t, t < e → post (xk (es_ E e (xe_s E t) (xe_i E t) (xe_a E t)) S C W O M H) → (wX_workOutBeforehand_155 post (nI e) (nI t) (xe_n (es_ E e 0 0 (nI e))) (xs_n S) (xc_f C) (xc_n C) (xo_n O) (xm_c M) (xm_h M) (xh_u H) (xh_r H) (xe_k (es_ E e 0 0 (nI e))) (xe_x (es_ E e 0 0 (nI e))) (xe_y (es_ E e 0 0 (nI e))) (xe_w (es_ E e 0 0 (nI e))) (xe_s (es_ E e 0 0 (nI e))) (xe_i (es_ E e 0 0 (nI e))) (xe_a (es_ E e 0 0 (nI e))) (xs_o S) (xs_x S) (xs_y S) (xs_z S) (xc_o C) (xc_a C) (xc_b C) (xc_c C) (xc_k C) (xw_n W) (xw_r W) (xw_p W) (xw_t W) (xo_e O) (xo_l O) (xo_p O) (xm_s M) (xm_n M) (xm_l M) (xm_m M) (xm_v M) (xh_k H) (xh_s H) (xh_n H) (xh_c H)) := fun t ht h => by
    have kt := (hK t (by omega)).1
    exact kw_155 he ht kt.1 kt.2.2.1 (by have := kt.2.2.2; omega) h
  have goy : post (xk (es_ E e (xe_s E y) (xe_i E y) (xe_a E y)) S C W O M H) → (vp_in (nI e) 30 ∧ (wX_workOutBeforehand_155 post (nI e) (xe_y E (nI e).toNatClampNeg) (xe_n (es_ E e 0 0 (nI e))) (xs_n S) (xc_f C) (xc_n C) (xo_n O) (xm_c M) (xm_h M) (xh_u H) (xh_r H) (xe_k (es_ E e 0 0 (nI e))) (xe_x (es_ E e 0 0 (nI e))) (xe_y (es_ E e 0 0 (nI e))) (xe_w (es_ E e 0 0 (nI e))) (xe_s (es_ E e 0 0 (nI e))) (xe_i (es_ E e 0 0 (nI e))) (xe_a (es_ E e 0 0 (nI e))) (xs_o S) (xs_x S) (xs_y S) (xs_z S) (xc_o C) (xc_a C) (xc_b C) (xc_c C) (xc_k C) (xw_n W) (xw_r W) (xw_p W) (xw_t W) (xo_e O) (xo_l O) (xo_p O) (xm_s M) (xm_n M) (xm_l M) (xm_m M) (xm_v M) (xh_k H) (xh_s H) (xh_n H) (xh_c H))) := fun h => by
    refine ⟨by_in he, ?_⟩
    rw [nI_clamp (by omega), py]
    exact go y hy h
  refine And.intro (by_in (by omega)) ?_
  rw [sx]
  by_cases x0 : xe_s E x = 0
  · exact br_t x0 (h0 x0)
  · refine br_f x0 ⟨by_in (by omega), ?_⟩
    have h1 := h1 x0 _ rfl
    by_cases x2 : xe_s E x = 2
    · refine br_t x2 ?_
      rcases k7 with k | k
      · subst k
        rw [x2, if_neg (by decide)] at h1
        exact br_f (by decide) (br_f (by decide) (go x hx h1))
      · subst k
        rw [x2, if_pos (by decide)] at h1
        exact br_t rfl (br_t rfl (goy h1))
    · refine br_f x2 ?_
      rw [decide_eq_false x2] at h1
      rcases k7 with k | k
      · subst k
        rw [if_pos (by decide)] at h1
        exact br_f (by decide) (br_t rfl (goy h1))
      · subst k
        rw [if_neg (by decide)] at h1
        exact br_t rfl (br_f (by decide) (go x hx h1))
end
end
section
/-! the new expression: what is known of it -/
section
variable {E : gx_E} {S : gx_S} {C : gx_C} {W : gx_W} {O : gx_O} {M : gx_M} {H : gx_H}
theorem kn_aa {E : gx_E} {e : Nat} {s i : Int32} {a : Nat} (h : a < 2 ^ 31) : kn_a (es_ E e s i (nI a)) e = a := by
  unfold kn_a
  rw [show xe_a (es_ E e s i (nI a)) e = nI a from pk_us, nI_clamp h]
theorem kn_ab {E : gx_E} {e j : Nat} {s i a : Int32} (h : j ≠ e) : kn_a (es_ E e s i a) j = kn_a E j := by
  unfold kn_a
  rw [es_a h]
/-- nothing is known -/
theorem kn_no {e : Nat} (e30 : e < 30) (hk : ev_k (xe_A E) e ≠ 0)
    (h9 : ev_k (xe_A E) e = 9 → ev_cx (xe_A E) e ≠ e ∧ xe_s E (ev_cx (xe_A E) e) = 0)
    (h7 : ev_k (xe_A E) e = 7 ∨ ev_k (xe_A E) e = 8 → ev_cx (xe_A E) e ≠ e ∧ xe_s E (ev_cx (xe_A E) e) = 0) : kn_1 (es_ E e 0 0 (nI e)) e := by
  have s0 : xe_s (es_ E e 0 0 (nI e)) e = 0 := pk_us
  have ae : kn_a (es_ E e 0 0 (nI e)) e = e := kn_aa (by omega)
  have aa : xe_a (es_ E e 0 0 (nI e)) e = nI (kn_a (es_ E e 0 0 (nI e)) e) := by rw [ae]; exact pk_us
  refine ⟨⟨Or.inl s0, fun w => absurd (s0.symm.trans w) (by decide), aa, by omega⟩, fun w => absurd w hk, fun _ => ⟨s0, ae⟩, fun k9 => ⟨ae, fun _ => s0, fun w => ?_, fun w => ?_⟩, fun k7 => ⟨fun _ => ⟨s0, ae⟩, fun w => ?_⟩, fun _ _ => ⟨ae, fun w => absurd s0 w⟩⟩
  · have q := h9 k9
    have w2 : xe_s E (ev_cx (xe_A E) e) = 2 := (es_s q.1).symm.trans w
    exact absurd (q.2.symm.trans w2) (by decide)
  · have q := h9 k9
    have w2 : xe_s E (ev_cx (xe_A E) e) = 1 := (es_s q.1).symm.trans w
    exact absurd (q.2.symm.trans w2) (by decide)
  · have q := h7 k7
    exact absurd ((es_s q.1).trans q.2) w
/-- an int, or nothing, is known -/
theorem kn_yes {e : Nat} {s i : Int32} (e30 : e < 30) (hs : s = 1 ∨ (s = 2 ∧ i = 0))
    (h0 : ev_k (xe_A E) e = 0 → s = 1 ∧ i = xe_x E e) (h1 : ¬ (ev_k (xe_A E) e = 1 ∨ 10 ≤ ev_k (xe_A E) e))
    (h9 : ev_k (xe_A E) e = 9 → ev_cx (xe_A E) e ≠ e ∧ (xe_s E (ev_cx (xe_A E) e) = 2 → s = 1 ∧ i = 1) ∧ (xe_s E (ev_cx (xe_A E) e) = 1 → s = 2) ∧ xe_s E (ev_cx (xe_A E) e) ≠ 0)
    (h7 : ¬ (ev_k (xe_A E) e = 7 ∨ ev_k (xe_A E) e = 8))
    (h2 : 2 ≤ ev_k (xe_A E) e → ev_k (xe_A E) e ≤ 6 → kn_2 (es_ E e s i (nI e)) e) : kn_1 (es_ E e s i (nI e)) e := by
  have se : xe_s (es_ E e s i (nI e)) e = s := pk_us
  have ie : xe_i (es_ E e s i (nI e)) e = i := pk_us
  have ae : kn_a (es_ E e s i (nI e)) e = e := kn_aa (by omega)
  have aa : xe_a (es_ E e s i (nI e)) e = nI (kn_a (es_ E e s i (nI e)) e) := by rw [ae]; exact pk_us
  refine ⟨⟨?_, fun w => ?_, aa, by omega⟩, fun w => ⟨se.trans (h0 w).1, ie.trans (h0 w).2, ae⟩, fun w => absurd w h1, fun k9 => ⟨ae, fun w => ?_, fun w => ?_, fun w => ?_⟩, fun k7 => absurd k7 h7, fun a b => ⟨ae, fun _ => h2 a b⟩⟩
  · rcases hs with w | w
    · exact Or.inr (Or.inl (se.trans w))
    · exact Or.inr (Or.inr (se.trans w.1))
  · rcases hs with w2 | w2
    · exact absurd (w2.symm.trans (se.symm.trans w)) (by decide)
    · exact ie.trans w2.2
  · have q := h9 k9
    exact absurd ((es_s q.1).symm.trans w) q.2.2.2
  · have q := h9 k9
    have := q.2.1 ((es_s q.1).symm.trans w)
    exact ⟨se.trans this.1, ie.trans this.2⟩
  · have q := h9 k9
    exact se.trans (q.2.2.1 ((es_s q.1).symm.trans w))
theorem kn_new {c e k : Nat} (e30 : e < 30) (ec : e = c) (hK : ∀ j, j < c → kn_1 E j) (hk : xe_k E e = nI k) (k12 : k ≤ 12) (hx : 1 ≤ ev_pt k → xe_x E e = nI (ev_cx (xe_A E) e) ∧ ev_cx (xe_A E) e < e) (hy : ev_pt k = 2 → xe_y E e = nI (ev_cy (xe_A E) e) ∧ ev_cy (xe_A E) e < e) :
    ∃ s i a, kn_1 (es_ E e s i a) e ∧ ∀ post : SX → Prop, post (xk (es_ E e s i a) S C W O M H) → wpX_workOutBeforehand post (xk E S C W O M H) (nI e) := by
  have ek : ev_k (xe_A E) e = k := by
    show (xe_k E e).toNatClampNeg = k
    rw [hk, nI_clamp (by omega)]
  by_cases k0 : k = 0
  · refine ⟨1, xe_x E e, nI e, kn_yes e30 (Or.inl rfl) (fun _ => ⟨rfl, rfl⟩) (by omega) (fun w => by omega) (by omega) (fun w _ => by omega), fun post h => ?_⟩
    refine And.intro (by_in e30) (nm_r ((ix_ev rfl).trans hk) ?_)
    refine And.intro (by_in e30) (nm_r (e' := upd (xe_s E) e 0) (by rw [nI_clamp (by omega), show (0 : Int32) = nI 0 from rfl, by_n (n := 0) (by omega)]) (And.intro (by_in e30) (nm_r (e' := upd (xe_i E) e 0) (by rw [nI_clamp (by omega)]) ?_)))
    refine ix_st e 30 (nI e) e30 ?_ rfl (by_n (by omega))
    refine br_t (by rw [k0]; rfl) ⟨by_in e30, ?_⟩
    rw [ix_ev (a := xe_x E) (i := nI e) rfl]
    exact kw_2 (s0 := 0) (i0 := 0) (a := nI e) e30 (by_n (n := 1) (by omega)) h
  · -- from here on the state is es_ E e 0 0 e
    have go : ∀ (post : SX → Prop), ((nI k = 1 → post (xk (es_ E e 0 0 (nI e)) S C W O M H)) ∧ (¬ nI k = 1 → ((nI k < 10 → (vp_in (nI e) 30 ∧ ∀ x3 : Int32, x3 = xe_x E (nI e).toNatClampNeg → ((nI k = 9 → (vp_in x3 30 ∧ ((xe_s (es_ E e 0 0 (nI e)) x3.toNatClampNeg = 0 → post (xk (es_ E e 0 0 (nI e)) S C W O M H)) ∧ (¬ xe_s (es_ E e 0 0 (nI e)) x3.toNatClampNeg = 0 → (vp_in x3 30 ∧ ((xe_s (es_ E e 0 0 (nI e)) x3.toNatClampNeg = 2 → (wX_workOutBeforehand_90 post 1 (nI e) (xe_n (es_ E e 0 0 (nI e))) (xs_n S) (xc_f C) (xc_n C) (xo_n O) (xm_c M) (xm_h M) (xh_u H) (xh_r H) (xe_k (es_ E e 0 0 (nI e))) (xe_x (es_ E e 0 0 (nI e))) (xe_y (es_ E e 0 0 (nI e))) (xe_w (es_ E e 0 0 (nI e))) (xe_s (es_ E e 0 0 (nI e))) (xe_i (es_ E e 0 0 (nI e))) (xe_a (es_ E e 0 0 (nI e))) (xs_o S) (xs_x S) (xs_y S) (xs_z S) (xc_o C) (xc_a C) (xc_b C) (xc_c C) (xc_k C) (xw_n W) (xw_r W) (xw_p W) (xw_t W) (xo_e O) (xo_l O) (xo_p O) (xm_s M) (xm_n M) (xm_l M) (xm_m M) (xm_v M) (xh_k H) (xh_s H) (xh_n H) (xh_c H))) ∧ (¬ xe_s (es_ E e 0 0 (nI e)) x3.toNatClampNeg = 2 → (wX_workOutBeforehand_90 post 0 (nI e) (xe_n (es_ E e 0 0 (nI e))) (xs_n S) (xc_f C) (xc_n C) (xo_n O) (xm_c M) (xm_h M) (xh_u H) (xh_r H) (xe_k (es_ E e 0 0 (nI e))) (xe_x (es_ E e 0 0 (nI e))) (xe_y (es_ E e 0 0 (nI e))) (xe_w (es_ E e 0 0 (nI e))) (xe_s (es_ E e 0 0 (nI e))) (xe_i (es_ E e 0 0 (nI e))) (xe_a (es_ E e 0 0 (nI e))) (xs_o S) (xs_x S) (xs_y S) (xs_z S) (xc_o C) (xc_a C) (xc_b C) (xc_c C) (xc_k C) (xw_n W) (xw_r W) (xw_p W) (xw_t W) (xo_e O) (xo_l O) (xo_p O) (xm_s M) (xm_n M) (xm_l M) (xm_m M) (xm_v M) (xh_k H) (xh_s H) (xh_n H) (xh_c H))))))))) ∧
        (¬ nI k = 9 → ((nI k = 7 → (wX_workOutBeforehand_106 post (nI e) (nI k) x3 (xe_n (es_ E e 0 0 (nI e))) (xs_n S) (xc_f C) (xc_n C) (xo_n O) (xm_c M) (xm_h M) (xh_u H) (xh_r H) (xe_k (es_ E e 0 0 (nI e))) (xe_x (es_ E e 0 0 (nI e))) (xe_y (es_ E e 0 0 (nI e))) (xe_w (es_ E e 0 0 (nI e))) (xe_s (es_ E e 0 0 (nI e))) (xe_i (es_ E e 0 0 (nI e))) (xe_a (es_ E e 0 0 (nI e))) (xs_o S) (xs_x S) (xs_y S) (xs_z S) (xc_o C) (xc_a C) (xc_b C) (xc_c C) (xc_k C) (xw_n W) (xw_r W) (xw_p W) (xw_t W) (xo_e O) (xo_l O) (xo_p O) (xm_s M) (xm_n M) (xm_l M) (xm_m M) (xm_v M) (xh_k H) (xh_s H) (xh_n H) (xh_c H))) ∧ (¬ nI k = 7 → ((nI k = 8 → (wX_workOutBeforehand_106 post (nI e) (nI k) x3 (xe_n (es_ E e 0 0 (nI e))) (xs_n S) (xc_f C) (xc_n C) (xo_n O) (xm_c M) (xm_h M) (xh_u H) (xh_r H) (xe_k (es_ E e 0 0 (nI e))) (xe_x (es_ E e 0 0 (nI e))) (xe_y (es_ E e 0 0 (nI e))) (xe_w (es_ E e 0 0 (nI e))) (xe_s (es_ E e 0 0 (nI e))) (xe_i (es_ E e 0 0 (nI e))) (xe_a (es_ E e 0 0 (nI e))) (xs_o S) (xs_x S) (xs_y S) (xs_z S) (xc_o C) (xc_a C) (xc_b C) (xc_c C) (xc_k C) (xw_n W) (xw_r W) (xw_p W) (xw_t W) (xo_e O) (xo_l O) (xo_p O) (xm_s M) (xm_n M) (xm_l M) (xm_m M) (xm_v M) (xh_k H) (xh_s H) (xh_n H) (xh_c H))) ∧ (¬ nI k = 8 → (vp_in (nI e) 30 ∧ wpX_combineKnown post (xk (es_ E e 0 0 (nI e)) S C W O M H) (nI e) (nI k) x3 (xe_y E (nI e).toNatClampNeg))))))))) ) ∧ (¬ nI k < 10 → post (xk (es_ E e 0 0 (nI e)) S C W O M H))))) → wpX_workOutBeforehand post (xk E S C W O M H) (nI e) := by
      intro post h
      refine And.intro (by_in e30) (nm_r ((ix_ev rfl).trans hk) ?_)
      refine And.intro (by_in e30) (nm_r (e' := upd (xe_s E) e 0) (by rw [nI_clamp (by omega), show (0 : Int32) = nI 0 from rfl, by_n (n := 0) (by omega)]) (And.intro (by_in e30) (nm_r (e' := upd (xe_i E) e 0) (by rw [nI_clamp (by omega)]) ?_)))
      refine ix_st e 30 (nI e) e30 ?_ rfl (by_n (by omega))
      exact br_f (nI_ne0 (by omega) (by omega)) h
    by_cases k1 : k = 1
    · exact ⟨0, 0, nI e, kn_no e30 (by omega) (fun w => by omega) (fun w => by omega), fun post h => go post (br_t (by rw [k1]; rfl) h)⟩
    · have nk1 : ¬ nI k = 1 := fun w => k1 ((nI_eq (b := 1) (by omega) (by omega)).mp w)
      by_cases k10 : k < 10
      · have lk : nI k < 10 := nI_lt (b := 10) k10 (by decide)
        have p1 : 1 ≤ ev_pt k := by
          unfold ev_pt
          rw [if_neg (by omega)]
          split <;> omega
        obtain ⟨px, lx⟩ := hx p1
        have kx := (hK (ev_cx (xe_A E) e) (by omega)).1
        by_cases k9 : k = 9
        · subst k9
          have sx : xe_s (es_ E e 0 0 (nI e)) (nI (ev_cx (xe_A E) e)).toNatClampNeg = xe_s E (ev_cx (xe_A E) e) := by rw [nI_clamp (by omega)]; exact es_s (by omega)
          have bx : vp_in (nI (ev_cx (xe_A E) e)) 30 := by_in (by omega)
          rcases kx.1 with s0 | s1 | s2
          · refine ⟨0, 0, nI e, kn_no e30 (by omega) (fun _ => ⟨by omega, s0⟩) (fun w => by omega), fun post h => go post (br_f nk1 (br_t lk ⟨by_in e30, nm_r ((ix_ev rfl).trans px) (br_t rfl ⟨bx, br_t (sx.trans s0) h⟩)⟩))⟩
          · refine ⟨2, 0, nI e, kn_yes e30 (Or.inr ⟨rfl, rfl⟩) (fun w => by omega) (by omega) (fun _ => ⟨by omega, fun w => absurd (s1.symm.trans w) (by decide), fun _ => rfl, by rw [s1]; decide⟩) (by omega) (fun _ w => by omega), fun post h => go post (br_f nk1 (br_t lk ⟨by_in e30, nm_r ((ix_ev rfl).trans px) (br_t rfl ⟨bx, br_f (by rw [sx, s1]; decide) ⟨bx, br_f (by rw [sx, s1]; decide) ?_⟩⟩)⟩))⟩
            exact kw_t (s0 := 0) (i0 := 0) (a := nI e) false e30 h
          · refine ⟨1, 1, nI e, kn_yes e30 (Or.inl rfl) (fun w => by omega) (by omega) (fun _ => ⟨by omega, fun _ => ⟨rfl, rfl⟩, fun w => absurd (s2.symm.trans w) (by decide), by rw [s2]; decide⟩) (by omega) (fun _ w => by omega), fun post h => go post (br_f nk1 (br_t lk ⟨by_in e30, nm_r ((ix_ev rfl).trans px) (br_t rfl ⟨bx, br_f (by rw [sx, s2]; decide) ⟨bx, br_t (sx.trans s2) ?_⟩⟩)⟩))⟩
            exact kw_t (s0 := 0) (i0 := 0) (a := nI e) true e30 h
        · have nk9 : ¬ nI k = 9 := fun w => k9 ((nI_eq (b := 9) (by omega) (by omega)).mp w)
          have p2 : ev_pt k = 2 := by
            unfold ev_pt
            rw [if_neg (by omega), if_neg (by omega)]
          obtain ⟨py, ly⟩ := hy p2
          have ky := (hK (ev_cy (xe_A E) e) (by omega)).1
          by_cases k7 : k = 7 ∨ k = 8
          · have to106 : ∀ post : SX → Prop, (wX_workOutBeforehand_106 post (nI e) (nI k) (nI (ev_cx (xe_A E) e)) (xe_n (es_ E e 0 0 (nI e))) (xs_n S) (xc_f C) (xc_n C) (xo_n O) (xm_c M) (xm_h M) (xh_u H) (xh_r H) (xe_k (es_ E e 0 0 (nI e))) (xe_x (es_ E e 0 0 (nI e))) (xe_y (es_ E e 0 0 (nI e))) (xe_w (es_ E e 0 0 (nI e))) (xe_s (es_ E e 0 0 (nI e))) (xe_i (es_ E e 0 0 (nI e))) (xe_a (es_ E e 0 0 (nI e))) (xs_o S) (xs_x S) (xs_y S) (xs_z S) (xc_o C) (xc_a C) (xc_b C) (xc_c C) (xc_k C) (xw_n W) (xw_r W) (xw_p W) (xw_t W) (xo_e O) (xo_l O) (xo_p O) (xm_s M) (xm_n M) (xm_l M) (xm_m M) (xm_v M) (xh_k H) (xh_s H) (xh_n H) (xh_c H)) → wpX_workOutBeforehand post (xk E S C W O M H) (nI e) := fun post h =>
              go post (br_f nk1 (br_t lk ⟨by_in e30, nm_r ((ix_ev rfl).trans px) (br_f nk9 (pk_eq k 7 (fun _ => h) (fun n7 => pk_eq k 8 (fun _ => h) (fun n8 => by omega))))⟩))
            have hK' : kn_ok E c := hK
            by_cases s0 : xe_s E (ev_cx (xe_A E) e) = 0
            · refine ⟨0, 0, nI e, kn_no e30 (by omega) (fun w => by omega) (fun _ => ⟨by omega, s0⟩), fun post h => to106 post ?_⟩
              exact kw_106 hK' e30 (by omega) lx ly k7 py (fun _ => h) (fun w => absurd s0 w)
            · obtain ⟨t, et⟩ : ∃ t, t = (if decide (xe_s E (ev_cx (xe_A E) e) = 2) = decide (k = 8) then ev_cy (xe_A E) e else ev_cx (xe_A E) e) := ⟨_, rfl⟩
              have tl : t < e := by rw [et]; split <;> omega
              have kt := (hK t (by omega)).1
              refine ⟨xe_s E t, xe_i E t, xe_a E t, ?_, fun post h => to106 post (kw_106 hK' e30 (by omega) lx ly k7 py (fun w => absurd w s0) (fun _ t' et' => by rw [et', ← et]; exact h))⟩
              have se : xe_s (es_ E e (xe_s E t) (xe_i E t) (xe_a E t)) e = xe_s E t := pk_us
              have ie : xe_i (es_ E e (xe_s E t) (xe_i E t) (xe_a E t)) e = xe_i E t := pk_us
              have aa : xe_a (es_ E e (xe_s E t) (xe_i E t) (xe_a E t)) e = xe_a E t := pk_us
              have ae : kn_a (es_ E e (xe_s E t) (xe_i E t) (xe_a E t)) e = kn_a E t := by unfold kn_a; rw [aa]
              refine ⟨⟨by rw [se]; exact kt.1, fun w => by rw [ie]; exact kt.2.1 (se.symm.trans w), by rw [ae, aa]; exact kt.2.2.1, by rw [ae]; have := kt.2.2.2; omega⟩, fun w => absurd (ek.symm.trans w) (by omega), fun w => absurd w (by show ¬ (ev_k (xe_A E) e = 1 ∨ 10 ≤ ev_k (xe_A E) e); omega), fun w => absurd (ek.symm.trans w) (by omega), fun _ => ⟨fun w => absurd ((es_s (by show ev_cx (xe_A E) e ≠ e; omega)).symm.trans w) s0, fun _ => ⟨t, ?_, ?_, ?_, ?_⟩⟩, fun _ w => absurd w (by show ¬ ev_k (xe_A E) e ≤ 6; omega)⟩
              · show t = (if decide (xe_s (es_ E e (xe_s E t) (xe_i E t) (xe_a E t)) (ev_cx (xe_A E) e) = 2) = decide (ev_k (xe_A E) e = 8) then ev_cy (xe_A E) e else ev_cx (xe_A E) e)
                rw [es_s (show ev_cx (xe_A E) e ≠ e from by omega), ek]
                exact et
              · rw [ae, kn_ab (by omega)]
              · rw [se, es_s (by omega)]
              · rw [ie, es_i (by omega)]
          · have to2 : ∀ post : SX → Prop, wpX_combineKnown post (xk (es_ E e 0 0 (nI e)) S C W O M H) (nI e) (nI k) (nI (ev_cx (xe_A E) e)) (nI (ev_cy (xe_A E) e)) → wpX_workOutBeforehand post (xk E S C W O M H) (nI e) := fun post h =>
              go post (br_f nk1 (br_t lk ⟨by_in e30, nm_r ((ix_ev rfl).trans px) (br_f nk9 (pk_eq k 7 (fun w => by omega) (fun n7 => pk_eq k 8 (fun w => by omega) (fun n8 => ⟨by_in e30, by rw [ix_ev (a := xe_y E) (i := nI e) rfl, py]; exact h⟩))))⟩))
            have kno : kn_1 (es_ E e 0 0 (nI e)) e := kn_no e30 (by omega) (fun w => by omega) (fun w => by omega)
            -- facts on the parts in the new state
            have k2mk : ∀ s i, (xe_s E (ev_cx (xe_A E) e) ≠ 0 ∧ xe_s E (ev_cy (xe_A E) e) ≠ 0) → 
                ((k = 6 → (xe_s E (ev_cx (xe_A E) e) = xe_s E (ev_cy (xe_A E) e) ∧ xe_i E (ev_cx (xe_A E) e) = xe_i E (ev_cy (xe_A E) e) → s = 1 ∧ i = 1) ∧ (¬ (xe_s E (ev_cx (xe_A E) e) = xe_s E (ev_cy (xe_A E) e) ∧ xe_i E (ev_cx (xe_A E) e) = xe_i E (ev_cy (xe_A E) e)) → s = 2)) ∧
                 (k ≠ 6 → xe_s E (ev_cx (xe_A E) e) = 1 ∧ xe_s E (ev_cy (xe_A E) e) = 1) ∧
                 (k = 5 → (xe_i E (ev_cx (xe_A E) e) < xe_i E (ev_cy (xe_A E) e) → s = 1 ∧ i = 1) ∧ (¬ xe_i E (ev_cx (xe_A E) e) < xe_i E (ev_cy (xe_A E) e) → s = 2)) ∧
                 (k < 5 → s = 1 ∧ i = if k = 2 then xe_i E (ev_cx (xe_A E) e) + xe_i E (ev_cy (xe_A E) e) else if k = 3 then xe_i E (ev_cx (xe_A E) e) - xe_i E (ev_cy (xe_A E) e) else xe_i E (ev_cx (xe_A E) e) * xe_i E (ev_cy (xe_A E) e))) → kn_2 (es_ E e s i (nI e)) e := by
              intro s i h1 h2
              have se : xe_s (es_ E e s i (nI e)) e = s := pk_us
              have ie : xe_i (es_ E e s i (nI e)) e = i := pk_us
              have eA : xe_A (es_ E e s i (nI e)) = xe_A E := rfl
              unfold kn_2
              rw [eA, se, ie, es_s (show ev_cx (xe_A E) e ≠ e from by omega), es_s (show ev_cy (xe_A E) e ≠ e from by omega), es_i (show ev_cx (xe_A E) e ≠ e from by omega), es_i (show ev_cy (xe_A E) e ≠ e from by omega), ek]
              exact ⟨h1.1, h1.2, h2⟩
            by_cases s0 : xe_s E (ev_cx (xe_A E) e) = 0 ∨ xe_s E (ev_cy (xe_A E) e) = 0
            · exact ⟨0, 0, nI e, kno, fun post h => to2 post (kw_c e30 lx ly (by omega) (by omega) ⟨fun _ => h, fun a b => by rcases s0 with w | w; exact absurd w a; exact absurd w b⟩)⟩
            · have nx : xe_s E (ev_cx (xe_A E) e) ≠ 0 := fun w => s0 (Or.inl w)
              have ny : xe_s E (ev_cy (xe_A E) e) ≠ 0 := fun w => s0 (Or.inr w)
              have mk : ∀ s i, (s = 1 ∨ (s = 2 ∧ i = 0)) → kn_2 (es_ E e s i (nI e)) e → kn_1 (es_ E e s i (nI e)) e := fun s i hs h2 =>
                kn_yes e30 hs (fun w => by omega) (by omega) (fun w => by omega) (by omega) (fun _ _ => h2)
              by_cases k6 : k = 6
              · by_cases b : xe_s E (ev_cx (xe_A E) e) = xe_s E (ev_cy (xe_A E) e) ∧ xe_i E (ev_cx (xe_A E) e) = xe_i E (ev_cy (xe_A E) e)
                · refine ⟨1, 1, nI e, mk 1 1 (Or.inl rfl) (k2mk 1 1 ⟨nx, ny⟩ ⟨fun _ => ⟨fun _ => ⟨rfl, rfl⟩, fun w => absurd b w⟩, fun w => absurd k6 w, fun w => by omega, fun w => by omega⟩), fun post h => to2 post (kw_c e30 lx ly (by omega) (by omega) ⟨fun w => absurd w s0, fun _ _ => ⟨fun _ => ?_, fun w => absurd k6 w⟩⟩)⟩
                  rw [decide_eq_true b]
                  exact h
                · refine ⟨2, 0, nI e, mk 2 0 (Or.inr ⟨rfl, rfl⟩) (k2mk 2 0 ⟨nx, ny⟩ ⟨fun _ => ⟨fun w => absurd w b, fun _ => rfl⟩, fun w => absurd k6 w, fun w => by omega, fun w => by omega⟩), fun post h => to2 post (kw_c e30 lx ly (by omega) (by omega) ⟨fun w => absurd w s0, fun _ _ => ⟨fun _ => ?_, fun w => absurd k6 w⟩⟩)⟩
                  rw [decide_eq_false b]
                  exact h
              · by_cases s2 : xe_s E (ev_cx (xe_A E) e) = 2 ∨ xe_s E (ev_cy (xe_A E) e) = 2
                · exact ⟨0, 0, nI e, kno, fun post h => to2 post (kw_c e30 lx ly (by omega) (by omega) ⟨fun w => absurd w s0, fun _ _ => ⟨fun w => absurd w k6, fun _ => ⟨fun _ => h, fun a b => by rcases s2 with w | w; exact absurd w a; exact absurd w b⟩⟩⟩)⟩
                · have ox : xe_s E (ev_cx (xe_A E) e) = 1 := by
                    rcases kx.1 with w | w | w
                    · exact absurd w nx
                    · exact w
                    · exact absurd (Or.inl w) s2
                  have oy : xe_s E (ev_cy (xe_A E) e) = 1 := by
                    rcases ky.1 with w | w | w
                    · exact absurd w ny
                    · exact w
                    · exact absurd (Or.inr w) s2
                  by_cases k5 : k = 5
                  · by_cases b : xe_i E (ev_cx (xe_A E) e) < xe_i E (ev_cy (xe_A E) e)
                    · refine ⟨1, 1, nI e, mk 1 1 (Or.inl rfl) (k2mk 1 1 ⟨nx, ny⟩ ⟨fun w => absurd w k6, fun _ => ⟨ox, oy⟩, fun _ => ⟨fun _ => ⟨rfl, rfl⟩, fun w => absurd b w⟩, fun w => by omega⟩), fun post h => to2 post (kw_c e30 lx ly (by omega) (by omega) ⟨fun w => absurd w s0, fun _ _ => ⟨fun w => absurd w k6, fun _ => ⟨fun w => absurd w s2, fun _ _ => ⟨fun _ => ?_, fun w => absurd k5 w⟩⟩⟩⟩)⟩
                      rw [decide_eq_true b]
                      exact h
                    · refine ⟨2, 0, nI e, mk 2 0 (Or.inr ⟨rfl, rfl⟩) (k2mk 2 0 ⟨nx, ny⟩ ⟨fun w => absurd w k6, fun _ => ⟨ox, oy⟩, fun _ => ⟨fun w => absurd w b, fun _ => rfl⟩, fun w => by omega⟩), fun post h => to2 post (kw_c e30 lx ly (by omega) (by omega) ⟨fun w => absurd w s0, fun _ _ => ⟨fun w => absurd w k6, fun _ => ⟨fun w => absurd w s2, fun _ _ => ⟨fun _ => ?_, fun w => absurd k5 w⟩⟩⟩⟩)⟩
                      rw [decide_eq_false b]
                      exact h
                  · exact ⟨1, _, nI e, mk 1 _ (Or.inl rfl) (k2mk 1 _ ⟨nx, ny⟩ ⟨fun w => absurd w k6, fun _ => ⟨ox, oy⟩, fun w => absurd w k5, fun _ => ⟨rfl, rfl⟩⟩), fun post h => to2 post (kw_c e30 lx ly (by omega) (by omega) ⟨fun w => absurd w s0, fun _ _ => ⟨fun w => absurd w k6, fun _ => ⟨fun w => absurd w s2, fun _ _ => ⟨fun w => absurd w k5, fun _ => h⟩⟩⟩⟩)⟩
      · exact ⟨0, 0, nI e, kn_no e30 (by omega) (fun w => by omega) (fun w => by omega), fun post h => go post (br_f nk1 (br_f (nI_nlt (b := 10) (by omega) (by omega)) h))⟩
end
end
section
/-! more expressions: what was said of the others lasts -/
def eg_ (E E' : gx_E) (c : Nat) : Prop := ∀ j, j < c → xe_k E' j = xe_k E j ∧ xe_x E' j = xe_x E j ∧ xe_y E' j = xe_y E j ∧ xe_w E' j = xe_w E j ∧ xe_s E' j = xe_s E j ∧ xe_i E' j = xe_i E j ∧ xe_a E' j = xe_a E j
section
variable {E E' : gx_E} {S : gx_S} {C : gx_C} {c : Nat}
theorem eg_k (g : eg_ E E' c) {j : Nat} (h : j < c) : ev_k (xe_A E') j = ev_k (xe_A E) j := by
  show (xe_k E' j).toNatClampNeg = (xe_k E j).toNatClampNeg
  rw [(g j h).1]
theorem eg_cx (g : eg_ E E' c) {j : Nat} (h : j < c) : ev_cx (xe_A E') j = ev_cx (xe_A E) j := by
  show (xe_x E' j).toNatClampNeg = (xe_x E j).toNatClampNeg
  rw [(g j h).2.1]
theorem eg_cy (g : eg_ E E' c) {j : Nat} (h : j < c) : ev_cy (xe_A E') j = ev_cy (xe_A E) j := by
  show (xe_y E' j).toNatClampNeg = (xe_y E j).toNatClampNeg
  rw [(g j h).2.2.1]
theorem eg_w (g : eg_ E E' c) {j : Nat} (h : j < c) : ev_w (xe_A E') j = ev_w (xe_A E) j := by
  show (xe_w E' j).toNatClampNeg = (xe_w E j).toNatClampNeg
  rw [(g j h).2.2.2.1]
theorem eg_a (g : eg_ E E' c) {j : Nat} (h : j < c) : kn_a E' j = kn_a E j := by
  unfold kn_a
  rw [(g j h).2.2.2.2.2.2]
theorem eg_ar (g : eg_ E E' c) {i : Nat} (h : i < c) (a : ar_1 (xe_A E) i) : ar_1 (xe_A E') i := by
  obtain ⟨h1, h2, h3, h4, h5, h6, h7, h8, h9⟩ := a
  have kx : ya_k (xe_A E') i = ya_k (xe_A E) i := (g i h).1
  have xx : ya_x (xe_A E') i = ya_x (xe_A E) i := (g i h).2.1
  have yy : ya_y (xe_A E') i = ya_y (xe_A E) i := (g i h).2.2.1
  have ww : ya_w (xe_A E') i = ya_w (xe_A E) i := (g i h).2.2.2.1
  unfold ar_1
  rw [eg_k g h, eg_cx g h, eg_cy g h, eg_w g h, kx, xx, yy, ww]
  refine ⟨h1, h2, h3, h4, h5, h6, h7, h8, ?_⟩
  rw [h9]
  have ex : (if 1 ≤ ev_pt (ev_k (xe_A E) i) then ev_w (xe_A E') (ev_cx (xe_A E) i) else 0) = (if 1 ≤ ev_pt (ev_k (xe_A E) i) then ev_w (xe_A E) (ev_cx (xe_A E) i) else 0) := by
    by_cases q : 1 ≤ ev_pt (ev_k (xe_A E) i)
    · rw [if_pos q, if_pos q, eg_w g (by have := (h7 q).2; omega)]
    · rw [if_neg q, if_neg q]
  have ey : (if ev_pt (ev_k (xe_A E) i) = 2 then ev_w (xe_A E') (ev_cy (xe_A E) i) else 0) = (if ev_pt (ev_k (xe_A E) i) = 2 then ev_w (xe_A E) (ev_cy (xe_A E) i) else 0) := by
    by_cases q : ev_pt (ev_k (xe_A E) i) = 2
    · rw [if_pos q, if_pos q, eg_w g (by have := (h8 q).2; omega)]
    · rw [if_neg q, if_neg q]
  rw [ex, ey]
theorem eg_kn (g : eg_ E E' c) {i : Nat} (h : i < c) (a : ar_1 (xe_A E) i) (kn : kn_1 E i) : kn_1 E' i := by
  obtain ⟨h1, h2, h3, h4, h5, h6, h7, h8, h9⟩ := a
  obtain ⟨k0, k1, k2, k3, k4, k5⟩ := kn
  obtain ⟨g1, g2, g3, g4, g5, g6, g7⟩ := g i h
  have px : 1 ≤ ev_pt (ev_k (xe_A E) i) → ev_cx (xe_A E) i < c := fun q => by have := (h7 q).2; omega
  have py : ev_pt (ev_k (xe_A E) i) = 2 → ev_cy (xe_A E) i < c := fun q => by have := (h8 q).2; omega
  have p9 : ev_k (xe_A E) i = 9 → 1 ≤ ev_pt (ev_k (xe_A E) i) := fun q => by unfold ev_pt; rw [if_neg (by omega), if_pos (by omega)]; omega
  have p7 : ev_k (xe_A E) i = 7 ∨ ev_k (xe_A E) i = 8 → ev_pt (ev_k (xe_A E) i) = 2 := ys_p2
  have p2 : 2 ≤ ev_k (xe_A E) i → ev_k (xe_A E) i ≤ 6 → ev_pt (ev_k (xe_A E) i) = 2 := fun q r => by unfold ev_pt; rw [if_neg (by omega), if_neg (by omega)]
  refine ⟨?_, ?_, ?_, ?_, ?_, ?_⟩
  · rw [g5, g6, g7, eg_a g h]
    exact k0
  · rw [eg_k g h, g5, g6, g2, eg_a g h]
    exact k1
  · rw [eg_k g h, g5, eg_a g h]
    exact k2
  · rw [eg_k g h, eg_cx g h, g5, g6, eg_a g h]
    intro q
    rw [(g _ (px (p9 q))).2.2.2.2.1]
    exact k3 q
  · rw [eg_k g h, eg_cx g h, eg_cy g h, g5, g6, eg_a g h]
    intro q
    have qx := px (by rw [p7 q]; omega)
    have qy := py (p7 q)
    rw [(g _ qx).2.2.2.2.1]
    refine ⟨(k4 q).1, fun w => ?_⟩
    obtain ⟨t, et, e1, e2, e3⟩ := (k4 q).2 w
    have tc : t < c := by rw [et]; split <;> omega
    exact ⟨t, et, by rw [eg_a g tc]; exact e1, by rw [(g t tc).2.2.2.2.1]; exact e2, by rw [(g t tc).2.2.2.2.2.1]; exact e3⟩
  · rw [eg_k g h, g5, eg_a g h]
    intro q r
    refine ⟨(k5 q r).1, fun w => ?_⟩
    have kk := (k5 q r).2 w
    have qx := px (by rw [p2 q r]; omega)
    have qy := py (p2 q r)
    unfold kn_2
    rw [eg_k g h, eg_cx g h, eg_cy g h, g5, g6, (g _ qx).2.2.2.2.1, (g _ qy).2.2.2.2.1, (g _ qx).2.2.2.2.2.1, (g _ qy).2.2.2.2.2.1]
    exact kk
theorem eg_sp (g : eg_ E E' c) {x : Nat} (h : x < c) : sp_ E' x ↔ sp_ E x := by
  unfold sp_
  rw [(g x h).2.2.2.2.1, eg_k g h]
theorem eg_oa (g : eg_ E E' c) {x r : Nat} (h : x < c) : oa_ E' x r = oa_ E x r := by
  unfold oa_
  by_cases s : sp_ E x
  · rw [if_pos s, if_pos ((eg_sp g h).mpr s), eg_cx g h]
  · rw [if_neg s, if_neg (fun w => s ((eg_sp g h).mp w))]
theorem eg_ce (g : eg_ E E' c) (hA : ∀ i, i < c → ar_1 (xe_A E) i) (hK : kn_ok E c) : ∀ (f e r p q : Nat), e < c → ce_ E C f e r p q → ce_ E' C f e r p q
  | 0, _, _, _, _, _, h => h.elim
  | f + 1, e, r, p, q, he, h => by
    obtain ⟨a1, a2, a3, a4, a5, a6, a7, a8, a9⟩ := hA e he
    obtain ⟨g1, g2, g3, g4, g5, g6, g7⟩ := g e he
    unfold ce_
    rw [g5, eg_k g he, eg_cx g he, eg_cy g he]
    refine ⟨fun l => ⟨(h.1 l).1, ?_⟩, fun l => ?_⟩
    · have lf := (h.1 l).2
      unfold lf_ at *
      rw [g5, g6, eg_k g he, eg_cx g he]
      exact lf
    · have h := h.2 l
      have n0 : ev_k (xe_A E) e ≠ 0 := by
        intro k0
        have := ((hK e he).2.1 k0).1
        exact l (Or.inl (by rw [this]; decide))
      have cx : 1 ≤ ev_pt (ev_k (xe_A E) e) → ev_cx (xe_A E) e < c ∧ kn_a E (ev_cx (xe_A E) e) < c := fun w => by
        have q := (a7 w).2
        have := (hK (ev_cx (xe_A E) e) (by omega)).1.2.2.2
        exact ⟨by omega, by omega⟩
      have cy : ev_pt (ev_k (xe_A E) e) = 2 → ev_cy (xe_A E) e < c ∧ kn_a E (ev_cy (xe_A E) e) < c := fun w => by
        have q := (a8 w).2
        have := (hK (ev_cy (xe_A E) e) (by omega)).1.2.2.2
        exact ⟨by omega, by omega⟩
      refine ⟨fun k7 => ?_, fun k9 => ?_, fun k7 k9 => ?_⟩
      · have p2 := ys_p2 k7
        obtain ⟨m, h1, h2, h3⟩ := h.1 k7
        have qx := cx (by omega)
        have qy := cy p2
        refine ⟨m, ?_, h2, ?_⟩
        · rw [eg_a g qx.1]; exact eg_ce g hA hK f _ _ _ _ qx.2 h1
        · rw [eg_a g qy.1]; exact eg_ce g hA hK f _ _ _ _ qy.2 h3
      · have p1 : ev_pt (ev_k (xe_A E) e) = 1 := by clear h; unfold ev_pt; rw [if_neg (by omega), if_pos k9]
        obtain ⟨m, h1, h2, h3⟩ := h.2.1 k9
        have qx := cx (by omega)
        refine ⟨m, ?_, h2, h3⟩
        rw [eg_a g qx.1]; exact eg_ce g hA hK f _ _ _ _ qx.2 h1
      · have p2 : ev_pt (ev_k (xe_A E) e) = 2 := by clear h; unfold ev_pt; rw [if_neg (by omega), if_neg k9]
        obtain ⟨m1, m2, h1, h2, h3, h4⟩ := h.2.2 k7 k9
        have qx := cx (by omega)
        have qy := cy p2
        rw [eg_a g qx.1, eg_a g qy.1, eg_oa g qx.2, eg_oa g qy.2]
        refine ⟨m1, m2, ⟨fun w => h1.1 ((eg_sp g qx.2).mp w), fun w => eg_ce g hA hK f _ _ _ _ qx.2 (h1.2 (fun v => w ((eg_sp g qx.2).mpr v)))⟩, ⟨fun w => h2.1 ((eg_sp g qy.2).mp w), fun w => eg_ce g hA hK f _ _ _ _ qy.2 (h2.2 (fun v => w ((eg_sp g qy.2).mpr v)))⟩, h3, h4⟩
theorem eg_ea (g : eg_ E E' c) (hA : ∀ i, i < c → ar_1 (xe_A E) i) (hK : kn_ok E c) {f e r p q : Nat} (he : e < c) (h : ce_ E C f (kn_a E e) r p q) : ce_ E' C f (kn_a E' e) r p q := by
  rw [eg_a g he]
  have := (hK e he).1.2.2.2
  exact eg_ce g hA hK f _ _ _ _ (by omega) h
theorem eg_cs {n : Nat} (g : eg_ E E' c) (hA : ∀ i, i < c → ar_1 (xe_A E) i) (hK : kn_ok E c) (hS : so_ok S c n) : ∀ (d i e lv p q : Nat), e ≤ n → cs_ E S C d i e lv p q → cs_ E' S C d i e lv p q
  | 0, _, _, _, _, _, _, h => h
  | d + 1, i, e, lv, p, q, he, h => by
    rcases h with h | ⟨lt, hin, h0, h1, h2, h3, h4⟩
    · exact Or.inl h
    · have so := hS.2.2 i (by omega)
      refine Or.inr ⟨lt, hin, fun k => ?_, fun k => ?_, fun k => ?_, fun k => ?_, fun k => ?_⟩
      · obtain ⟨m, a, i1, b⟩ := h0 k
        exact ⟨m, eg_ea g hA hK (so.2.2.2.1 (Or.inl k)).2.2 a, i1, eg_cs g hA hK hS d _ _ _ _ _ he b⟩
      · obtain ⟨m1, m2, m, a1, a2, a3, i1, b⟩ := h1 k
        have s1 := so.2.2.2.2.2.1 k
        have s2 := so.2.2.2.2.1 (by clear h0 h1 h2 h3 h4; omega)
        exact ⟨m1, m2, m, eg_ea g hA hK s2 a1, eg_ea g hA hK s1.2.1 a2, eg_ea g hA hK s1.2.2.2 a3, i1, eg_cs g hA hK hS d _ _ _ _ _ he b⟩
      · obtain ⟨m, b, e1, a, i1, b1, b2⟩ := h2 k
        have s2 := so.2.2.2.2.1 (by clear h0 h1 h2 h3 h4; omega)
        exact ⟨m, b, e1, eg_ea g hA hK s2 a, i1, eg_cs g hA hK hS d _ _ _ _ _ (Nat.le_trans e1 he) b1, eg_cs g hA hK hS d _ _ _ _ _ he b2⟩
      · obtain ⟨m, b, e1, lv2, a, i1, i2, b1, i3, b2⟩ := h3 k
        exact ⟨m, b, e1, lv2, eg_ea g hA hK (so.2.2.2.1 (Or.inr k)).2.2 a, i1, i2, eg_cs g hA hK hS d _ _ _ _ _ (Nat.le_trans e1 he) b1, i3, eg_cs g hA hK hS d _ _ _ _ _ he b2⟩
      · obtain ⟨m, a, i1, b⟩ := h4 k
        have s2 := so.2.2.2.2.1 (by clear h0 h1 h2 h3 h4; omega)
        exact ⟨m, eg_ea g hA hK s2 a, i1, eg_cs g hA hK hS d _ _ _ _ _ he b⟩
theorem so_mono {c c' n : Nat} (h : so_ok S c n) (le : c ≤ c') : so_ok S c' n := by
  refine ⟨h.1, h.2.1, fun i hi => ?_⟩
  obtain ⟨a1, a2, a3, a4, a5, a6, a7, a8⟩ := h.2.2 i hi
  exact ⟨a1, a2, a3, fun w => ⟨(a4 w).1, (a4 w).2.1, by have := (a4 w).2.2; omega⟩, fun w => by have := a5 w; omega, fun w => ⟨(a6 w).1, by have := (a6 w).2.1; omega, (a6 w).2.2.1, by have := (a6 w).2.2.2; omega⟩, a7, a8⟩
end
end
section
/-! express -/
def ge_ (c k : Nat) (x y : Int32) : Prop := (1 ≤ ev_pt k → tE_ c x) ∧ (ev_pt k = 2 → tE_ c y)
def ew_ (A : gy_A) (k : Nat) (x y : Int32) : Nat := 1 + (if 1 ≤ ev_pt k then ev_w A x.toNatClampNeg else 0) + (if ev_pt k = 2 then ev_w A y.toNatClampNeg else 0)
section
variable {E : gx_E} {S : gx_S} {C : gx_C} {W : gx_W} {O : gx_O} {M : gx_M} {H : gx_H} {A : gy_A} {B : gy_B} {V : gy_V} {T : gy_T} {K : gy_K} {L : gy_L} {c : Nat}
/-- up to the flags: one part, two parts -/
theorem xx_82 {post : Int32 → SX → Prop} {k : Nat} {x y : Int32} (k12 : k ≤ 12)
    (h : (wX_express_82 post (nI k) x y (nI (if ev_pt k = 1 then 1 else 0)) (nI (if ev_pt k = 2 then 1 else 0)) (xe_n E) (xs_n S) (xc_f C) (xc_n C) (xo_n O) (xm_c M) (xm_h M) (xh_u H) (xh_r H) (xe_k E) (xe_x E) (xe_y E) (xe_w E) (xe_s E) (xe_i E) (xe_a E) (xs_o S) (xs_x S) (xs_y S) (xs_z S) (xc_o C) (xc_a C) (xc_b C) (xc_c C) (xc_k C) (xw_n W) (xw_r W) (xw_p W) (xw_t W) (xo_e O) (xo_l O) (xo_p O) (xm_s M) (xm_n M) (xm_l M) (xm_m M) (xm_v M) (xh_k H) (xh_s H) (xh_n H) (xh_c H))) : (wX_express_41 post (nI k) x y (xe_n E) (xs_n S) (xc_f C) (xc_n C) (xo_n O) (xm_c M) (xm_h M) (xh_u H) (xh_r H) (xe_k E) (xe_x E) (xe_y E) (xe_w E) (xe_s E) (xe_i E) (xe_a E) (xs_o S) (xs_x S) (xs_y S) (xs_z S) (xc_o C) (xc_a C) (xc_b C) (xc_c C) (xc_k C) (xw_n W) (xw_r W) (xw_p W) (xw_t W) (xo_e O) (xo_l O) (xo_p O) (xm_s M) (xm_n M) (xm_l M) (xm_m M) (xm_v M) (xh_k H) (xh_s H) (xh_n H) (xh_c H)) := by
  rcases ev_ptc k with p | p | p
  · have q := ev_pt0 p
    rw [p, if_neg (by omega), if_neg (by omega)] at h
    have h71 : (wX_express_71 post (nI k) x y 0 (xe_n E) (xs_n S) (xc_f C) (xc_n C) (xo_n O) (xm_c M) (xm_h M) (xh_u H) (xh_r H) (xe_k E) (xe_x E) (xe_y E) (xe_w E) (xe_s E) (xe_i E) (xe_a E) (xs_o S) (xs_x S) (xs_y S) (xs_z S) (xc_o C) (xc_a C) (xc_b C) (xc_c C) (xc_k C) (xw_n W) (xw_r W) (xw_p W) (xw_t W) (xo_e O) (xo_l O) (xo_p O) (xm_s M) (xm_n M) (xm_l M) (xm_m M) (xm_v M) (xh_k H) (xh_s H) (xh_n H) (xh_c H)) := pk_eq k 10 (fun w => by omega) (fun _ => h)
    refine pk_eq k 9 (fun w => by omega) (fun _ => pk_eq k 12 (fun w => by omega) (fun _ => ?_))
    exact pk_lt k 2 (fun _ => h71) (fun w => pk_le k 8 (fun w2 => by omega) (fun _ => h71))
  · have q := ev_pt1 p
    rw [p, if_pos rfl, if_neg (by omega)] at h
    have h71 : (wX_express_71 post (nI k) x y 1 (xe_n E) (xs_n S) (xc_f C) (xc_n C) (xo_n O) (xm_c M) (xm_h M) (xh_u H) (xh_r H) (xe_k E) (xe_x E) (xe_y E) (xe_w E) (xe_s E) (xe_i E) (xe_a E) (xs_o S) (xs_x S) (xs_y S) (xs_z S) (xc_o C) (xc_a C) (xc_b C) (xc_c C) (xc_k C) (xw_n W) (xw_r W) (xw_p W) (xw_t W) (xo_e O) (xo_l O) (xo_p O) (xm_s M) (xm_n M) (xm_l M) (xm_m M) (xm_v M) (xh_k H) (xh_s H) (xh_n H) (xh_c H)) := pk_eq k 10 (fun w => by omega) (fun _ => h)
    have h53 : (wX_express_53 post (nI k) x y (xe_n E) (xs_n S) (xc_f C) (xc_n C) (xo_n O) (xm_c M) (xm_h M) (xh_u H) (xh_r H) (xe_k E) (xe_x E) (xe_y E) (xe_w E) (xe_s E) (xe_i E) (xe_a E) (xs_o S) (xs_x S) (xs_y S) (xs_z S) (xc_o C) (xc_a C) (xc_b C) (xc_c C) (xc_k C) (xw_n W) (xw_r W) (xw_p W) (xw_t W) (xo_e O) (xo_l O) (xo_p O) (xm_s M) (xm_n M) (xm_l M) (xm_m M) (xm_v M) (xh_k H) (xh_s H) (xh_n H) (xh_c H)) := pk_lt k 2 (fun w => by omega) (fun w => pk_le k 8 (fun w2 => by omega) (fun _ => h71))
    exact pk_eq k 9 (fun _ => h53) (fun _ => pk_eq k 12 (fun _ => h53) (fun w => by omega))
  · have q := ev_pt2 p
    rw [p, if_neg (by omega), if_pos rfl] at h
    have h77 : (wX_express_77 post (nI k) x y 0 (xe_n E) (xs_n S) (xc_f C) (xc_n C) (xo_n O) (xm_c M) (xm_h M) (xh_u H) (xh_r H) (xe_k E) (xe_x E) (xe_y E) (xe_w E) (xe_s E) (xe_i E) (xe_a E) (xs_o S) (xs_x S) (xs_y S) (xs_z S) (xc_o C) (xc_a C) (xc_b C) (xc_c C) (xc_k C) (xw_n W) (xw_r W) (xw_p W) (xw_t W) (xo_e O) (xo_l O) (xo_p O) (xm_s M) (xm_n M) (xm_l M) (xm_m M) (xm_v M) (xh_k H) (xh_s H) (xh_n H) (xh_c H)) := h
    refine pk_eq k 9 (fun w => by omega) (fun _ => pk_eq k 12 (fun w => by omega) (fun _ => ?_))
    exact pk_lt k 2 (fun w => by omega) (fun w => pk_le k 8 (fun _ => h77) (fun w2 => pk_eq k 10 (fun _ => h77) (fun w3 => by omega)))
theorem xx_pre {post : Int32 → SX → Prop} {k : Nat} {x y : Int32} (hc : xe_n E = nI c) (c30 : c ≤ 30) (k12 : k ≤ 12) (hA : ∀ i, i < c → ar_1 (xe_A E) i)
    (h1 : ge_ c k x y → (wX_express_159 post (nI k) x y (nI (ew_ (xe_A E) k x y)) (xe_n E) (xs_n S) (xc_f C) (xc_n C) (xo_n O) (xm_c M) (xm_h M) (xh_u H) (xh_r H) (xe_k E) (xe_x E) (xe_y E) (xe_w E) (xe_s E) (xe_i E) (xe_a E) (xs_o S) (xs_x S) (xs_y S) (xs_z S) (xc_o C) (xc_a C) (xc_b C) (xc_c C) (xc_k C) (xw_n W) (xw_r W) (xw_p W) (xw_t W) (xo_e O) (xo_l O) (xo_p O) (xm_s M) (xm_n M) (xm_l M) (xm_m M) (xm_v M) (xh_k H) (xh_s H) (xh_n H) (xh_c H))) (h0 : ¬ ge_ c k x y → post (-1) (xk E S C W O M H)) : (wX_express_41 post (nI k) x y (xe_n E) (xs_n S) (xc_f C) (xc_n C) (xo_n O) (xm_c M) (xm_h M) (xh_u H) (xh_r H) (xe_k E) (xe_x E) (xe_y E) (xe_w E) (xe_s E) (xe_i E) (xe_a E) (xs_o S) (xs_x S) (xs_y S) (xs_z S) (xc_o C) (xc_a C) (xc_b C) (xc_c C) (xc_k C) (xw_n W) (xw_r W) (xw_p W) (xw_t W) (xo_e O) (xo_l O) (xo_p O) (xm_s M) (xm_n M) (xm_l M) (xm_m M) (xm_v M) (xh_k H) (xh_s H) (xh_n H) (xh_c H)) := by
  refine xx_82 k12 ?_
  have hw : ∀ j, j < c → xe_w E (nI j).toNatClampNeg = nI (ev_w (xe_A E) j) := fun j hj => by
    rw [nI_clamp (by omega)]
    exact (hA j hj).2.2.1
  unfold ew_ at h1
  rcases ev_ptc k with p | p | p
  · rw [p, if_neg (by omega), if_neg (by omega)] at h1 ⊢
    have h1 := h1 ⟨fun w => by omega, fun w => by omega⟩
    exact br_t rfl (br_t rfl (br_t rfl (br_t rfl (br_t rfl (br_t rfl h1)))))
  · rw [p, if_pos (by omega), if_neg (by omega)] at h1
    rw [p, if_pos rfl, if_neg (by omega)]
    refine br_f (by decide) ?_
    refine xE_ hc c30 (fun tx => br_f (by decide) ?_) (fun tx => br_t rfl (h0 (fun w => tx (w.1 (by omega)))))
    have h1 := h1 ⟨fun _ => tx, fun w => by omega⟩
    obtain ⟨j, hj, rfl⟩ := tx
    refine br_t rfl (br_f (by decide) ?_)
    refine And.intro (by_in (by omega)) (nm_r (e' := nI (1 + ev_w (xe_A E) j)) (by rw [hw j hj]; exact nI_add 1 _) (br_t rfl ?_))
    rw [nI_clamp (by omega), Nat.add_zero] at h1
    exact h1
  · rw [p, if_pos (by omega), if_pos rfl] at h1
    rw [p, if_neg (by omega), if_pos rfl]
    refine br_t rfl (br_f (by decide) ?_)
    refine xE_ hc c30 (fun tx => br_f (by decide) ?_) (fun tx => br_t rfl (h0 (fun w => tx (w.1 (by omega)))))
    refine br_f (by decide) ?_
    refine xE_ hc c30 (fun ty => br_f (by decide) ?_) (fun ty => br_t rfl (h0 (fun w => ty (w.2 p))))
    have h1 := h1 ⟨fun _ => tx, fun _ => ty⟩
    obtain ⟨j, hj, rfl⟩ := tx
    obtain ⟨l, hl, rfl⟩ := ty
    refine br_t rfl (br_f (by decide) ?_)
    refine And.intro (by_in (by omega)) (nm_r (e' := nI (1 + ev_w (xe_A E) j)) (by rw [hw j hj]; exact nI_add 1 _) (br_f (by decide) ?_))
    refine And.intro (by_in (by omega)) (nm_r (e' := nI (1 + ev_w (xe_A E) j + ev_w (xe_A E) l)) (by rw [hw l hl, nI_add]) ?_)
    rw [nI_clamp (by omega), nI_clamp (by omega)] at h1
    exact h1
def ya_w' (A : gy_A) (c k w : Nat) (x y : Int32) : gy_A := (nI (c + 1), upd (ya_k A) c (nI k), upd (ya_x A) c x, upd (ya_y A) c y, upd (ya_w A) c (nI w))
theorem yx_106 {post : Int32 → SY → Prop} {k w : Nat} {x y z0 z1 : Int32} (hc : ya_n A = nI c) (c30 : c < 30) (hz : z1 + z0 = nI w) (w31 : w < 100) (h1 : w ≤ 7 → post (nI c) (yk (ya_w' A c k w x y) B V T K L)) (h0 : 7 < w → post (-2) (yk A B V T K L)) : (wY_express_106 post (nI k) x y z0 z1 (ya_n A) (yb_n B) (yv_h V) (yk_d K) (yk_t K) (yk_f K) (yl_n L) (ya_k A) (ya_x A) (ya_y A) (ya_w A) (yb_o B) (yb_x B) (yb_y B) (yb_z B) (yv_s V) (yv_n V) (yt_z T) (yt_k T) (yt_s T) (yt_n T) (yt_t T) (yt_e T) (yv_o V) (yk_w K) (yk_g K) (yk_s K) (yk_n K) (yl_a L) (yl_t L) (yl_l L)) := by
  refine nm_r hz (pk_le w 7 (fun le => ?_) (fun gt => h0 gt))
  refine ix_st c 30 (nI k) c30 ?_ hc
  refine ix_st c 30 x c30 ?_ hc
  refine ix_st c 30 y c30 ?_ hc
  refine ix_st c 30 (nI w) c30 ?_ hc
  refine nm_r (e' := nI (c + 1)) (by rw [hc, nI_1]) ?_
  rw [nI_pred]
  exact h1 le
theorem yx_pre {post : Int32 → SY → Prop} {k : Nat} {x y : Int32} (hA : ar_ok A c) (c30 : c < 30) (k12 : k ≤ 12)
    (h1 : ge_ c k x y → (ew_ A k x y ≤ 7 → post (nI c) (yk (ya_w' A c k (ew_ A k x y) x y) B V T K L)) ∧ (7 < ew_ A k x y → post (-2) (yk A B V T K L))) (h0 : ¬ ge_ c k x y → post (-1) (yk A B V T K L)) : (wY_express_37 post (nI k) x y (ya_n A) (yb_n B) (yv_h V) (yk_d K) (yk_t K) (yk_f K) (yl_n L) (ya_k A) (ya_x A) (ya_y A) (ya_w A) (yb_o B) (yb_x B) (yb_y B) (yb_z B) (yv_s V) (yv_n V) (yt_z T) (yt_k T) (yt_s T) (yt_n T) (yt_t T) (yt_e T) (yv_o V) (yk_w K) (yk_g K) (yk_s K) (yk_n K) (yl_a L) (yl_t L) (yl_l L)) := by
  have hc := hA.1
  have hw : ∀ j, j < c → ya_w A (nI j).toNatClampNeg = nI (ev_w A j) ∧ ev_w A j ≤ 7 := fun j hj => by
    rw [nI_clamp (by omega)]
    exact ⟨(hA.2.2 j hj).2.2.1, (hA.2.2 j hj).2.2.2.2.1⟩
  refine ym_parts k12 ?_
  unfold ew_ at h1
  rcases ev_ptc k with p | p | p
  · rw [p] at h1 ⊢
    rw [if_neg (by omega), if_neg (by omega)] at h1
    obtain ⟨a, b⟩ := h1 ⟨fun w => by omega, fun w => by omega⟩
    refine br_t (Int32.le_refl _) ?_
    refine br_t (by decide) ?_
    refine br_t (Int32.le_refl _) ?_
    refine br_t (by decide) ?_
    exact yx_106 (w := 1 + 0 + 0) hc c30 (by decide) (by omega) a b
  · rw [p] at h1 ⊢
    rw [if_pos (by omega), if_neg (by omega)] at h1
    refine br_f (by decide) ?_
    refine yE_ hc (by omega) (fun tx => br_f (by decide) ?_) (fun tx => br_t rfl (h0 (fun w => tx (w.1 (by omega)))))
    obtain ⟨a, b⟩ := h1 ⟨fun _ => tx, fun w => by omega⟩
    obtain ⟨j, hj, rfl⟩ := tx
    rw [nI_clamp (by omega)] at a b
    have wj := hw j hj
    refine br_t (by decide) ?_
    refine br_f (by decide) ⟨by_in (by omega), ?_⟩
    refine br_t (by decide) ?_
    exact yx_106 (w := 1 + ev_w A j + 0) hc c30 (by rw [wj.1]; show nI 1 + nI (ev_w A j) + nI 0 = _; rw [nI_add, nI_add]) (by omega) a b
  · rw [p] at h1 ⊢
    rw [if_pos (by omega), if_pos rfl] at h1
    refine br_f (by decide) ?_
    refine yE_ hc (by omega) (fun tx => br_f (by decide) ?_) (fun tx => br_t rfl (h0 (fun w => tx (w.1 (by omega)))))
    refine br_f (by decide) ?_
    refine yE_ hc (by omega) (fun ty => br_f (by decide) ?_) (fun ty => br_t rfl (h0 (fun w => ty (w.2 p))))
    obtain ⟨a, b⟩ := h1 ⟨fun _ => tx, fun _ => ty⟩
    obtain ⟨j, hj, rfl⟩ := tx
    obtain ⟨l, hl, rfl⟩ := ty
    rw [nI_clamp (by omega), nI_clamp (by omega)] at a b
    have wj := hw j hj
    have wl := hw l hl
    refine br_f (by decide) ⟨by_in (by omega), ?_⟩
    refine br_f (by decide) ⟨by_in (by omega), ?_⟩
    exact yx_106 (w := 1 + ev_w A j + ev_w A l) hc c30 (by rw [wj.1, wl.1]; show nI 1 + nI (ev_w A j) + nI (ev_w A l) = _; rw [nI_add, nI_add]) (by omega) a b
def xe_w' (E : gx_E) (c k w : Nat) (x y : Int32) : gx_E := (nI (c + 1), upd (xe_k E) c (nI k), upd (xe_x E) c x, upd (xe_y E) c y, upd (xe_w E) c (nI w), xe_s E, xe_i E, xe_a E)
/-- the new expression's own facts -/
theorem ar_new {k w : Nat} {x y : Int32} (c30 : c < 30) (k12 : k ≤ 12) (hv : k = 1 → tV_ x) (g : ge_ c k x y) (ew : w = ew_ (xe_A E) k x y) (w7 : w ≤ 7) : ar_1 (xe_A (xe_w' E c k w x y)) c := by
  have e1 : ya_k (xe_A (xe_w' E c k w x y)) c = nI k := pk_us
  have e2 : ya_x (xe_A (xe_w' E c k w x y)) c = x := pk_us
  have e3 : ya_y (xe_A (xe_w' E c k w x y)) c = y := pk_us
  have e4 : ya_w (xe_A (xe_w' E c k w x y)) c = nI w := pk_us
  have f1 : ev_k (xe_A (xe_w' E c k w x y)) c = k := by unfold ev_k; rw [e1, nI_clamp (by omega)]
  have f2 : ev_cx (xe_A (xe_w' E c k w x y)) c = x.toNatClampNeg := by unfold ev_cx; rw [e2]
  have f3 : ev_cy (xe_A (xe_w' E c k w x y)) c = y.toNatClampNeg := by unfold ev_cy; rw [e3]
  have f4 : ev_w (xe_A (xe_w' E c k w x y)) c = w := by unfold ev_w; rw [e4, nI_clamp (by omega)]
  have ol : ∀ j, j < c → ev_w (xe_A (xe_w' E c k w x y)) j = ev_w (xe_A E) j := fun j hj => by
    show (upd (xe_w E) c (nI w) j).toNatClampNeg = (xe_w E j).toNatClampNeg
    rw [pk_un (by omega)]
  have tx : 1 ≤ ev_pt k → x = nI x.toNatClampNeg ∧ x.toNatClampNeg < c := fun q => by
    obtain ⟨j, hj, rfl⟩ := g.1 q
    rw [nI_clamp (by omega)]
    exact ⟨rfl, hj⟩
  have ty : ev_pt k = 2 → y = nI y.toNatClampNeg ∧ y.toNatClampNeg < c := fun q => by
    obtain ⟨j, hj, rfl⟩ := g.2 q
    rw [nI_clamp (by omega)]
    exact ⟨rfl, hj⟩
  unfold ar_1
  rw [e1, e2, e3, e4, f1, f2, f3, f4]
  refine ⟨rfl, k12, rfl, by rw [ew]; unfold ew_; omega, w7, fun q => ?_, tx, ty, ?_⟩
  · obtain ⟨j, hj, rfl⟩ := hv q
    rw [nI_clamp (by omega)]
    exact ⟨rfl, hj⟩
  · have a : (if 1 ≤ ev_pt k then ev_w (xe_A (xe_w' E c k w x y)) x.toNatClampNeg else 0) = (if 1 ≤ ev_pt k then ev_w (xe_A E) x.toNatClampNeg else 0) := by
      by_cases q : 1 ≤ ev_pt k
      · rw [if_pos q, if_pos q, ol _ (tx q).2]
      · rw [if_neg q, if_neg q]
    have b : (if ev_pt k = 2 then ev_w (xe_A (xe_w' E c k w x y)) y.toNatClampNeg else 0) = (if ev_pt k = 2 then ev_w (xe_A E) y.toNatClampNeg else 0) := by
      by_cases q : ev_pt k = 2
      · rw [if_pos q, if_pos q, ol _ (ty q).2]
      · rw [if_neg q, if_neg q]
    rw [a, b]
    exact ew
theorem q_new {kk k n w : Nat} {x y : Int32} (c30 : c < 30) (k12 : k ≤ 12) (hv : k = 1 → tV_ x) (g : ge_ c k x y) (ew : w = ew_ (xe_A E) k x y) (w7 : w ≤ 7) (hc : xe_n E = nI c)
    (i2 : ar_ok (xe_A E) c) (i3 : kn_ok E c) (i4 : so_ok S c n) (i5 : rs_ S B n) (i6 : xc_f C = 0 ∨ (xc_f C = 1 ∧ co_ok E S C n)) (i7 : fe_ M H V T) (post : Int32 → SX → Prop)
    (hp : ∀ E2, i_Rel kk (xk E2 S C W O M H) (yk (ya_w' (xe_A E) c k w x y) B V T K L) → post (nI c) (xk E2 S C W O M H)) : (wX_express_159 post (nI k) x y (nI w) (xe_n E) (xs_n S) (xc_f C) (xc_n C) (xo_n O) (xm_c M) (xm_h M) (xh_u H) (xh_r H) (xe_k E) (xe_x E) (xe_y E) (xe_w E) (xe_s E) (xe_i E) (xe_a E) (xs_o S) (xs_x S) (xs_y S) (xs_z S) (xc_o C) (xc_a C) (xc_b C) (xc_c C) (xc_k C) (xw_n W) (xw_r W) (xw_p W) (xw_t W) (xo_e O) (xo_l O) (xo_p O) (xm_s M) (xm_n M) (xm_l M) (xm_m M) (xm_v M) (xh_k H) (xh_s H) (xh_n H) (xh_c H)) := by
  have an := ar_new (E := E) c30 k12 hv g ew w7
  have g0 : eg_ E (xe_w' E c k w x y) c := fun j hj => ⟨pk_un (by omega), pk_un (by omega), pk_un (by omega), pk_un (by omega), rfl, rfl, rfl⟩
  have ek : ev_k (xe_A (xe_w' E c k w x y)) c = k := by
    show (upd (xe_k E) c (nI k) c).toNatClampNeg = k
    rw [pk_us, nI_clamp (by omega)]
  obtain ⟨s, i, a, kn, hk⟩ := kn_new (E := xe_w' E c k w x y) (S := S) (C := C) (W := W) (O := O) (M := M) (H := H) (c := c) (e := c) (k := k) c30 rfl (fun j hj => eg_kn g0 hj (i2.2.2 j hj) (i3 j hj)) pk_us k12 (fun q => by rw [← ek] at q; exact an.2.2.2.2.2.2.1 q) (fun q => by rw [← ek] at q; exact an.2.2.2.2.2.2.2.1 q)
  refine br_t (nI_le (b := 7) w7 (by decide)) (nm_r (e' := nI (c + 1)) (by rw [hc, nI_1]) ?_)
  refine ix_st c 30 (nI k) c30 ?_ hc (by_n (by omega))
  refine ix_st c 30 x c30 ?_ hc
  refine ix_st c 30 y c30 ?_ hc
  refine ix_st c 30 (nI w) c30 ?_ hc (by_n (by omega))
  rw [hc]
  refine hk _ ?_
  have g1 : eg_ E (es_ (xe_w' E c k w x y) c s i a) c := fun j hj => ⟨pk_un (by omega), pk_un (by omega), pk_un (by omega), pk_un (by omega), pk_un (by omega), pk_un (by omega), pk_un (by omega)⟩
  refine hp _ (ir_k (A := ya_w' (xe_A E) c k w x y) ⟨c + 1, n, rfl, ⟨rfl, by omega, fun j hj => ?_⟩, fun j hj => ?_, so_mono i4 (by omega), i5, ?_, i7⟩)
  · by_cases e : j = c
    · rw [e]; exact an
    · exact eg_ar g0 (by omega) (i2.2.2 j (by omega))
  · by_cases e : j = c
    · rw [e]; exact kn
    · exact eg_kn g1 (by omega) (i2.2.2 j (by omega)) (i3 j (by omega))
  · rcases i6 with f | ⟨f, z, z1, z2, z3⟩
    · exact Or.inl f
    · exact Or.inr ⟨f, z, z1, z2, eg_cs g1 i2.2.2 i3 i4 _ _ _ _ _ _ (Nat.le_refl _) z3⟩
theorem q_express {kk : Nat} (I : ir_ E S C M H A B V T) (v1 v2 v3 : Int32) : wpX_express (fun r u' => wpY_express (fun r' v' => r' = r ∧ i_Rel kk u' v') (yk A B V T K L) v1 v2 v3) (xk E S C W O M H) v1 v2 v3 := by
  have I' := I
  obtain ⟨c, n, i1, i2, i3, i4, i5, i6, i7⟩ := I'
  subst i1
  have hc : xe_n E = nI c := i2.1
  have c30 := i2.2.1
  by_cases full : c = 30
  · refine br_f (by rw [hc, full]; decide) ?_
    exact br_t (by show xe_n E = 30; rw [hc, full]; rfl) ⟨rfl, I⟩
  · have c29 : c < 30 := by omega
    have nf : ¬ ya_n (xe_A E) = 30 := by
      rw [i2.1]
      exact fun w => full ((nI_eq (b := 30) (by omega) (by omega)).mp w)
    refine br_t (by rw [hc]; exact nI_lt (b := 30) c29 (by decide)) ?_
    by_cases ng : v1 < 0
    · exact br_t ng (br_f nf (br_t ng ⟨rfl, I⟩))
    · refine br_f ng ?_
      by_cases le : v1 ≤ 12
      · obtain ⟨k, k12, rfl⟩ := nI_of2 (x := v1) (M := 12) (n := 12) (by decide) ng le
        have nlt : ¬ (12 : Int32) < nI k := Int32.not_lt.mpr le
        refine br_t le ?_
        -- the tests have passed, or not, on both sides
        have both : (k = 1 → tV_ v2) → (wX_express_41 (fun r u' => wpY_express (fun r' v' => r' = r ∧ i_Rel kk u' v') (yk (xe_A E) B V T K L) (nI k) v2 v3) (nI k) v2 v3 (xe_n E) (xs_n S) (xc_f C) (xc_n C) (xo_n O) (xm_c M) (xm_h M) (xh_u H) (xh_r H) (xe_k E) (xe_x E) (xe_y E) (xe_w E) (xe_s E) (xe_i E) (xe_a E) (xs_o S) (xs_x S) (xs_y S) (xs_z S) (xc_o C) (xc_a C) (xc_b C) (xc_c C) (xc_k C) (xw_n W) (xw_r W) (xw_p W) (xw_t W) (xo_e O) (xo_l O) (xo_p O) (xm_s M) (xm_n M) (xm_l M) (xm_m M) (xm_v M) (xh_k H) (xh_s H) (xh_n H) (xh_c H)) := by
          intro hv
          -- the reference up to its own test
          have toY : ∀ post : Int32 → SY → Prop, (wY_express_37 post (nI k) v2 v3 (ya_n (xe_A E)) (yb_n B) (yv_h V) (yk_d K) (yk_t K) (yk_f K) (yl_n L) (ya_k (xe_A E)) (ya_x (xe_A E)) (ya_y (xe_A E)) (ya_w (xe_A E)) (yb_o B) (yb_x B) (yb_y B) (yb_z B) (yv_s V) (yv_n V) (yt_z T) (yt_k T) (yt_s T) (yt_n T) (yt_t T) (yt_e T) (yv_o V) (yk_w K) (yk_g K) (yk_s K) (yk_n K) (yl_a L) (yl_t L) (yl_l L)) → wpY_express post (yk (xe_A E) B V T K L) (nI k) v2 v3 := fun post h =>
            br_f nf (br_f ng (br_f nlt (pk_eq k 1 (fun k1 => yV_ (fun _ => br_f (by decide) h) (fun w => absurd (hv k1) w)) (fun _ => h))))
          refine xx_pre hc c30 k12 i2.2.2 (fun g => ?_) (fun ng' => ?_)
          · by_cases w7 : ew_ (xe_A E) k v2 v3 ≤ 7
            · refine q_new (B := B) (V := V) (T := T) (K := K) (L := L) (kk := kk) c29 k12 hv g rfl w7 hc i2 i3 i4 i5 i6 i7 _ (fun E2 h2 => ?_)
              refine toY _ ?_
              exact yx_pre i2 c29 k12 (fun _ => ⟨fun _ => ⟨rfl, h2⟩, fun w => by omega⟩) (fun w => absurd g w)
            · have w22 : ew_ (xe_A E) k v2 v3 ≤ 15 := by
                have aw : ∀ (q : Prop) [Decidable q] (v : Int32), (q → tE_ c v) → (if q then ev_w (xe_A E) v.toNatClampNeg else 0) ≤ 7 := by
                  intro q _ v hq
                  by_cases z : q
                  · rw [if_pos z]
                    obtain ⟨j, hj, rfl⟩ := hq z
                    rw [nI_clamp (by omega)]
                    exact (i2.2.2 j hj).2.2.2.2.1
                  · rw [if_neg z]; omega
                unfold ew_
                have a := aw (1 ≤ ev_pt k) v2 g.1
                have b := aw (ev_pt k = 2) v3 g.2
                omega
              refine br_f (nI_ge (a := 7) (by omega) (by omega)) ?_
              refine toY _ ?_
              exact yx_pre i2 c29 k12 (fun _ => ⟨fun w => absurd w w7, fun _ => ⟨rfl, I⟩⟩) (fun w => absurd g w)
          · refine toY _ ?_
            exact yx_pre i2 c29 k12 (fun w => absurd w ng') (fun _ => ⟨rfl, I⟩)
        refine pk_eq k 1 (fun k1 => ?_) (fun k1 => both (fun w => absurd w k1))
        have bad : ¬ tV_ v2 → wpY_express (fun r' v' => r' = -1 ∧ i_Rel kk (xk E S C W O M H) v') (yk (xe_A E) B V T K L) (nI k) v2 v3 := fun nv =>
          br_f nf (br_f ng (br_f nlt (pk_eq k 1 (fun _ => yV_ (fun w => absurd w nv) (fun _ => br_t rfl ⟨rfl, I⟩)) (fun w => absurd k1 w))))
        by_cases n2 : v2 < 0
        · refine br_t n2 (bad ?_)
          rintro ⟨j, hj, rfl⟩
          exact nI_pos (by omega) n2
        · refine br_f n2 ?_
          by_cases l6 : v2 < 6
          · refine br_t l6 (both (fun _ => ?_))
            rcases pk_ix v2 (n := 6) (by omega) with w | w | w
            · exact absurd w n2
            · exact absurd l6 (Int32.not_lt.mpr w)
            · exact w
          · refine br_f l6 (bad ?_)
            rintro ⟨j, hj, rfl⟩
            exact l6 (nI_lt (b := 6) hj (by decide))
      · refine br_f le ?_
        exact br_f nf (br_f ng (br_t (Int32.not_le.mp le) ⟨rfl, I⟩))
end
end
section
/-! what is owed -/
theorem i_vc0 : wpX_init (fun u => wpY_init (fun v => i_Rel 0 u v)) := by
  show i_Rel 0 _ _
  refine ⟨0, 0, rfl, ⟨rfl, by omega, fun i hi => by omega⟩, fun i hi => by omega, ⟨rfl, by omega, fun i hi => by omega⟩, ⟨rfl, rfl, rfl, fun i hi => by omega⟩, Or.inl rfl, ⟨fun _ _ => False, fun x y x' y' h => h.elim, fun x y h => h.elim, fun r _ => ?_, fun r _ => ⟨0, 0, ?_⟩⟩, ⟨0, by omega, rfl, rfl, rfl⟩⟩
  · exact vr_0 0
  · exact vr_0 0
theorem i_vc_express {k : Nat} {u : SX} {v : SY} (I : i_Rel k u v) (hk : k + 5 ≤ 2560) (v1 : Int32) (v2 : Int32) (v3 : Int32) : wpX_express (fun r u' => wpY_express (fun r' v' => r' = r ∧ i_Rel (k + 5) u' v') v v1 v2 v3) u v1 v2 v3 :=
  q_express (kk := k + 5) (E := ux_E u) (S := ux_S u) (C := ux_C u) (W := ux_W u) (O := ux_O u) (M := ux_M u) (H := ux_H u) (A := uy_A v) (B := uy_B v) (V := uy_V v) (T := uy_T v) (K := uy_K v) (L := uy_L v) I v1 v2 v3
theorem i_vc_state {k : Nat} {u : SX} {v : SY} (I : i_Rel k u v) (hk : k + 5 ≤ 2560) (v1 : Int32) (v2 : Int32) (v3 : Int32) (v4 : Int32) : wpX_state (fun r u' => wpY_state (fun r' v' => r' = r ∧ i_Rel (k + 5) u' v') v v1 v2 v3 v4) u v1 v2 v3 v4 :=
  q_state (k := k + 5) (E := ux_E u) (S := ux_S u) (C := ux_C u) (W := ux_W u) (O := ux_O u) (M := ux_M u) (H := ux_H u) (A := uy_A v) (B := uy_B v) (V := uy_V v) (T := uy_T v) (K := uy_K v) (L := uy_L v) I v1 v2 v3 v4
theorem i_vc_retract {k : Nat} {u : SX} {v : SY} (I : i_Rel k u v) (hk : k + 5 ≤ 2560) : wpX_retract (fun r u' => wpY_retract (fun r' v' => r' = r ∧ i_Rel (k + 5) u' v') v) u :=
  q_retract (k := k + 5) (E := ux_E u) (S := ux_S u) (C := ux_C u) (W := ux_W u) (O := ux_O u) (M := ux_M u) (H := ux_H u) (A := uy_A v) (B := uy_B v) (V := uy_V v) (T := uy_T v) (K := uy_K v) (L := uy_L v) I
theorem i_vc_sound {k : Nat} {u : SX} {v : SY} (I : i_Rel k u v) (hk : k + 5 ≤ 2560) : wpX_sound (fun r u' => wpY_sound (fun r' => r' = r ∧ i_Rel (k + 5) u' v) v) u :=
  q_sound (k := k + 5) (E := ux_E u) (S := ux_S u) (C := ux_C u) (W := ux_W u) (O := ux_O u) (M := ux_M u) (H := ux_H u) (A := uy_A v) (B := uy_B v) (V := uy_V v) (T := uy_T v) (K := uy_K v) (L := uy_L v) I
theorem i_vc_run {k : Nat} {u : SX} {v : SY} (I : i_Rel k u v) (hk : k + 5 ≤ 2560) : wpX_run (fun r u' => wpY_run (fun r' v' => r' = r ∧ i_Rel (k + 5) u' v') v) u :=
  q_run (k := k + 5) (E := ux_E u) (S := ux_S u) (C := ux_C u) (W := ux_W u) (O := ux_O u) (M := ux_M u) (H := ux_H u) (A := uy_A v) (B := uy_B v) (V := uy_V v) (T := uy_T v) (K := uy_K v) (L := uy_L v) I
theorem i_vc_sort {k : Nat} {u : SX} {v : SY} (I : i_Rel k u v) (hk : k + 5 ≤ 2560) (v1 : Int32) : wpX_sort (fun r => wpY_sort (fun r' => r' = r ∧ i_Rel (k + 5) u v) v v1) u v1 :=
  q_sort (k := k + 5) (E := ux_E u) (S := ux_S u) (C := ux_C u) (W := ux_W u) (O := ux_O u) (M := ux_M u) (H := ux_H u) (A := uy_A v) (B := uy_B v) (V := uy_V v) (T := uy_T v) (K := uy_K v) (L := uy_L v) I v1
theorem i_vc_number {k : Nat} {u : SX} {v : SY} (I : i_Rel k u v) (hk : k + 5 ≤ 2560) (v1 : Int32) : wpX_number (fun r => wpY_number (fun r' => r' = r ∧ i_Rel (k + 5) u v) v v1) u v1 :=
  q_number (k := k + 5) (E := ux_E u) (S := ux_S u) (C := ux_C u) (W := ux_W u) (O := ux_O u) (M := ux_M u) (H := ux_H u) (A := uy_A v) (B := uy_B v) (V := uy_V v) (T := uy_T v) (K := uy_K v) (L := uy_L v) I v1
theorem i_vc_entrySort {k : Nat} {u : SX} {v : SY} (I : i_Rel k u v) (hk : k + 5 ≤ 2560) (v1 : Int32) (v2 : Int32) : wpX_entrySort (fun r => wpY_entrySort (fun r' => r' = r ∧ i_Rel (k + 5) u v) v v1 v2) u v1 v2 :=
  q_entrySort (k := k + 5) (E := ux_E u) (S := ux_S u) (C := ux_C u) (W := ux_W u) (O := ux_O u) (M := ux_M u) (H := ux_H u) (A := uy_A v) (B := uy_B v) (V := uy_V v) (T := uy_T v) (K := uy_K v) (L := uy_L v) I v1 v2
theorem i_vc_entryNumber {k : Nat} {u : SX} {v : SY} (I : i_Rel k u v) (hk : k + 5 ≤ 2560) (v1 : Int32) (v2 : Int32) : wpX_entryNumber (fun r => wpY_entryNumber (fun r' => r' = r ∧ i_Rel (k + 5) u v) v v1 v2) u v1 v2 :=
  q_entryNumber (k := k + 5) (E := ux_E u) (S := ux_S u) (C := ux_C u) (W := ux_W u) (O := ux_O u) (M := ux_M u) (H := ux_H u) (A := uy_A v) (B := uy_B v) (V := uy_V v) (T := uy_T v) (K := uy_K v) (L := uy_L v) I v1 v2
theorem i_vc_same {k : Nat} {u : SX} {v : SY} (I : i_Rel k u v) (hk : k + 5 ≤ 2560) (v1 : Int32) (v2 : Int32) : wpX_same (fun r => wpY_same (fun r' => r' = r ∧ i_Rel (k + 5) u v) v v1 v2) u v1 v2 :=
  q_same (k := k + 5) (E := ux_E u) (S := ux_S u) (C := ux_C u) (W := ux_W u) (O := ux_O u) (M := ux_M u) (H := ux_H u) (A := uy_A v) (B := uy_B v) (V := uy_V v) (T := uy_T v) (K := uy_K v) (L := uy_L v) I v1 v2
theorem i_vc_shown {k : Nat} {u : SX} {v : SY} (I : i_Rel k u v) (hk : k + 5 ≤ 2560) : wpX_shown (fun r => wpY_shown (fun r' => r' = r ∧ i_Rel (k + 5) u v) v) u :=
  q_shown (k := k + 5) (E := ux_E u) (S := ux_S u) (C := ux_C u) (W := ux_W u) (O := ux_O u) (M := ux_M u) (H := ux_H u) (A := uy_A v) (B := uy_B v) (V := uy_V v) (T := uy_T v) (K := uy_K v) (L := uy_L v) I
theorem i_vc_output {k : Nat} {u : SX} {v : SY} (I : i_Rel k u v) (hk : k + 5 ≤ 2560) (v1 : Int32) : wpX_output (fun r => wpY_output (fun r' => r' = r ∧ i_Rel (k + 5) u v) v v1) u v1 :=
  q_output (k := k + 5) (E := ux_E u) (S := ux_S u) (C := ux_C u) (W := ux_W u) (O := ux_O u) (M := ux_M u) (H := ux_H u) (A := uy_A v) (B := uy_B v) (V := uy_V v) (T := uy_T v) (K := uy_K v) (L := uy_L v) I v1
theorem i_vc_tables {k : Nat} {u : SX} {v : SY} (I : i_Rel k u v) (hk : k + 5 ≤ 2560) : wpX_tables (fun r u' => wpY_tables (fun r' v' => r' = r ∧ i_Rel (k + 5) u' v') v) u :=
  q_tables (k := k + 5) (E := ux_E u) (S := ux_S u) (C := ux_C u) (W := ux_W u) (O := ux_O u) (M := ux_M u) (H := ux_H u) (A := uy_A v) (B := uy_B v) (V := uy_V v) (T := uy_T v) (K := uy_K v) (L := uy_L v) I
end
