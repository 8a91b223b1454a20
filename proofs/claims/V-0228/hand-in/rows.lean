section
/-! starting text: rows of kit/rows (PURE-ROWS, BITS) -/
theorem pk_us {f : Nat → Int32} {k : Nat} {x : Int32} : upd f k x k = x := if_pos rfl
theorem pk_un {f : Nat → Int32} {k j : Nat} {x : Int32} (h : j ≠ k) : upd f k x j = f j := if_neg h
theorem pk_sub {a b : Nat} (h : b ≤ a) : nI a - nI b = nI (a - b) := by
  obtain ⟨c, rfl⟩ : ∃ c, a = c + b := ⟨a - b, by omega⟩
  rw [← nI_add, Int32.add_sub_cancel, Nat.add_sub_cancel]
theorem pk_m1 (n : Nat) : nI (n + 1) + (-1) = nI n := by
  rw [← nI_1, Int32.add_assoc, show (1 : Int32) + (-1) = 0 from rfl, Int32.add_zero]
theorem pk_mul (a b : Nat) : nI a * nI b = nI (a * b) := (Int32.ofNat_mul a b).symm
theorem pk_div {a d : Nat} (ha : a < 2 ^ 31) (h0 : 0 < d) (hd : d < 2 ^ 31) : nI a / nI d = nI (a / d) := by
  apply Int32.toInt_inj.mp
  rw [lg_idiv_nonneg (by rw [nI_toInt ha]; omega) (by rw [nI_toInt hd]; omega), nI_toInt ha, nI_toInt hd, nI_toInt (Nat.lt_of_le_of_lt (Nat.div_le_self a d) ha)]
  first | rfl | exact (Int.natCast_ediv _ _).symm
theorem pk_rem {a d : Nat} (ha : a < 2 ^ 31) (h0 : 0 < d) (hd : d < 2 ^ 31) : nI a - nI a / nI d * nI d = nI (a % d) := by
  rw [pk_div ha h0 hd, pk_mul, pk_sub (Nat.div_mul_le_self a d)]
  exact congrArg nI (by have := Nat.div_add_mod' a d; omega)
theorem pk_sub_toInt {a b : Nat} (ha : a < 2 ^ 30) (hb : b < 2 ^ 30) : (nI a - nI b).toInt = (a : Int) - b := by
  rw [Int32.toInt_sub, nI_toInt (by omega), nI_toInt (by omega)]
  exact Int.bmod_eq_of_le (by omega) (by omega)
theorem pk_sneg {a b : Nat} (hb : b < 2 ^ 30) (h : a < b) : nI a - nI b < 0 := by
  rw [Int32.lt_iff_toInt_lt, pk_sub_toInt (by omega) hb, show (0 : Int32).toInt = 0 from by decide]
  omega
theorem pk_ix (x : Int32) {n : Nat} (hn : n < 2 ^ 31) : x < 0 ∨ nI n ≤ x ∨ ∃ j : Nat, j < n ∧ x = nI j := by
  by_cases h : x < 0
  · exact Or.inl h
  · obtain ⟨j, hj, rfl⟩ := nI_of h
    by_cases h2 : j < n
    · exact Or.inr (Or.inr ⟨j, h2, rfl⟩)
    · exact Or.inr (Or.inl (nI_le (by omega) hj))
theorem pk_le {x y : Int32} {A B : Prop} (a b : Nat) (f : a ≤ b → A) (g : b < a → B) (hx : x = nI a := by rfl) (hy : y = nI b := by rfl) (ha : a < 2 ^ 31 := by omega) (hb : b < 2 ^ 31 := by omega) : (x ≤ y → A) ∧ (¬ x ≤ y → B) := by
  subst hx hy
  rw [nI_leI ha hb]
  exact ⟨f, fun z => g (by omega)⟩
theorem pk_lt {x y : Int32} {A B : Prop} (a b : Nat) (f : a < b → A) (g : b ≤ a → B) (hx : x = nI a := by rfl) (hy : y = nI b := by rfl) (ha : a < 2 ^ 31 := by omega) (hb : b < 2 ^ 31 := by omega) : (x < y → A) ∧ (¬ x < y → B) := by
  subst hx hy
  rw [nI_ltI ha hb]
  exact ⟨f, fun z => g (by omega)⟩
theorem pk_eq {x y : Int32} {A B : Prop} (a b : Nat) (f : a = b → A) (g : a ≠ b → B) (hx : x = nI a := by rfl) (hy : y = nI b := by rfl) (ha : a < 2 ^ 31 := by omega) (hb : b < 2 ^ 31 := by omega) : (x = y → A) ∧ (¬ x = y → B) := by
  subst hx hy
  rw [nI_eq ha hb]
  exact ⟨f, g⟩
theorem pk_in {x : Int32} (n N : Nat) (h : n < N) (hx : x = nI n := by rfl) (hN : N < 2 ^ 31 := by omega) : vp_in x N := by
  subst hx
  exact vp_in_nI h hN
theorem pk_cl {x : Int32} (n : Nat) (hx : x = nI n := by rfl) (h : n < 2 ^ 31 := by omega) : x.toNatClampNeg = n := by
  subst hx
  exact nI_clamp h
theorem pk_tn {n : Nat} (h : n < 2 ^ 32) : (nI n).toBitVec.toNat = n := Nat.mod_eq_of_lt h
theorem pk_and (x : Int32) {m : Int32} (k : Nat) (hm : m.toBitVec.toNat = 2 ^ k - 1) : x &&& m = nI (x.toBitVec.toNat % 2 ^ k) := by
  apply Int32.toBitVec_inj.mp
  apply BitVec.eq_of_toNat_eq
  rw [Int32.toBitVec_and, BitVec.toNat_and, hm, Nat.and_two_pow_sub_one_eq_mod]
  show _ = (BitVec.ofNat 32 _).toNat
  rw [BitVec.toNat_ofNat]
  exact (Nat.mod_eq_of_lt (Nat.lt_of_le_of_lt (Nat.mod_le _ _) x.toBitVec.isLt)).symm
theorem pk_andN {n : Nat} (h : n < 2 ^ 32) {m : Int32} (k : Nat) (hm : m.toBitVec.toNat = 2 ^ k - 1) : nI n &&& m = nI (n % 2 ^ k) := by
  rw [pk_and _ k hm, pk_tn h]
theorem pk_andE (x : Int32) {m : Int32} (k : Nat) (hm : m.toBitVec.toNat = 2 ^ k - 1) : ∃ j : Nat, j < 2 ^ k ∧ x &&& m = nI j := ⟨_, Nat.mod_lt _ (Nat.two_pow_pos k), pk_and x k hm⟩
theorem pk_andIn (x : Int32) {m : Int32} (k : Nat) (hm : m.toBitVec.toNat = 2 ^ k - 1) (hk : k ≤ 30) : vp_in (x &&& m) (2 ^ k) := by
  obtain ⟨j, hj, e⟩ := pk_andE x k hm
  rw [e]
  exact vp_in_nI hj (Nat.lt_of_le_of_lt (Nat.pow_le_pow_right (by decide) hk) (by decide))
theorem pk_shl (a s : Int32) (k : Nat) (hs : (s.toBitVec.smod 32).toNat = k) : (a <<< s).toBitVec.toNat = a.toBitVec.toNat * 2 ^ k % 2 ^ 32 := by
  show (a.toBitVec <<< (s.toBitVec.smod 32).toNat).toNat = _
  rw [hs, BitVec.toNat_shiftLeft, Nat.shiftLeft_eq]
theorem pk_shlN {n : Nat} (s : Int32) (k : Nat) (hs : (s.toBitVec.smod 32).toNat = k) (h : n * 2 ^ k < 2 ^ 32) : nI n <<< s = nI (n * 2 ^ k) := by
  apply Int32.toBitVec_inj.mp
  apply BitVec.eq_of_toNat_eq
  have hn : n < 2 ^ 32 := Nat.lt_of_le_of_lt (Nat.le_mul_of_pos_right n (Nat.two_pow_pos k)) h
  rw [pk_shl _ _ k hs, pk_tn hn, pk_tn h, Nat.mod_eq_of_lt h]
theorem pk_shr (a s : Int32) (k : Nat) (hs : (s.toBitVec.smod 32).toNat = k) : (a >>> s).toInt = a.toInt >>> k := by
  show (a.toBitVec.sshiftRight (s.toBitVec.smod 32).toNat).toInt = _
  rw [hs, BitVec.toInt_sshiftRight]
  rfl
theorem pk_shrN {n : Nat} (h : n < 2 ^ 31) (s : Int32) (k : Nat) (hs : (s.toBitVec.smod 32).toNat = k) : nI n >>> s = nI (n / 2 ^ k) := by
  apply Int32.toInt_inj.mp
  have h2 : n / 2 ^ k ≤ n := Nat.div_le_self _ _
  rw [pk_shr _ _ k hs, nI_toInt h, nI_toInt (by omega), Int.shiftRight_eq_div_pow]
  rfl
theorem pk_ushr (x s : Int32) (k : Nat) (hs : ((s.toUInt32 &&& Int32.toUInt32 31).toBitVec % 32).toNat = k) : (x.toUInt32 >>> (s.toUInt32 &&& Int32.toUInt32 31)).toInt32.toBitVec.toNat = x.toBitVec.toNat / 2 ^ k := by
  have e : (x.toUInt32 >>> (s.toUInt32 &&& Int32.toUInt32 31)).toInt32.toBitVec = x.toBitVec >>> k := by
    rw [← hs]
    exact UInt32.toBitVec_shiftRight _ _
  rw [e, BitVec.toNat_ushiftRight, Nat.shiftRight_eq_div_pow]
theorem pk_ushrN {n : Nat} (hn : n < 2 ^ 32) (s : Int32) (k : Nat) (hs : ((s.toUInt32 &&& Int32.toUInt32 31).toBitVec % 32).toNat = k) : ((nI n).toUInt32 >>> (s.toUInt32 &&& Int32.toUInt32 31)).toInt32 = nI (n / 2 ^ k) := by
  apply Int32.toBitVec_inj.mp
  apply BitVec.eq_of_toNat_eq
  rw [pk_ushr _ s k hs, pk_tn hn, pk_tn (Nat.lt_of_le_of_lt (Nat.div_le_self _ _) hn)]
theorem pk_vb (z : Int32) : vp_nar .byte z.toInt8.toInt32 = z.toInt8.toInt32 := by rw [vp_nar_byte]; simp
theorem sb_shr0 (x : Int32) : x >>> ((0 : Int32) &&& 31) = x := by
  rw [show ((0 : Int32) &&& 31) = 0 by decide]
  simp
theorem sb_shl0 (x : Int32) : x <<< ((0 : Int32) &&& 31) = x := by
  rw [show ((0 : Int32) &&& 31) = 0 by decide]
  simp
theorem sb_cl0 : (0 : Int32).toNatClampNeg = 0 := by decide
theorem sb_m1 {p : Nat} (h : 0 < p) : nI p + (-1) = nI (p - 1) := by
  obtain ⟨q, rfl⟩ : ∃ q, p = q + 1 := ⟨p - 1, by omega⟩
  exact pk_m1 q
def bt (x : Int32) (i : Nat) : Bool := x.toBitVec.getLsbD i
theorem b_ext {x y : Int32} (h : ∀ i, i < 32 → bt x i = bt y i) : x = y := Int32.toBitVec_inj.mp (BitVec.eq_of_getLsbD_eq (fun i hi => h i hi))
theorem b_or (x y : Int32) (i : Nat) : bt (x ||| y) i = (bt x i || bt y i) := by unfold bt; rw [Int32.toBitVec_or, BitVec.getLsbD_or]
theorem b_and (x y : Int32) (i : Nat) : bt (x &&& y) i = (bt x i && bt y i) := by unfold bt; rw [Int32.toBitVec_and, BitVec.getLsbD_and]
theorem b_xor (x y : Int32) (i : Nat) : bt (x ^^^ y) i = (bt x i ^^ bt y i) := by unfold bt; rw [Int32.toBitVec_xor, BitVec.getLsbD_xor]
theorem b_big {x : Int32} {i : Nat} (h : 32 ≤ i) : bt x i = false := BitVec.getLsbD_of_ge _ _ h
theorem b_255 (i : Nat) : bt 255 i = decide (i < 8) := by
  rcases Nat.lt_or_ge i 32 with h | h
  · exact (by decide +kernel : ∀ i, i < 32 → bt 255 i = decide (i < 8)) i h
  · rw [b_big h, decide_eq_false (by omega)]
theorem b_65535 (i : Nat) : bt 65535 i = decide (i < 16) := by
  rcases Nat.lt_or_ge i 32 with h | h
  · exact (by decide +kernel : ∀ i, i < 32 → bt 65535 i = decide (i < 16)) i h
  · rw [b_big h, decide_eq_false (by omega)]
theorem b_m1 : ∀ i, i < 32 → bt (-1) i = true := by decide +kernel
theorem b_0 (i : Nat) : bt 0 i = false := BitVec.getLsbD_zero
theorem s_l : ∀ n, n < 32 → ((nI n &&& 31).toBitVec.smod 32).toNat = n := by decide +kernel
theorem s_u : ∀ n, n < 32 → (((nI n).toUInt32 &&& Int32.toUInt32 31).toBitVec % 32).toNat = n := by decide +kernel
theorem b_shl (n : Nat) (hn : n < 32) (x : Int32) {i : Nat} (hi : i < 32) : bt (x <<< (nI n &&& 31)) i = (decide (n ≤ i) && bt x (i - n)) := by
  unfold bt
  rw [Int32.toBitVec_shiftLeft]
  show (x.toBitVec <<< ((nI n &&& 31).toBitVec.smod 32).toNat).getLsbD i = _
  rw [s_l n hn, BitVec.getLsbD_shiftLeft]
  rcases Nat.lt_or_ge i n with h | h
  · simp [h, Nat.not_le.mpr h]
  · simp [hi, h, Nat.not_lt.mpr h]
theorem b_ushr (n : Nat) (hn : n < 32) (x : Int32) (i : Nat) : bt ((x.toUInt32 >>> ((nI n).toUInt32 &&& Int32.toUInt32 31)).toInt32) i = bt x (n + i) := by
  show (x.toUInt32 >>> ((nI n).toUInt32 &&& Int32.toUInt32 31)).toBitVec.getLsbD i = x.toUInt32.toBitVec.getLsbD (n + i)
  rw [UInt32.toBitVec_shiftRight]
  show (x.toUInt32.toBitVec >>> (((nI n).toUInt32 &&& Int32.toUInt32 31).toBitVec % 32).toNat).getLsbD i = _
  rw [s_u n hn, BitVec.getLsbD_ushiftRight]
theorem b_sshr (n : Nat) (hn : n < 32) (x : Int32) {i : Nat} (hi : i < 32) : bt (x >>> (nI n &&& 31)) i = if n + i < 32 then bt x (n + i) else bt x 31 := by
  unfold bt
  rw [Int32.toBitVec_shiftRight]
  show (x.toBitVec.sshiftRight ((nI n &&& 31).toBitVec.smod 32).toNat).getLsbD i = _
  rw [s_l n hn, BitVec.getLsbD_sshiftRight, BitVec.msb_eq_getLsbD_last]
  simp [hi]
end
section
/-! pure part: folds, settings, lookup, and the relation's pieces -/
def fd_F (b : Nat → Int32) (W : Nat) : Nat → Int32
  | 0 => 0
  | L + 1 => fd_F b W L ^^^ (b L <<< (nI (L % W) &&& 31))
theorem fd_congr {b b' : Nat → Int32} {W : Nat} : ∀ L, (∀ i, i < L → b i = b' i) → fd_F b W L = fd_F b' W L
  | 0, _ => rfl
  | L + 1, h => by
    show fd_F b W L ^^^ (b L <<< (nI (L % W) &&& 31)) = fd_F b' W L ^^^ (b' L <<< (nI (L % W) &&& 31))
    rw [fd_congr L (fun i hi => h i (by omega)), h L (by omega)]
def fd_rot (W : Nat) (x : Int32) : Int32 := ((x <<< ((1 : Int32) &&& 31)) ||| ((x.toUInt32 >>> ((nI W - 1).toUInt32 &&& Int32.toUInt32 31)).toInt32)) &&& (((1 : Int32) <<< (nI W &&& 31)) - 1)
def fd_sm (W : Nat) (x : Int32) : Prop := ∀ i, W ≤ i → bt x i = false
theorem fd_mask : ∀ W, W < 8 → ∀ i, i < 32 → bt (((1 : Int32) <<< (nI W &&& 31)) - 1) i = decide (i < W) := by decide +kernel
theorem fd_rb {W : Nat} {x : Int32} (h2 : 2 ≤ W) (h8 : W < 8) (hx : fd_sm W x) {i : Nat} (hi : i < 32) : bt (fd_rot W x) i = (decide (i < W) && (if i = 0 then bt x (W - 1) else bt x (i - 1))) := by
  have e : nI W - 1 = nI (W - 1) := pk_sub (a := W) (b := 1) (by omega)
  have e1 : x <<< ((1 : Int32) &&& 31) = x <<< (nI 1 &&& 31) := rfl
  unfold fd_rot
  rw [e, e1, b_and, b_or, fd_mask W h8 i hi, b_ushr (W - 1) (by omega), b_shl 1 (by omega) x hi, Bool.and_comm]
  rcases Nat.eq_zero_or_pos i with h0 | h0
  · subst h0
    simp
  · have z : bt x (W - 1 + i) = false := hx _ (by omega)
    have n0 : ¬ i = 0 := by omega
    have n1 : 1 ≤ i := h0
    rw [z, if_neg n0, decide_eq_true n1]
    simp
theorem fd_lin {W : Nat} {x y : Int32} (h2 : 2 ≤ W) (h8 : W < 8) (hx : fd_sm W x) (hy : fd_sm W y) : fd_rot W (x ^^^ y) = fd_rot W x ^^^ fd_rot W y := by
  have hxy : fd_sm W (x ^^^ y) := fun i hi => by rw [b_xor, hx i hi, hy i hi]; rfl
  apply b_ext
  intro i hi
  rw [b_xor, fd_rb h2 h8 hxy hi, fd_rb h2 h8 hx hi, fd_rb h2 h8 hy hi, b_xor, b_xor]
  generalize bt x (W - 1) = a1
  generalize bt y (W - 1) = a2
  generalize bt x (i - 1) = a3
  generalize bt y (i - 1) = a4
  generalize decide (i < W) = d
  by_cases h0 : i = 0
  · rw [if_pos h0, if_pos h0, if_pos h0]
    cases d <;> cases a1 <;> cases a2 <;> rfl
  · rw [if_neg h0, if_neg h0, if_neg h0]
    cases d <;> cases a3 <;> cases a4 <;> rfl
theorem fd_one : ∀ W, W < 8 → 2 ≤ W → ∀ r, r < W → fd_rot W ((0 : Int32) <<< (nI r &&& 31)) = (0 : Int32) <<< (nI ((r + 1) % W) &&& 31) ∧ fd_rot W ((1 : Int32) <<< (nI r &&& 31)) = (1 : Int32) <<< (nI ((r + 1) % W) &&& 31) := by decide +kernel
theorem fd_sml : ∀ W, W < 8 → ∀ r, r < W → ∀ i, i < 32 → W ≤ i → bt ((0 : Int32) <<< (nI r &&& 31)) i = false ∧ bt ((1 : Int32) <<< (nI r &&& 31)) i = false := by decide +kernel
theorem fd_rot0 : ∀ W, W < 8 → fd_rot W 0 = 0 := by decide +kernel
def fd_b01 (b : Nat → Int32) (n : Nat) : Prop := ∀ i, i < n → b i = 0 ∨ b i = 1
theorem fd_small {b : Nat → Int32} {W : Nat} (h2 : 2 ≤ W) (h8 : W < 8) : ∀ L, fd_b01 b L → fd_sm W (fd_F b W L)
  | 0, _ => fun i _ => b_0 i
  | L + 1, h => by
    intro i hi
    show bt (fd_F b W L ^^^ (b L <<< (nI (L % W) &&& 31))) i = false
    rw [b_xor, fd_small h2 h8 L (fun j hj => h j (by omega)) i hi, Bool.false_xor]
    rcases Nat.lt_or_ge i 32 with h32 | h32
    · have hr : L % W < W := Nat.mod_lt _ (by omega)
      have z := fd_sml W h8 (L % W) hr i h32 hi
      rcases h L (by omega) with e | e
      · rw [e]; exact z.1
      · rw [e]; exact z.2
    · exact b_big h32
theorem fd_oneL {W L : Nat} {x : Int32} (h2 : 2 ≤ W) (h8 : W < 8) (hx : x = 0 ∨ x = 1) : fd_rot W (x <<< (nI (L % W) &&& 31)) = x <<< (nI ((L + 1) % W) &&& 31) ∧ fd_sm W (x <<< (nI (L % W) &&& 31)) := by
  have hr : L % W < W := Nat.mod_lt _ (by omega)
  have e : (L % W + 1) % W = (L + 1) % W := Nat.mod_add_mod L W 1
  have z := fd_one W h8 h2 (L % W) hr
  rw [e] at z
  constructor
  · rcases hx with rfl | rfl
    · exact z.1
    · exact z.2
  · intro i hi
    rcases Nat.lt_or_ge i 32 with h32 | h32
    · have y := fd_sml W h8 (L % W) hr i h32 hi
      rcases hx with rfl | rfl
      · exact y.1
      · exact y.2
    · exact b_big h32
theorem fd_x1 (a c d : Int32) : (a ^^^ d) ^^^ c = (a ^^^ c) ^^^ d := by
  apply b_ext
  intro i _
  simp only [b_xor]
  cases bt a i <;> cases bt c i <;> cases bt d i <;> rfl
theorem fd_x2 (a c d : Int32) : ((a ^^^ c) ^^^ d) ^^^ c = a ^^^ d := by
  apply b_ext
  intro i _
  simp only [b_xor]
  cases bt a i <;> cases bt c i <;> cases bt d i <;> rfl
theorem fd_step {b b' : Nat → Int32} {W : Nat} (h2 : 2 ≤ W) (h8 : W < 8) : ∀ L, fd_b01 b L → (∀ i, i < L → b' (i + 1) = b i) → fd_F b' W (L + 1) = fd_rot W (fd_F b W L) ^^^ b' 0
  | 0, _, _ => by
    show (0 : Int32) ^^^ (b' 0 <<< (nI (0 % W) &&& 31)) = fd_rot W 0 ^^^ b' 0
    rw [Nat.zero_mod, nI_0, sb_shl0, fd_rot0 W h8]
  | L + 1, h, hs => by
    have ih := fd_step (b := b) (b' := b') h2 h8 L (fun j hj => h j (by omega)) (fun j hj => hs j (by omega))
    have o := fd_oneL (L := L) h2 h8 (h L (by omega))
    show fd_F b' W (L + 1) ^^^ (b' (L + 1) <<< (nI ((L + 1) % W) &&& 31)) = fd_rot W (fd_F b W L ^^^ (b L <<< (nI (L % W) &&& 31))) ^^^ b' 0
    rw [ih, hs L (by omega), fd_lin h2 h8 (fd_small h2 h8 L (fun j hj => h j (by omega))) o.2, o.1]
    exact fd_x1 _ _ _
theorem fd_push {b b' : Nat → Int32} {W L : Nat} (h2 : 2 ≤ W) (h8 : W < 8) (hL : 1 ≤ L) (hb : fd_b01 b L) (hs : ∀ i, i + 1 < L → b' (i + 1) = b i) : (fd_rot W (fd_F b W L) ^^^ b' 0) ^^^ (b (L - 1) <<< (nI (L % W) &&& 31)) = fd_F b' W L := by
  obtain ⟨M, rfl⟩ : ∃ M, L = M + 1 := ⟨L - 1, by omega⟩
  have o := fd_oneL (L := M) h2 h8 (hb M (by omega))
  rw [fd_step (b := b) h2 h8 M (fun j hj => hb j (by omega)) (fun j hj => hs j (by omega))]
  show (fd_rot W (fd_F b W M ^^^ (b M <<< (nI (M % W) &&& 31))) ^^^ b' 0) ^^^ (b M <<< (nI ((M + 1) % W) &&& 31)) = _
  rw [fd_lin h2 h8 (fd_small h2 h8 M (fun j hj => hb j (by omega))) o.2, o.1]
  exact fd_x2 _ _ _
/-! the settings -/
def cf_W (w k : Nat) : Nat := if k = 0 then w else if k = 1 then 7 else 6
theorem cf_W2 {w : Nat} (k : Nat) (h1 : 2 ≤ w) (h2 : w ≤ 5) : 2 ≤ cf_W w k ∧ cf_W w k < 8 := by
  unfold cf_W
  by_cases h : k = 0
  · rw [if_pos h]; omega
  · rw [if_neg h]
    by_cases h' : k = 1
    · rw [if_pos h']; omega
    · rw [if_neg h']; omega
def cf_L (m t : Nat) : Nat := m * 2 ^ (t - 1)
theorem cf_L2 {m t : Nat} (h1 : 1 ≤ m) (h8 : m ≤ 8) (ht : t ≤ 4) : 1 ≤ cf_L m t ∧ cf_L m t ≤ 64 := by
  have h : t = 0 ∨ t = 1 ∨ t = 2 ∨ t = 3 ∨ t = 4 := by omega
  unfold cf_L
  rcases h with rfl | rfl | rfl | rfl | rfl
  · show 1 ≤ m * 1 ∧ m * 1 ≤ 64; omega
  · show 1 ≤ m * 1 ∧ m * 1 ≤ 64; omega
  · show 1 ≤ m * 2 ∧ m * 2 ≤ 64; omega
  · show 1 ≤ m * 4 ∧ m * 4 ≤ 64; omega
  · show 1 ≤ m * 8 ∧ m * 8 ≤ 64; omega
theorem cf_sh {m t : Nat} (h1 : 1 ≤ m) (h8 : m ≤ 8) (t1 : 1 ≤ t) (ht : t ≤ 4) : nI m <<< ((nI t - 1) &&& 31) = nI (cf_L m t) := by
  have e : nI t - 1 = nI (t - 1) := pk_sub (a := t) (b := 1) t1
  have hb := cf_L2 h1 h8 ht
  rw [e]
  exact pk_shlN (nI (t - 1) &&& 31) (t - 1) (s_l (t - 1) (by omega)) (by unfold cf_L at hb; omega)
theorem cf_n : ∀ w, w < 6 → (1 : Int32) <<< (nI w &&& 31) = nI (2 ^ w) := by decide +kernel
theorem cf_p2 {w : Nat} (hw : w ≤ 5) : 2 ^ w ≤ 32 := Nat.pow_le_pow_right (n := 2) (by decide) hw
def bk (b : Nat → Int32) (h : Nat) : Nat → Int32 := fun i => b (h * 96 + i)
def tg_e (w : Nat) (pc F : Int32) (t : Nat) : Int32 := ((pc ^^^ ((pc.toUInt32 >>> ((nI w + nI t).toUInt32 &&& Int32.toUInt32 31)).toInt32)) ^^^ F) &&& (nI (2 ^ w) - 1)
def tg_E (w m : Nat) (pc : Int32) (B : Nat → Int32) (t : Nat) : Nat := if t = 0 then (pc &&& ((2 * nI (2 ^ w)) - 1)).toNatClampNeg else (tg_e w pc (fd_F B w (cf_L m t)) t).toNatClampNeg
def tg_T (m : Nat) (pc : Int32) (B : Nat → Int32) (t : Nat) : Int32 := (((pc ^^^ ((pc.toUInt32 >>> ((7 : Int32).toUInt32 &&& Int32.toUInt32 31)).toInt32)) ^^^ (fd_F B 7 (cf_L m t))) ^^^ ((fd_F B 6 (cf_L m t)) <<< ((1 : Int32) &&& 31))) &&& 127
theorem tg_m1 : ∀ w, w < 6 → (nI (2 ^ w) - 1).toBitVec.toNat = 2 ^ w - 1 ∧ ((2 * nI (2 ^ w)) - 1).toBitVec.toNat = 2 ^ (w + 1) - 1 := by decide +kernel
theorem tg_E0 {w : Nat} (m : Nat) (pc : Int32) (B : Nat → Int32) (hw : w ≤ 5) : pc &&& ((2 * nI (2 ^ w)) - 1) = nI (tg_E w m pc B 0) ∧ tg_E w m pc B 0 < 64 := by
  obtain ⟨j, hj, e⟩ := pk_andE pc (w + 1) (tg_m1 w (by omega)).2
  have h6 : 2 ^ (w + 1) ≤ 64 := Nat.pow_le_pow_right (n := 2) (j := 6) (by decide) (by omega)
  have ee : tg_E w m pc B 0 = j := by
    unfold tg_E
    rw [if_pos rfl, e, nI_clamp (by omega)]
  rw [ee]
  exact ⟨e, by omega⟩
theorem tg_Et {w t : Nat} (m : Nat) (pc : Int32) (B : Nat → Int32) (hw : w ≤ 5) (ht : 1 ≤ t) : tg_e w pc (fd_F B w (cf_L m t)) t = nI (tg_E w m pc B t) ∧ tg_E w m pc B t < 32 := by
  obtain ⟨j, hj, e⟩ := pk_andE ((pc ^^^ ((pc.toUInt32 >>> ((nI w + nI t).toUInt32 &&& Int32.toUInt32 31)).toInt32)) ^^^ (fd_F B w (cf_L m t))) w (tg_m1 w (by omega)).1
  have h6 := cf_p2 hw
  have e' : tg_e w pc (fd_F B w (cf_L m t)) t = nI j := e
  have ee : tg_E w m pc B t = j := by
    unfold tg_E
    rw [if_neg (by omega), e', nI_clamp (by omega)]
  rw [ee]
  exact ⟨e', by omega⟩
theorem tg_Tn (m : Nat) (pc : Int32) (B : Nat → Int32) (t : Nat) : ¬ tg_T m pc B t = -1 := by
  obtain ⟨j, hj, e⟩ := pk_andE (((pc ^^^ ((pc.toUInt32 >>> ((7 : Int32).toUInt32 &&& Int32.toUInt32 31)).toInt32)) ^^^ (fd_F B 7 (cf_L m t))) ^^^ ((fd_F B 6 (cf_L m t)) <<< ((1 : Int32) &&& 31))) (m := 127) 7 (by decide)
  have e' : tg_T m pc B t = nI j := e
  rw [e']
  intro h
  have h1 := congrArg Int32.toInt h
  rw [nI_toInt (by omega), show (-1 : Int32).toInt = -1 from by decide] at h1
  omega
/-! the lookup -/
def lk_m (yt : Nat → Int32) (E : Nat → Nat) (T : Nat → Int32) : Nat → Nat
  | 0 => 0
  | n + 1 => if yt ((n + 1) * 64 + E (n + 1)) = T (n + 1) then n + 1 else lk_m yt E T n
theorem lk_le {yt : Nat → Int32} {E : Nat → Nat} {T : Nat → Int32} : ∀ n, lk_m yt E T n ≤ n
  | 0 => Nat.le_refl 0
  | n + 1 => by
    have h := lk_le (yt := yt) (E := E) (T := T) n
    unfold lk_m
    by_cases z : yt ((n + 1) * 64 + E (n + 1)) = T (n + 1)
    · rw [if_pos z]; omega
    · rw [if_neg z]; omega
def lk_d (yc : Nat → Int32) (E : Nat → Nat) (t : Nat) : Int32 := if yc (t * 64 + E t) < (if t = 0 then 2 else 4) then 0 else 1
theorem lk_d01 (yc : Nat → Int32) (E : Nat → Nat) (t : Nat) : lk_d yc E t = 0 ∨ lk_d yc E t = 1 := by
  unfold lk_d
  by_cases h : yc (t * 64 + E t) < (if t = 0 then 2 else 4)
  · exact Or.inl (if_pos h)
  · exact Or.inr (if_neg h)
def lk_f (yc yu : Nat → Int32) (E : Nat → Nat) (t : Nat) : Int32 := if t = 0 then 0 else if (yc (t * 64 + E t) = 3 ∨ yc (t * 64 + E t) = 4) ∧ yu (t * 64 + E t) = 0 then 1 else 0
theorem lk_f01 (yc yu : Nat → Int32) (E : Nat → Nat) (t : Nat) : lk_f yc yu E t = 0 ∨ lk_f yc yu E t = 1 := by
  unfold lk_f
  by_cases h : t = 0
  · exact Or.inl (if_pos h)
  · rw [if_neg h]
    by_cases h' : (yc (t * 64 + E t) = 3 ∨ yc (t * 64 + E t) = 4) ∧ yu (t * 64 + E t) = 0
    · exact Or.inr (if_pos h')
    · exact Or.inl (if_neg h')
/-- the direction looked up -/
def lk_u (f d a : Int32) (b : Nat) : Int32 := if f = 0 then d else if b < 8 then d else a
/-! the relation's pieces -/
def rl_cfg (w m q P : Nat) : Prop := (2 ≤ w ∧ w ≤ 5) ∧ (1 ≤ m ∧ m ≤ 8) ∧ (1 ≤ q ∧ q ≤ 16) ∧ (4 ≤ P ∧ P ≤ 64)
def rl_set (w m : Nat) (ln wd lp : Nat → Int32) : Prop := (∀ t, 1 ≤ t → t ≤ 4 → ln t = nI (cf_L m t)) ∧ (∀ k, k < 3 → wd k = nI (cf_W w k)) ∧ (∀ t k, 1 ≤ t → t ≤ 4 → k < 3 → lp ((t - 1) * 3 + k) = nI (cf_L m t % cf_W w k))
def rl_tab (xb xt xc xu yc yt yu : Nat → Int32) : Prop := (∀ e, e < 64 → xb e = yc e) ∧ (∀ t e, 1 ≤ t → t ≤ 4 → e < 32 → xt ((t - 1) * 32 + e) = yt (t * 64 + e) ∧ xc ((t - 1) * 32 + e) = yc (t * 64 + e) ∧ xu ((t - 1) * 32 + e) = yu (t * 64 + e)) ∧ (∀ t e, 1 ≤ t → t ≤ 4 → e < 32 → ∃ n, n ≤ 3 ∧ yu (t * 64 + e) = nI n)
def rl_que (s o : Nat) (xp xd xv yp yd yv : Nat → Int32) : Prop := ∀ i, i < s → xp ((o + i) % 16) = yp i ∧ xd ((o + i) % 16) = yd i ∧ xv ((o + i) % 16) = yv i
def rl_h (hx : Nat → Int32) (p : Nat) (B : Nat → Int32) : Prop := ∀ i, i < 96 → B i = hx ((p + 256 - i) % 128)
def rl_his (s p : Nat) (hx yb : Nat → Int32) : Prop := (∀ i, i < 128 → hx i = 0 ∨ hx i = 1) ∧ rl_h hx p (bk yb 16) ∧ (∀ j, j < s → rl_h hx (p + 128 - (s - j)) (bk yb j))
def rl_f (w m : Nat) (xf : Nat → Int32) (row : Nat) (B : Nat → Int32) : Prop := ∀ t k, 1 ≤ t → t ≤ 4 → k < 3 → xf (row * 12 + (t - 1) * 3 + k) = fd_F B (cf_W w k) (cf_L m t)
def rl_fol (w m s o : Nat) (xf yb : Nat → Int32) : Prop := rl_f w m xf 16 (bk yb 16) ∧ (∀ j, j < s → rl_f w m xf ((o + j) % 16) (bk yb j))
/-- the place of table t's entry in X, by its number -/
def px_P (E : Nat → Nat) (t : Nat) : Nat := if t = 0 then E 0 else (t - 1) * 32 + E t
def px_ok (E : Nat → Nat) : Prop := E 0 < 64 ∧ ∀ t, 1 ≤ t → t ≤ 4 → E t < 32
theorem px_E {w m : Nat} {pc : Int32} {B : Nat → Int32} (hw : w ≤ 5) : px_ok (tg_E w m pc B) := ⟨(tg_E0 m pc B hw).2, fun t h _ => (tg_Et m pc B hw h).2⟩
theorem px_0 {E : Nat → Nat} : px_P E 0 = E 0 := if_pos rfl
theorem px_t {E : Nat → Nat} {t : Nat} (h : 1 ≤ t) : px_P E t = (t - 1) * 32 + E t := if_neg (by omega)
theorem px_lt {E : Nat → Nat} {t : Nat} (hE : px_ok E) (h : 1 ≤ t) (h4 : t ≤ 4) : px_P E t < 128 := by
  have := hE.2 t h h4
  rw [px_t h]; omega
def px_loc (E : Nat → Nat) (T : Nat → Int32) (pos wt : Nat → Int32) : Prop := (∀ j, j ≤ 4 → pos j = nI (px_P E j)) ∧ (∀ j, 1 ≤ j → j ≤ 4 → wt j = T j)
end
section
/-! Y reads: folds, indices, tags, lookups -/
theorem lk_t {yt : Nat → Int32} {E : Nat → Nat} {T : Nat → Int32} {n : Nat} (z : yt ((n + 1) * 64 + E (n + 1)) = T (n + 1)) : lk_m yt E T (n + 1) = n + 1 := if_pos z
theorem lk_n {yt : Nat → Int32} {E : Nat → Nat} {T : Nat → Int32} {n : Nat} (z : ¬ yt ((n + 1) * 64 + E (n + 1)) = T (n + 1)) : lk_m yt E T (n + 1) = lk_m yt E T n := if_neg z
theorem ar_mod {p j : Nat} (hp : p < 1024) (hj : j ≤ 256) : (nI p - nI j) &&& 127 = nI ((p + 256 - j) % 128) := by
  rw [pk_and (nI p - nI j) (m := 127) 7 (by decide)]
  have e : (nI p - nI j).toBitVec.toNat = (2 ^ 32 - j + p) % 2 ^ 32 := by
    rw [Int32.toBitVec_sub, BitVec.toNat_sub, pk_tn (by omega), pk_tn (by omega)]
  rw [e]
  apply congrArg nI
  omega
section
variable {g_w g_m g_q g_period g_n g_size g_bias g_clock : Int32} {b_bits b_slotPcs b_slotDirs b_slotProvs b_counters b_tags b_usefuls b_counts : Nat → Int32} {w m q P : Nat} {post : Int32 → Prop}
theorem yk_fl {h W L : Nat} (hh : h ≤ 16) (h2 : 2 ≤ W) (h8 : W < 8) (hL : L ≤ 64) (K : post (fd_F (bk b_bits h) W L)) : ∀ n i, i ≤ L → L - i < n → wY_foldOf_41 post (nI h) (nI W) (nI L) g_w g_m g_q g_period g_n g_size g_bias g_clock b_bits b_slotPcs b_slotDirs b_slotProvs b_counters b_tags b_usefuls b_counts n (fd_F (bk b_bits h) W i) (nI i) := by
  intro n
  induction n with
  | zero => intro i _ hn; omega
  | succ n ih =>
    intro i hi hn
    have ex : nI h * 96 + nI i = nI (h * 96 + i) := by
      show nI h * nI 96 + nI i = _
      rw [pk_mul, nI_add]
    have er : nI i - nI i / nI W * nI W = nI (i % W) := pk_rem (by omega) (by omega) (by omega)
    rcases Nat.lt_or_ge i L with h1 | h1
    · refine br_f (nI_ge h1 (by omega)) ⟨?_, nI_ne0 (by omega) (by omega), nm_r ?_ (nm_r (nI_1 i) (ih (i + 1) (by omega) (by omega)))⟩
      · rw [ex]; exact vp_in_nI (by omega) (by omega)
      · rw [ex, er, nI_clamp (by omega)]; rfl
    · have e : i = L := by omega
      subst e
      exact br_t (nI_le (by omega) (by omega)) K
theorem yk_f23 {h t W : Nat} (hm : 1 ≤ m ∧ m ≤ 8) (hh : h ≤ 16) (t1 : 1 ≤ t) (t4 : t ≤ 4) (h2 : 2 ≤ W) (h8 : W < 8) (K : post (fd_F (bk b_bits h) W (cf_L m t))) : wY_foldOf_23 post (nI h) (nI t) (nI W) g_w (nI m) g_q g_period g_n g_size g_bias g_clock b_bits b_slotPcs b_slotDirs b_slotProvs b_counters b_tags b_usefuls b_counts := by
  have hb := cf_L2 hm.1 hm.2 t4
  exact nm_r (cf_sh hm.1 hm.2 t1 t4) ⟨cf_L m t + 1, yk_fl hh h2 h8 hb.2 K _ 0 (by omega) (by omega)⟩
theorem yk_fold {h t k : Nat} (hc : rl_cfg w m q P) (hh : h ≤ 16) (t1 : 1 ≤ t) (t4 : t ≤ 4) (hk : k < 3) (K : post (fd_F (bk b_bits h) (cf_W w k) (cf_L m t))) : wpY_foldOf post (nI w, nI m, g_q, g_period, g_n, g_size, g_bias, g_clock, b_bits, b_slotPcs, b_slotDirs, b_slotProvs, b_counters, b_tags, b_usefuls, b_counts) (nI h) (nI t) (nI k) := by
  rcases (show k = 0 ∨ k = 1 ∨ k = 2 by omega) with rfl | rfl | rfl
  · exact br_t rfl (yk_f23 hc.2.1 hh t1 t4 hc.1.1 (by have := hc.1.2; omega) K)
  · exact br_f (by decide) (br_t rfl (yk_f23 (W := 7) hc.2.1 hh t1 t4 (by omega) (by omega) K))
  · exact br_f (by decide) (br_f (by decide) (yk_f23 (W := 6) hc.2.1 hh t1 t4 (by omega) (by omega) K))
theorem yk_ix {h t : Nat} {pc : Int32} (hc : rl_cfg w m q P) (hh : h ≤ 16) (t4 : t ≤ 4) (K : post (nI (tg_E w m pc (bk b_bits h) t))) : wpY_indexOf post (nI w, nI m, g_q, g_period, nI (2 ^ w), g_size, g_bias, g_clock, b_bits, b_slotPcs, b_slotDirs, b_slotProvs, b_counters, b_tags, b_usefuls, b_counts) (nI t) pc (nI h) := by
  rcases Nat.eq_zero_or_pos t with h0 | h0
  · subst h0
    rw [← (tg_E0 m pc (bk b_bits h) hc.1.2).1] at K
    exact br_t rfl K
  · refine br_f (nI_ne0 h0 (by omega)) (yk_fold hc hh h0 t4 (k := 0) (by omega) ?_)
    rw [← (tg_Et m pc (bk b_bits h) hc.1.2 h0).1] at K
    exact K
theorem yk_tag {h t : Nat} {pc : Int32} (hc : rl_cfg w m q P) (hh : h ≤ 16) (t1 : 1 ≤ t) (t4 : t ≤ 4) (K : post (tg_T m pc (bk b_bits h) t)) : wpY_tagOf post (nI w, nI m, g_q, g_period, g_n, g_size, g_bias, g_clock, b_bits, b_slotPcs, b_slotDirs, b_slotProvs, b_counters, b_tags, b_usefuls, b_counts) (nI t) pc (nI h) := by
  unfold wpY_tagOf
  dsimp only
  refine yk_fold hc hh t1 t4 (k := 1) (by omega) ?_
  refine yk_fold hc hh t1 t4 (k := 2) (by omega) ?_
  exact K
theorem yk_cell {h t : Nat} {pc : Int32} (hc : rl_cfg w m q P) (hh : h ≤ 16) (t4 : t ≤ 4) (K : post (nI (t * 64 + tg_E w m pc (bk b_bits h) t))) : wpY_cellOf post (nI w, nI m, g_q, g_period, nI (2 ^ w), g_size, g_bias, g_clock, b_bits, b_slotPcs, b_slotDirs, b_slotProvs, b_counters, b_tags, b_usefuls, b_counts) (nI t) pc (nI h) := by
  unfold wpY_cellOf
  dsimp only
  refine yk_ix hc hh t4 ?_
  have e : nI t * 64 + nI (tg_E w m pc (bk b_bits h) t) = nI (t * 64 + tg_E w m pc (bk b_bits h) t) := by
    show nI t * nI 64 + _ = _
    rw [pk_mul, nI_add]
  rw [e]
  exact K
theorem yk_clt {h t : Nat} {pc : Int32} (hc : rl_cfg w m q P) (t4 : t ≤ 4) : t * 64 + tg_E w m pc (bk b_bits h) t < 320 := by
  have hE := px_E (w := w) (m := m) (pc := pc) (B := bk b_bits h) hc.1.2
  rcases Nat.eq_zero_or_pos t with h0 | h0
  · subst h0; have := hE.1; omega
  · have := hE.2 t h0 t4; omega
theorem yk_ml {h : Nat} {pc : Int32} (hc : rl_cfg w m q P) (hh : h ≤ 16) : ∀ t, t ≤ 4 → post (nI (lk_m b_tags (tg_E w m pc (bk b_bits h)) (tg_T m pc (bk b_bits h)) t)) → wY_matchBelow_5 post pc (nI h) (nI w) (nI m) g_q g_period (nI (2 ^ w)) g_size g_bias g_clock b_bits b_slotPcs b_slotDirs b_slotProvs b_counters b_tags b_usefuls b_counts (t + 1) (nI t) := by
  intro t
  induction t with
  | zero => intro _ K; exact br_t (by decide) K
  | succ t ih =>
    intro t4 K
    have hl := yk_clt (b_bits := b_bits) (h := h) (pc := pc) hc t4
    refine br_f (nI_nlt (b := 1) (by omega) (by omega)) ?_
    refine yk_cell hc hh t4 ?_
    refine yk_tag hc hh (by omega) t4 ?_
    rw [nI_clamp (by omega)]
    refine ⟨vp_in_nI hl (by omega), ?_⟩
    by_cases z : b_tags ((t + 1) * 64 + tg_E w m pc (bk b_bits h) (t + 1)) = tg_T m pc (bk b_bits h) (t + 1)
    · have n1 : ¬ b_tags ((t + 1) * 64 + tg_E w m pc (bk b_bits h) (t + 1)) = -1 := by rw [z]; exact tg_Tn m pc _ _
      rw [lk_t z] at K
      exact br_f n1 ⟨vp_in_nI hl (by omega), br_t z K⟩
    · rw [lk_n z] at K
      by_cases z1 : b_tags ((t + 1) * 64 + tg_E w m pc (bk b_bits h) (t + 1)) = -1
      · exact br_t z1 (nm_r (pk_m1 t) (ih (by omega) K))
      · exact br_f z1 ⟨vp_in_nI hl (by omega), br_f z (nm_r (pk_m1 t) (ih (by omega) K))⟩
theorem yk_mb {h l : Nat} {pc : Int32} (hc : rl_cfg w m q P) (hh : h ≤ 16) (h5 : l ≤ 5) (K : post (nI (lk_m b_tags (tg_E w m pc (bk b_bits h)) (tg_T m pc (bk b_bits h)) (l - 1)))) : wpY_matchBelow post (nI w, nI m, g_q, g_period, nI (2 ^ w), g_size, g_bias, g_clock, b_bits, b_slotPcs, b_slotDirs, b_slotProvs, b_counters, b_tags, b_usefuls, b_counts) (nI l) pc (nI h) := by
  rcases Nat.eq_zero_or_pos l with h0 | h0
  · subst h0
    refine nm_e ⟨1, br_t (by decide) K⟩
  · refine nm_r (pk_sub (a := l) (b := 1) h0) ⟨l - 1 + 1, yk_ml hc hh (l - 1) (by omega) K⟩
theorem yk_d18 {c : Nat} {z : Int32} (hl : c < 320) (K : post (if b_counters c < z then 0 else 1)) : wY_directionOf_18 post (nI c) z g_w g_m g_q g_period g_n g_size g_bias g_clock b_bits b_slotPcs b_slotDirs b_slotProvs b_counters b_tags b_usefuls b_counts := by
  unfold wY_directionOf_18
  rw [nI_clamp (by omega)]
  refine ⟨vp_in_nI hl (by omega), br_c (fun h => ?_) (fun h => ?_)⟩
  · rw [if_pos h] at K; exact K
  · rw [if_neg h] at K; exact K
theorem yk_dir {h t : Nat} {pc : Int32} (hc : rl_cfg w m q P) (hh : h ≤ 16) (t4 : t ≤ 4) (K : post (lk_d b_counters (tg_E w m pc (bk b_bits h)) t)) : wpY_directionOf post (nI w, nI m, g_q, g_period, nI (2 ^ w), g_size, g_bias, g_clock, b_bits, b_slotPcs, b_slotDirs, b_slotProvs, b_counters, b_tags, b_usefuls, b_counts) (nI t) pc (nI h) := by
  have hl := yk_clt (b_bits := b_bits) (h := h) (pc := pc) hc t4
  unfold wpY_directionOf
  dsimp only
  refine yk_cell hc hh t4 ?_
  unfold lk_d at K
  by_cases h0 : t = 0
  · rw [if_pos h0] at K
    refine br_t (by rw [h0]; rfl) (yk_d18 hl K)
  · rw [if_neg h0] at K
    refine br_f (nI_ne0 (by omega) (by omega)) (yk_d18 hl K)
theorem yk_fr {h t : Nat} {pc : Int32} (hc : rl_cfg w m q P) (hh : h ≤ 16) (t4 : t ≤ 4) (K : post (lk_f b_counters b_usefuls (tg_E w m pc (bk b_bits h)) t)) : wpY_freshOf post (nI w, nI m, g_q, g_period, nI (2 ^ w), g_size, g_bias, g_clock, b_bits, b_slotPcs, b_slotDirs, b_slotProvs, b_counters, b_tags, b_usefuls, b_counts) (nI t) pc (nI h) := by
  have hl := yk_clt (b_bits := b_bits) (h := h) (pc := pc) hc t4
  unfold wpY_freshOf
  dsimp only
  refine yk_cell hc hh t4 ?_
  unfold lk_f at K
  by_cases h0 : t = 0
  · rw [if_pos h0] at K
    exact br_t (by rw [h0]; decide) K
  · rw [if_neg h0] at K
    have hi := vp_in_nI (N := 320) hl (by omega)
    refine br_f (nI_nle (by omega) (by omega)) ?_
    unfold wY_freshOf_35
    rw [nI_clamp (by omega)]
    generalize b_counters (t * 64 + tg_E w m pc (bk b_bits h) t) = cv at K ⊢
    generalize b_usefuls (t * 64 + tg_E w m pc (bk b_bits h) t) = uv at K ⊢
    have A : (cv = 3 ∨ cv = 4) → ((uv = 0 → post 1) ∧ (¬ uv = 0 → post 0)) := fun hcv => ⟨fun hu => by rw [if_pos ⟨hcv, hu⟩] at K; exact K, fun hu => by rw [if_neg (fun z => hu z.2)] at K; exact K⟩
    refine ⟨hi, br_c (fun h3 => ⟨hi, A (Or.inl h3)⟩) (fun h3 => ⟨hi, br_c (fun h4 => ⟨hi, A (Or.inr h4)⟩) (fun h4 => ?_)⟩)⟩
    rw [if_neg (fun z => z.1.elim h3 h4)] at K
    exact K
theorem yk_lu {h b : Nat} {pc : Int32} (hc : rl_cfg w m q P) (hh : h ≤ 16) (hb : b ≤ 15)
    (K : post (lk_u (lk_f b_counters b_usefuls (tg_E w m pc (bk b_bits h)) (lk_m b_tags (tg_E w m pc (bk b_bits h)) (tg_T m pc (bk b_bits h)) 4)) (lk_d b_counters (tg_E w m pc (bk b_bits h)) (lk_m b_tags (tg_E w m pc (bk b_bits h)) (tg_T m pc (bk b_bits h)) 4)) (lk_d b_counters (tg_E w m pc (bk b_bits h)) (lk_m b_tags (tg_E w m pc (bk b_bits h)) (tg_T m pc (bk b_bits h)) (lk_m b_tags (tg_E w m pc (bk b_bits h)) (tg_T m pc (bk b_bits h)) 4 - 1))) b)) :
    wpY_lookedUp post (nI w, nI m, g_q, g_period, nI (2 ^ w), g_size, nI b, g_clock, b_bits, b_slotPcs, b_slotDirs, b_slotProvs, b_counters, b_tags, b_usefuls, b_counts) pc (nI h) := by
  have hp := lk_le (yt := b_tags) (E := tg_E w m pc (bk b_bits h)) (T := tg_T m pc (bk b_bits h)) 4
  have ha := lk_le (yt := b_tags) (E := tg_E w m pc (bk b_bits h)) (T := tg_T m pc (bk b_bits h)) (lk_m b_tags (tg_E w m pc (bk b_bits h)) (tg_T m pc (bk b_bits h)) 4 - 1)
  unfold wpY_lookedUp
  dsimp only
  refine yk_mb hc hh (l := 5) (by omega) ?_
  rw [show 5 - 1 = 4 from rfl]
  refine yk_mb hc hh (by omega) ?_
  refine yk_fr hc hh (by omega) ?_
  unfold lk_u at K
  by_cases hf : lk_f b_counters b_usefuls (tg_E w m pc (bk b_bits h)) (lk_m b_tags (tg_E w m pc (bk b_bits h)) (tg_T m pc (bk b_bits h)) 4) = 0
  · rw [if_pos hf] at K
    refine br_t hf ?_
    unfold wY_lookedUp_49
    exact yk_dir hc hh (by omega) K
  · rw [if_neg hf] at K
    refine br_f hf ?_
    by_cases h8 : b < 8
    · rw [if_pos h8] at K
      refine br_t (nI_lt (b := 8) h8 (by omega)) ?_
      unfold wY_lookedUp_49
      exact yk_dir hc hh (by omega) K
    · rw [if_neg h8] at K
      refine br_f (nI_nlt (b := 8) (by omega) (by omega)) ?_
      exact yk_dir hc hh (by omega) K
end
end
section
/-! X looks up -/
theorem zz_if {b c : Prop} [Decidable b] [Decidable c] {x y : Int32} (h : b ↔ c) : (if b then x else y) = if c then x else y := by
  by_cases hc : c
  · rw [if_pos hc, if_pos (h.mpr hc)]
  · rw [if_neg hc, if_neg (fun z => hc (h.mp z))]
section
variable {f_logSize f_minHistory f_capacity f_agePeriod f_tableSize f_newest f_oldest f_queueLength f_bias f_ageClock f_foundProvider f_foundAlternate f_providerDirection f_alternateDirection f_foundFresh : Int32} {a_history a_lengths a_widths a_leavingPlace a_folds a_slotPcs a_slotDirections a_slotProviders a_baseCounters a_entryTags a_counters a_usefulValues a_counts a_position a_wantedTag : Nat → Int32} {w m q P row : Nat} {B : Nat → Int32} {pc : Int32}
theorem xk_fa {post : Int32 → Prop} {t k : Nat} (hr : row ≤ 16) (t1 : 1 ≤ t) (t4 : t ≤ 4) (hk : k < 3) (K : post (a_folds (row * 12 + (t - 1) * 3 + k))) : wpX_foldAt post (f_logSize, f_minHistory, f_capacity, f_agePeriod, f_tableSize, f_newest, f_oldest, f_queueLength, f_bias, f_ageClock, f_foundProvider, f_foundAlternate, f_providerDirection, f_alternateDirection, f_foundFresh, a_history, a_lengths, a_widths, a_leavingPlace, a_folds, a_slotPcs, a_slotDirections, a_slotProviders, a_baseCounters, a_entryTags, a_counters, a_usefulValues, a_counts, a_position, a_wantedTag) (nI row) (nI t) (nI k) := by
  have e : ((nI row * 12) + ((nI t - 1) * 3)) + nI k = nI (row * 12 + (t - 1) * 3 + k) := by
    show ((nI row * nI 12) + ((nI t - nI 1) * nI 3)) + nI k = _
    rw [pk_sub t1, pk_mul, pk_mul, nI_add, nI_add]
  unfold wpX_foldAt
  dsimp only
  rw [e, nI_clamp (by omega)]
  exact ⟨vp_in_nI (by omega) (by omega), K⟩
theorem xk_ti {post : Int32 → Prop} {t : Nat} (hc : rl_cfg w m q P) (hr : row ≤ 16) (hf : rl_f w m a_folds row B) (t1 : 1 ≤ t) (t4 : t ≤ 4) (K : post (nI (tg_E w m pc B t))) : wpX_taggedIndex post (nI w, f_minHistory, f_capacity, f_agePeriod, nI (2 ^ w), f_newest, f_oldest, f_queueLength, f_bias, f_ageClock, f_foundProvider, f_foundAlternate, f_providerDirection, f_alternateDirection, f_foundFresh, a_history, a_lengths, a_widths, a_leavingPlace, a_folds, a_slotPcs, a_slotDirections, a_slotProviders, a_baseCounters, a_entryTags, a_counters, a_usefulValues, a_counts, a_position, a_wantedTag) (nI t) pc (nI row) := by
  unfold wpX_taggedIndex
  dsimp only
  refine xk_fa hr t1 t4 (k := 0) (by omega) ?_
  rw [hf t 0 t1 t4 (by omega)]
  rw [← (tg_Et m pc B hc.1.2 t1).1] at K
  exact K
theorem xk_to {post : Int32 → Prop} {t : Nat} (hr : row ≤ 16) (hf : rl_f w m a_folds row B) (t1 : 1 ≤ t) (t4 : t ≤ 4) (K : post (tg_T m pc B t)) : wpX_tagOf post (f_logSize, f_minHistory, f_capacity, f_agePeriod, f_tableSize, f_newest, f_oldest, f_queueLength, f_bias, f_ageClock, f_foundProvider, f_foundAlternate, f_providerDirection, f_alternateDirection, f_foundFresh, a_history, a_lengths, a_widths, a_leavingPlace, a_folds, a_slotPcs, a_slotDirections, a_slotProviders, a_baseCounters, a_entryTags, a_counters, a_usefulValues, a_counts, a_position, a_wantedTag) (nI t) pc (nI row) := by
  unfold wpX_tagOf
  dsimp only
  refine xk_fa hr t1 t4 (k := 1) (by omega) ?_
  refine xk_fa hr t1 t4 (k := 2) (by omega) ?_
  rw [hf t 1 t1 t4 (by omega), hf t 2 t1 t4 (by omega)]
  exact K
theorem xk_ll (hc : rl_cfg w m q P) (hr : row ≤ 16) (hf : rl_f w m a_folds row B) : ∀ d t pos wt, 1 ≤ t → t + d = 5 → (∀ j, j < t → pos j = nI (px_P (tg_E w m pc B) j)) → (∀ j, 1 ≤ j → j < t → wt j = tg_T m pc B j) →
    ∃ pos' wt', px_loc (tg_E w m pc B) (tg_T m pc B) pos' wt' ∧ ∀ post : SX → Prop, post (nI w, f_minHistory, f_capacity, f_agePeriod, nI (2 ^ w), f_newest, f_oldest, f_queueLength, f_bias, f_ageClock, f_foundProvider, f_foundAlternate, f_providerDirection, f_alternateDirection, f_foundFresh, a_history, a_lengths, a_widths, a_leavingPlace, a_folds, a_slotPcs, a_slotDirections, a_slotProviders, a_baseCounters, a_entryTags, a_counters, a_usefulValues, a_counts, pos', wt') → wX_locate_13 post pc (nI row) (nI w) f_minHistory f_capacity f_agePeriod (nI (2 ^ w)) f_newest f_oldest f_queueLength f_bias f_ageClock f_foundProvider f_foundAlternate f_providerDirection f_alternateDirection f_foundFresh (d + 1) (nI t) a_history a_lengths a_widths a_leavingPlace a_folds a_slotPcs a_slotDirections a_slotProviders a_baseCounters a_entryTags a_counters a_usefulValues a_counts pos wt := by
  intro d
  induction d with
  | zero =>
    intro t pos wt t1 ht hp hw
    have e : t = 5 := by omega
    subst e
    exact ⟨pos, wt, ⟨fun j hj => hp j (by omega), fun j h1 hj => hw j h1 (by omega)⟩, fun post K => br_t (nI_lt (a := 4) (b := 5) (by omega) (by omega)) K⟩
  | succ d ih =>
    intro t pos wt t1 ht hp hw
    have e5 : ((nI t - 1) <<< ((5 : Int32) &&& 31)) + nI (tg_E w m pc B t) = nI (px_P (tg_E w m pc B) t) := by
      rw [show nI t - 1 = nI (t - 1) from pk_sub (a := t) (b := 1) t1, pk_shlN ((5 : Int32) &&& 31) 5 (by decide) (by omega), nI_add, px_t t1]
    have ec : (nI t).toNatClampNeg = t := nI_clamp (by omega)
    have hi : vp_in (nI t) 5 := vp_in_nI (by omega) (by omega)
    obtain ⟨pos', wt', h, H⟩ := ih (t + 1) (upd pos t (nI (px_P (tg_E w m pc B) t))) (upd wt t (tg_T m pc B t)) (by omega) (by omega)
      (fun j hj => by
        by_cases z : j = t
        · subst z; exact pk_us
        · rw [pk_un z]; exact hp j (by omega))
      (fun j h1 hj => by
        by_cases z : j = t
        · subst z; exact pk_us
        · rw [pk_un z]; exact hw j h1 (by omega))
    refine ⟨pos', wt', h, fun post K => br_f (nI_nlt (a := 4) (b := t) (by omega) (by omega)) ?_⟩
    refine xk_ti hc hr hf t1 (by omega) ⟨hi, nm_r (e' := upd pos t (nI (px_P (tg_E w m pc B) t))) (by rw [ec, e5]) ?_⟩
    refine xk_to hr hf t1 (by omega) ⟨hi, nm_r (e' := upd wt t (tg_T m pc B t)) (by rw [ec]) (nm_r (nI_1 t) (H post K))⟩
theorem xk_loc (hc : rl_cfg w m q P) (hr : row ≤ 16) (hf : rl_f w m a_folds row B) : ∃ pos' wt', px_loc (tg_E w m pc B) (tg_T m pc B) pos' wt' ∧ ∀ post : SX → Prop, post (nI w, f_minHistory, f_capacity, f_agePeriod, nI (2 ^ w), f_newest, f_oldest, f_queueLength, f_bias, f_ageClock, f_foundProvider, f_foundAlternate, f_providerDirection, f_alternateDirection, f_foundFresh, a_history, a_lengths, a_widths, a_leavingPlace, a_folds, a_slotPcs, a_slotDirections, a_slotProviders, a_baseCounters, a_entryTags, a_counters, a_usefulValues, a_counts, pos', wt') → wpX_locate post (nI w, f_minHistory, f_capacity, f_agePeriod, nI (2 ^ w), f_newest, f_oldest, f_queueLength, f_bias, f_ageClock, f_foundProvider, f_foundAlternate, f_providerDirection, f_alternateDirection, f_foundFresh, a_history, a_lengths, a_widths, a_leavingPlace, a_folds, a_slotPcs, a_slotDirections, a_slotProviders, a_baseCounters, a_entryTags, a_counters, a_usefulValues, a_counts, a_position, a_wantedTag) pc (nI row) := by
  have e0 := tg_E0 m pc B hc.1.2
  obtain ⟨pos', wt', h, H⟩ := xk_ll (pc := pc) (f_minHistory := f_minHistory) (f_capacity := f_capacity) (f_agePeriod := f_agePeriod) (f_newest := f_newest) (f_oldest := f_oldest) (f_queueLength := f_queueLength) (f_bias := f_bias) (f_ageClock := f_ageClock) (f_foundProvider := f_foundProvider) (f_foundAlternate := f_foundAlternate) (f_providerDirection := f_providerDirection) (f_alternateDirection := f_alternateDirection) (f_foundFresh := f_foundFresh) (a_history := a_history) (a_lengths := a_lengths) (a_widths := a_widths) (a_leavingPlace := a_leavingPlace) (a_folds := a_folds) (a_slotPcs := a_slotPcs) (a_slotDirections := a_slotDirections) (a_slotProviders := a_slotProviders) (a_baseCounters := a_baseCounters) (a_entryTags := a_entryTags) (a_counters := a_counters) (a_usefulValues := a_usefulValues) (a_counts := a_counts) hc hr hf 4 1 (upd a_position 0 (nI (tg_E w m pc B 0))) a_wantedTag (by omega) (by omega)
    (fun j hj => by
      have z : j = 0 := by omega
      subst z
      rw [px_0]; exact pk_us) (fun j h1 hj => by omega)
  refine ⟨pos', wt', h, fun post K => ?_⟩
  unfold wpX_locate wpX_baseIndex
  dsimp only
  rw [e0.1]
  exact nm_e ⟨5, H post K⟩
/-- the tables, as X reads them at a looked-up place -/
theorem xk_pos {E : Nat → Nat} {T pos wt : Nat → Int32} (hl : px_loc E T pos wt) {t : Nat} (t4 : t ≤ 4) (hE : px_ok E) : (pos t).toNatClampNeg = px_P E t ∧ (t = 0 → vp_in (pos t) 64) ∧ (1 ≤ t → vp_in (pos t) 128) := by
  have h0 := hE.1
  rw [hl.1 t t4]
  rcases Nat.eq_zero_or_pos t with z | z
  · subst z
    rw [px_0]
    exact ⟨nI_clamp (by omega), fun _ => vp_in_nI h0 (by omega), fun z => by omega⟩
  · have := px_lt hE z t4
    exact ⟨nI_clamp (by omega), fun z' => by omega, fun _ => vp_in_nI this (by omega)⟩
theorem xk_dir {post : Int32 → Prop} {E : Nat → Nat} {T yc yt yu : Nat → Int32} {t : Nat} (hl : px_loc E T a_position a_wantedTag) (hE : px_ok E) (ht : rl_tab a_baseCounters a_entryTags a_counters a_usefulValues yc yt yu) (t4 : t ≤ 4) (K : post (lk_d yc E t)) : wpX_directionOf post (f_logSize, f_minHistory, f_capacity, f_agePeriod, f_tableSize, f_newest, f_oldest, f_queueLength, f_bias, f_ageClock, f_foundProvider, f_foundAlternate, f_providerDirection, f_alternateDirection, f_foundFresh, a_history, a_lengths, a_widths, a_leavingPlace, a_folds, a_slotPcs, a_slotDirections, a_slotProviders, a_baseCounters, a_entryTags, a_counters, a_usefulValues, a_counts, a_position, a_wantedTag) (nI t) := by
  obtain ⟨hp, hp0, hp1⟩ := xk_pos hl t4 hE
  unfold wpX_directionOf
  dsimp only
  refine ⟨vp_in_nI (by omega) (by omega), ?_⟩
  rw [nI_clamp (by omega)]
  refine nm_e ?_
  rw [hp]
  unfold lk_d at K
  by_cases h0 : t = 0
  · subst h0
    rw [if_pos rfl, Nat.zero_mul, Nat.zero_add] at K
    rw [px_0, ht.1 _ hE.1]
    refine br_t rfl ⟨hp0 rfl, br_c (fun h => ?_) (fun h => ?_)⟩
    · rw [if_pos h] at K; exact K
    · rw [if_neg h] at K; exact K
  · rw [if_neg h0] at K
    have h1 : 1 ≤ t := by omega
    rw [px_t h1, (ht.2.1 t _ h1 t4 (hE.2 t h1 t4)).2.1]
    refine br_f (nI_ne0 h1 (by omega)) ⟨hp1 h1, br_c (fun h => ?_) (fun h => ?_)⟩
    · rw [if_pos h] at K; exact K
    · rw [if_neg h] at K; exact K
end
def lk_P (yt : Nat → Int32) (E : Nat → Nat) (T : Nat → Int32) (fp t : Nat) : Nat := if fp = 0 then lk_m yt E T t else fp
def lk_A (yt : Nat → Int32) (E : Nat → Nat) (T : Nat → Int32) (fp fa t : Nat) : Nat := if fp = 0 then lk_m yt E T (lk_m yt E T t - 1) else if fa = 0 then lk_m yt E T t else fa
section
variable {yt : Nat → Int32} {E : Nat → Nat} {T : Nat → Int32} {fp fa t : Nat}
theorem lk_P0 : lk_P yt E T fp 0 = fp := by
  unfold lk_P
  by_cases h : fp = 0
  · rw [if_pos h, h]; rfl
  · rw [if_neg h]
theorem lk_A0 (h : fp = 0 → fa = 0) : lk_A yt E T fp fa 0 = fa := by
  unfold lk_A
  by_cases h0 : fp = 0
  · rw [if_pos h0, h h0]; rfl
  · rw [if_neg h0]
    by_cases h1 : fa = 0
    · rw [if_pos h1, h1]; rfl
    · rw [if_neg h1]
theorem lk_Pn (z : ¬ yt ((t + 1) * 64 + E (t + 1)) = T (t + 1)) : lk_P yt E T fp (t + 1) = lk_P yt E T fp t := by unfold lk_P; rw [lk_n z]
theorem lk_An (z : ¬ yt ((t + 1) * 64 + E (t + 1)) = T (t + 1)) : lk_A yt E T fp fa (t + 1) = lk_A yt E T fp fa t := by unfold lk_A; rw [lk_n z]
theorem lk_Pt0 (z : yt ((t + 1) * 64 + E (t + 1)) = T (t + 1)) : lk_P yt E T 0 (t + 1) = lk_P yt E T (t + 1) t := by
  unfold lk_P
  rw [if_pos rfl, if_neg (by omega), lk_t z]
theorem lk_At0 (z : yt ((t + 1) * 64 + E (t + 1)) = T (t + 1)) : lk_A yt E T 0 0 (t + 1) = lk_A yt E T (t + 1) 0 t := by
  unfold lk_A
  rw [if_pos rfl, if_neg (by omega), if_pos rfl, lk_t z, Nat.add_sub_cancel]
theorem lk_Pt1 (h : ¬ fp = 0) : lk_P yt E T fp (t + 1) = lk_P yt E T fp t := by unfold lk_P; rw [if_neg h, if_neg h]
theorem lk_At1 (z : yt ((t + 1) * 64 + E (t + 1)) = T (t + 1)) (h : ¬ fp = 0) : lk_A yt E T fp 0 (t + 1) = lk_A yt E T fp (t + 1) t := by
  unfold lk_A
  rw [if_neg h, if_neg h, if_pos rfl, if_neg (by omega), lk_t z]
theorem lk_At2 (h : ¬ fp = 0) (h' : ¬ fa = 0) : lk_A yt E T fp fa (t + 1) = lk_A yt E T fp fa t := by
  unfold lk_A
  rw [if_neg h, if_neg h, if_neg h', if_neg h']
end
section
variable {f_logSize f_minHistory f_capacity f_agePeriod f_tableSize f_newest f_oldest f_queueLength f_bias f_ageClock f_foundProvider f_foundAlternate f_providerDirection f_alternateDirection f_foundFresh : Int32} {a_history a_lengths a_widths a_leavingPlace a_folds a_slotPcs a_slotDirections a_slotProviders a_baseCounters a_entryTags a_counters a_usefulValues a_counts a_position a_wantedTag : Nat → Int32} {w m q P row : Nat} {B : Nat → Int32} {pc : Int32} {post : SX → Prop} {E : Nat → Nat} {T yc yt yu : Nat → Int32}
theorem xk_sl (hl : px_loc E T a_position a_wantedTag) (hE : px_ok E) (ht : rl_tab a_baseCounters a_entryTags a_counters a_usefulValues yc yt yu) : ∀ t fp fa, t ≤ 4 → fp ≤ 4 → fa ≤ 4 → (fp = 0 → fa = 0) →
    wX_lookup_18 post f_logSize f_minHistory f_capacity f_agePeriod f_tableSize f_newest f_oldest f_queueLength f_bias f_ageClock f_providerDirection f_alternateDirection f_foundFresh a_history a_lengths a_widths a_leavingPlace a_folds a_slotPcs a_slotDirections a_slotProviders a_baseCounters a_entryTags a_counters a_usefulValues a_counts a_position a_wantedTag 1 0 (nI (lk_P yt E T fp t)) (nI (lk_A yt E T fp fa t)) → wX_lookup_18 post f_logSize f_minHistory f_capacity f_agePeriod f_tableSize f_newest f_oldest f_queueLength f_bias f_ageClock f_providerDirection f_alternateDirection f_foundFresh a_history a_lengths a_widths a_leavingPlace a_folds a_slotPcs a_slotDirections a_slotProviders a_baseCounters a_entryTags a_counters a_usefulValues a_counts a_position a_wantedTag (t + 1) (nI t) (nI fp) (nI fa) := by
  intro t
  induction t with
  | zero =>
    intro fp fa _ _ _ h0 K
    rw [lk_P0, lk_A0 h0] at K
    exact K
  | succ t ih =>
    intro fp fa t4 h1 h2 h0 K
    obtain ⟨hp, -, hp1⟩ := xk_pos hl t4 hE
    have hi : vp_in (nI (t + 1)) 5 := vp_in_nI (by omega) (by omega)
    have ec : (nI (t + 1)).toNatClampNeg = t + 1 := nI_clamp (by omega)
    have et : a_entryTags (a_position (nI (t + 1)).toNatClampNeg).toNatClampNeg = yt ((t + 1) * 64 + E (t + 1)) := by
      rw [ec, hp, px_t (by omega)]
      exact (ht.2.1 (t + 1) _ (by omega) t4 (hE.2 (t + 1) (by omega) t4)).1
    have ew : a_wantedTag (nI (t + 1)).toNatClampNeg = T (t + 1) := by rw [ec]; exact hl.2 (t + 1) (by omega) t4
    have hv : vp_in (a_position (nI (t + 1)).toNatClampNeg) 128 := by rw [ec]; exact hp1 (by omega)
    refine br_f (nI_nlt (b := 1) (by omega) (by omega)) ⟨hi, hv, hi, ?_⟩
    rw [et, ew]
    by_cases z : yt ((t + 1) * 64 + E (t + 1)) = T (t + 1)
    · refine br_t z ?_
      by_cases f0 : fp = 0
      · have fa0 := h0 f0
        subst f0 fa0
        rw [lk_Pt0 z, lk_At0 z] at K
        exact br_t rfl (nm_r (pk_m1 t) (ih (t + 1) 0 (by omega) (by omega) (by omega) (by omega) K))
      · refine br_f (nI_ne0 (by omega) (by omega)) ?_
        by_cases a0 : fa = 0
        · subst a0
          rw [lk_Pt1 f0, lk_At1 z f0] at K
          exact br_t rfl (nm_r (pk_m1 t) (ih fp (t + 1) (by omega) h1 (by omega) (by omega) K))
        · rw [lk_Pt1 f0, lk_At2 f0 a0] at K
          exact br_f (nI_ne0 (by omega) (by omega)) (nm_r (pk_m1 t) (ih fp fa (by omega) h1 h2 (by omega) K))
    · rw [lk_Pn z, lk_An z] at K
      exact br_f z (nm_r (pk_m1 t) (ih fp fa (by omega) h1 h2 h0 K))
theorem xk_147 {c : Nat} {z : Int32} (hc : c < 128) (z01 : z = 0 ∨ z = 1) (K : post (f_logSize, f_minHistory, f_capacity, f_agePeriod, f_tableSize, f_newest, f_oldest, f_queueLength, f_bias, f_ageClock, f_foundProvider, f_foundAlternate, f_providerDirection, f_alternateDirection, if z = 1 ∧ a_usefulValues c = 0 then 1 else 0, a_history, a_lengths, a_widths, a_leavingPlace, a_folds, a_slotPcs, a_slotDirections, a_slotProviders, a_baseCounters, a_entryTags, a_counters, a_usefulValues, a_counts, a_position, a_wantedTag)) : wX_lookup_147 post (nI c) z f_logSize f_minHistory f_capacity f_agePeriod f_tableSize f_newest f_oldest f_queueLength f_bias f_ageClock f_foundProvider f_foundAlternate f_providerDirection f_alternateDirection f_foundFresh a_history a_lengths a_widths a_leavingPlace a_folds a_slotPcs a_slotDirections a_slotProviders a_baseCounters a_entryTags a_counters a_usefulValues a_counts a_position a_wantedTag := by
  unfold wX_lookup_147
  rw [nI_clamp (by omega)]
  rcases z01 with rfl | rfl
  · rw [if_neg (fun z => absurd z.1 (by decide))] at K
    exact br_t rfl K
  · refine br_f (by decide) ⟨vp_in_nI hc (by omega), br_c (fun h => ?_) (fun h => ?_)⟩
    · rw [if_pos ⟨rfl, h⟩] at K; exact K
    · rw [if_neg (fun z => h z.2)] at K; exact K
theorem xk_exit {fp fa : Nat} (hl : px_loc E T a_position a_wantedTag) (hE : px_ok E) (ht : rl_tab a_baseCounters a_entryTags a_counters a_usefulValues yc yt yu) (h1 : fp ≤ 4) (h2 : fa ≤ 4)
    (K : post (f_logSize, f_minHistory, f_capacity, f_agePeriod, f_tableSize, f_newest, f_oldest, f_queueLength, f_bias, f_ageClock, nI fp, nI fa, lk_d yc E fp, lk_d yc E fa, lk_f yc yu E fp, a_history, a_lengths, a_widths, a_leavingPlace, a_folds, a_slotPcs, a_slotDirections, a_slotProviders, a_baseCounters, a_entryTags, a_counters, a_usefulValues, a_counts, a_position, a_wantedTag)) :
    wX_lookup_18 post f_logSize f_minHistory f_capacity f_agePeriod f_tableSize f_newest f_oldest f_queueLength f_bias f_ageClock f_providerDirection f_alternateDirection f_foundFresh a_history a_lengths a_widths a_leavingPlace a_folds a_slotPcs a_slotDirections a_slotProviders a_baseCounters a_entryTags a_counters a_usefulValues a_counts a_position a_wantedTag 1 0 (nI fp) (nI fa) := by
  refine br_t (by decide) ?_
  refine xk_dir hl hE ht h1 ?_
  refine xk_dir hl hE ht h2 ?_
  obtain ⟨hp, -, hp1⟩ := xk_pos hl h1 hE
  unfold lk_f at K
  by_cases f0 : fp = 0
  · subst f0
    rw [if_pos rfl] at K
    exact br_t (by decide) K
  · rw [if_neg f0] at K
    have h1' : 1 ≤ fp := by omega
    have hlt := px_lt hE h1' h1
    obtain ⟨-, tc, tu⟩ := ht.2.1 fp _ h1' h1 (hE.2 fp h1' h1)
    rw [← px_t h1'] at tc tu
    rw [← tc, ← tu] at K
    have ec : a_position (nI fp).toNatClampNeg = nI (px_P E fp) := by rw [nI_clamp (by omega)]; exact hl.1 fp h1
    refine br_f (nI_nle h1' (by omega)) ⟨vp_in_nI (by omega) (by omega), nm_r ec ⟨vp_in_nI hlt (by omega), ?_⟩⟩
    rw [nI_clamp (by omega)]
    refine br_c (fun h3 => ?_) (fun h3 => ⟨vp_in_nI hlt (by omega), br_c (fun h4 => ?_) (fun h4 => ?_)⟩)
    · have e : (if (a_counters (px_P E fp) = 3 ∨ a_counters (px_P E fp) = 4) ∧ a_usefulValues (px_P E fp) = 0 then (1 : Int32) else 0) = if (1 : Int32) = 1 ∧ a_usefulValues (px_P E fp) = 0 then 1 else 0 := zz_if ⟨fun z => ⟨rfl, z.2⟩, fun z => ⟨Or.inl h3, z.2⟩⟩
      rw [e] at K
      unfold wX_lookup_142
      exact xk_147 hlt (Or.inr rfl) K
    · have e : (if (a_counters (px_P E fp) = 3 ∨ a_counters (px_P E fp) = 4) ∧ a_usefulValues (px_P E fp) = 0 then (1 : Int32) else 0) = if (1 : Int32) = 1 ∧ a_usefulValues (px_P E fp) = 0 then 1 else 0 := zz_if ⟨fun z => ⟨rfl, z.2⟩, fun z => ⟨Or.inr h4, z.2⟩⟩
      rw [e] at K
      unfold wX_lookup_142
      exact xk_147 hlt (Or.inr rfl) K
    · refine xk_147 hlt (Or.inl rfl) ?_
      rw [if_neg (fun z => z.1.elim h3 h4)] at K
      rw [if_neg (fun z => absurd z.1 (by decide))]
      exact K
theorem xk_look (hc : rl_cfg w m q P) (hr : row ≤ 16) (hf : rl_f w m a_folds row B) (ht : rl_tab a_baseCounters a_entryTags a_counters a_usefulValues yc yt yu) (pc : Int32) {p a : Nat} (ep : p = lk_m yt (tg_E w m pc B) (tg_T m pc B) 4) (ea : a = lk_m yt (tg_E w m pc B) (tg_T m pc B) (p - 1)) :
    ∃ pos wt, px_loc (tg_E w m pc B) (tg_T m pc B) pos wt ∧ ∀ post : SX → Prop, post (nI w, f_minHistory, f_capacity, f_agePeriod, nI (2 ^ w), f_newest, f_oldest, f_queueLength, f_bias, f_ageClock, nI p, nI a, lk_d yc (tg_E w m pc B) p, lk_d yc (tg_E w m pc B) a, lk_f yc yu (tg_E w m pc B) p, a_history, a_lengths, a_widths, a_leavingPlace, a_folds, a_slotPcs, a_slotDirections, a_slotProviders, a_baseCounters, a_entryTags, a_counters, a_usefulValues, a_counts, pos, wt) → wpX_lookup post (nI w, f_minHistory, f_capacity, f_agePeriod, nI (2 ^ w), f_newest, f_oldest, f_queueLength, f_bias, f_ageClock, f_foundProvider, f_foundAlternate, f_providerDirection, f_alternateDirection, f_foundFresh, a_history, a_lengths, a_widths, a_leavingPlace, a_folds, a_slotPcs, a_slotDirections, a_slotProviders, a_baseCounters, a_entryTags, a_counters, a_usefulValues, a_counts, a_position, a_wantedTag) pc (nI row) := by
  obtain ⟨pos, wt, hl, H⟩ := xk_loc (pc := pc) (f_minHistory := f_minHistory) (f_capacity := f_capacity) (f_agePeriod := f_agePeriod) (f_newest := f_newest) (f_oldest := f_oldest) (f_queueLength := f_queueLength) (f_bias := f_bias) (f_ageClock := f_ageClock) (f_foundProvider := f_foundProvider) (f_foundAlternate := f_foundAlternate) (f_providerDirection := f_providerDirection) (f_alternateDirection := f_alternateDirection) (f_foundFresh := f_foundFresh) (a_history := a_history) (a_lengths := a_lengths) (a_widths := a_widths) (a_leavingPlace := a_leavingPlace) (a_folds := a_folds) (a_slotPcs := a_slotPcs) (a_slotDirections := a_slotDirections) (a_slotProviders := a_slotProviders) (a_baseCounters := a_baseCounters) (a_entryTags := a_entryTags) (a_counters := a_counters) (a_usefulValues := a_usefulValues) (a_counts := a_counts) (a_position := a_position) (a_wantedTag := a_wantedTag) hc hr hf
  refine ⟨pos, wt, hl, fun post K => ?_⟩
  have hE := px_E (w := w) (m := m) (pc := pc) (B := B) hc.1.2
  have hp := lk_le (yt := yt) (E := tg_E w m pc B) (T := tg_T m pc B) 4
  have ha := lk_le (yt := yt) (E := tg_E w m pc B) (T := tg_T m pc B) (p - 1)
  unfold wpX_lookup
  dsimp only
  refine H _ ?_
  refine ⟨5, xk_sl hl hE ht 4 0 0 (by omega) (by omega) (by omega) (by omega) ?_⟩
  have e1 : lk_P yt (tg_E w m pc B) (tg_T m pc B) 0 4 = p := ep.symm
  have e2 : lk_A yt (tg_E w m pc B) (tg_T m pc B) 0 0 4 = a := by rw [ea, ep]; rfl
  rw [e1, e2]
  exact xk_exit hl hE ht (by omega) (by omega) K
theorem xk_lud {post : Int32 → Prop} {b : Nat} (hb : b ≤ 15) (K : post (lk_u f_foundFresh f_providerDirection f_alternateDirection b)) : wpX_lookedUpDirection post (f_logSize, f_minHistory, f_capacity, f_agePeriod, f_tableSize, f_newest, f_oldest, f_queueLength, nI b, f_ageClock, f_foundProvider, f_foundAlternate, f_providerDirection, f_alternateDirection, f_foundFresh, a_history, a_lengths, a_widths, a_leavingPlace, a_folds, a_slotPcs, a_slotDirections, a_slotProviders, a_baseCounters, a_entryTags, a_counters, a_usefulValues, a_counts, a_position, a_wantedTag) := by
  unfold lk_u at K
  unfold wpX_lookedUpDirection
  dsimp only
  by_cases hf : f_foundFresh = 0
  · rw [if_pos hf] at K
    exact br_t hf K
  · rw [if_neg hf] at K
    refine br_f hf ?_
    by_cases h8 : b < 8
    · rw [if_pos h8] at K
      exact br_t (nI_lt (b := 8) h8 (by omega)) K
    · rw [if_neg h8] at K
      exact br_f (nI_nlt (b := 8) (by omega) (by omega)) K
end
end
section
/-! copies and pushes -/
def cp_A (a : Nat → Int32) (s d n : Nat) : Nat → Int32 := fun j => if d ≤ j ∧ j < d + n then a (s + (j - d)) else a j
theorem cp_0 {a : Nat → Int32} {s d : Nat} : cp_A a s d 0 = a := by
  funext j
  unfold cp_A
  rw [if_neg (by omega)]
theorem cp_step {a : Nat → Int32} {s d i n : Nat} (h : s + n ≤ d ∨ d + n ≤ s) (hi : i < n) : upd (cp_A a s d i) (d + i) (cp_A a s d i (s + i)) = cp_A a s d (i + 1) := by
  funext j
  have e : cp_A a s d i (s + i) = a (s + i) := by
    unfold cp_A
    rw [if_neg (by omega)]
  rw [e]
  by_cases z : j = d + i
  · subst z
    rw [pk_us]
    unfold cp_A
    rw [if_pos (by omega), Nat.add_sub_cancel_left]
  · rw [pk_un z]
    unfold cp_A
    by_cases y : d ≤ j ∧ j < d + i
    · rw [if_pos y, if_pos (by omega)]
    · rw [if_neg y, if_neg (by omega)]
theorem cp_in {a : Nat → Int32} {s d n i : Nat} (hi : i < n) : cp_A a s d n (d + i) = a (s + i) := by
  unfold cp_A
  rw [if_pos (by omega), Nat.add_sub_cancel_left]
theorem cp_out {a : Nat → Int32} {s d n j : Nat} (h : j < d ∨ d + n ≤ j) : cp_A a s d n j = a j := by
  unfold cp_A
  rw [if_neg (by omega)]
/-- Y's push, with the bits above place i moved -/
def sh_A (a : Nat → Int32) (i : Nat) : Nat → Int32 := fun j => if 1536 + i < j ∧ j < 1632 then a (j - 1) else a j
theorem sh_95 {a : Nat → Int32} : sh_A a 95 = a := by
  funext j
  unfold sh_A
  rw [if_neg (by omega)]
theorem sh_step {a : Nat → Int32} {i : Nat} (hi : i < 95) : upd (sh_A a (i + 1)) (1536 + (i + 1)) (sh_A a (i + 1) (1536 + i)) = sh_A a i := by
  funext j
  have e : sh_A a (i + 1) (1536 + i) = a (1536 + i) := by
    unfold sh_A
    rw [if_neg (by omega)]
  rw [e]
  by_cases z : j = 1536 + (i + 1)
  · subst z
    rw [pk_us]
    unfold sh_A
    rw [if_pos (by omega)]
    exact congrArg a (by omega)
  · rw [pk_un z]
    unfold sh_A
    by_cases y : 1536 + (i + 1) < j ∧ j < 1632
    · rw [if_pos y, if_pos (by omega)]
    · rw [if_neg y, if_neg (by omega)]
section
variable {g_w g_m g_q g_period g_n g_size g_bias g_clock : Int32} {b_bits b_slotPcs b_slotDirs b_slotProvs b_counters b_tags b_usefuls b_counts : Nat → Int32} {post : SY → Prop}
theorem yk_cl {src dst : Nat} (h1 : src ≤ 16) (h2 : dst ≤ 16) (hne : src ≠ dst) (K : post (g_w, g_m, g_q, g_period, g_n, g_size, g_bias, g_clock, cp_A b_bits (src * 96) (dst * 96) 96, b_slotPcs, b_slotDirs, b_slotProvs, b_counters, b_tags, b_usefuls, b_counts)) : ∀ n i, i ≤ 96 → 96 - i < n → wY_copyBlock_2 post (nI src) (nI dst) g_w g_m g_q g_period g_n g_size g_bias g_clock n (nI i) (cp_A b_bits (src * 96) (dst * 96) i) b_slotPcs b_slotDirs b_slotProvs b_counters b_tags b_usefuls b_counts := by
  intro n
  induction n with
  | zero => intro i _ hn; omega
  | succ n ih =>
    intro i hi hn
    have e1 : nI src * 96 + nI i = nI (src * 96 + i) := by
      show nI src * nI 96 + nI i = _
      rw [pk_mul, nI_add]
    have e2 : nI dst * 96 + nI i = nI (dst * 96 + i) := by
      show nI dst * nI 96 + nI i = _
      rw [pk_mul, nI_add]
    rcases Nat.lt_or_ge i 96 with z | z
    · refine br_f (nI_ge (b := 96) z (by omega)) ⟨?_, ?_, nm_r (e' := cp_A b_bits (src * 96) (dst * 96) (i + 1)) ?_ (nm_r (nI_1 i) (ih (i + 1) (by omega) (by omega)))⟩
      · rw [e1]; exact vp_in_nI (by omega) (by omega)
      · rw [e2]; exact vp_in_nI (by omega) (by omega)
      · rw [e1, e2, nI_clamp (by omega), nI_clamp (by omega)]
        exact cp_step (n := 96) (by omega) z
    · have e : i = 96 := by omega
      subst e
      exact br_t (nI_le (a := 96) (by omega) (by omega)) K
theorem yk_cb {src dst : Nat} (h1 : src ≤ 16) (h2 : dst ≤ 16) (hne : src ≠ dst) (K : post (g_w, g_m, g_q, g_period, g_n, g_size, g_bias, g_clock, cp_A b_bits (src * 96) (dst * 96) 96, b_slotPcs, b_slotDirs, b_slotProvs, b_counters, b_tags, b_usefuls, b_counts)) : wpY_copyBlock post (g_w, g_m, g_q, g_period, g_n, g_size, g_bias, g_clock, b_bits, b_slotPcs, b_slotDirs, b_slotProvs, b_counters, b_tags, b_usefuls, b_counts) (nI src) (nI dst) := by
  have h := yk_cl h1 h2 hne K 97 0 (by omega) (by omega)
  rw [cp_0] at h
  exact ⟨97, h⟩
theorem yk_pl {bit : Int32} (K : post (g_w, g_m, g_q, g_period, g_n, g_size, g_bias, g_clock, upd (sh_A b_bits 0) 1536 bit, b_slotPcs, b_slotDirs, b_slotProvs, b_counters, b_tags, b_usefuls, b_counts)) : ∀ i, i ≤ 95 → wY_push_3 post bit g_w g_m g_q g_period g_n g_size g_bias g_clock (i + 1) (nI i) (sh_A b_bits i) b_slotPcs b_slotDirs b_slotProvs b_counters b_tags b_usefuls b_counts := by
  intro i
  induction i with
  | zero => intro _; exact br_t (by decide) (nm_e K)
  | succ i ih =>
    intro hi
    have e1 : (1536 : Int32) + nI (i + 1) = nI (1536 + (i + 1)) := nI_add 1536 (i + 1)
    have e2 : nI (1536 + (i + 1)) - 1 = nI (1536 + i) := pk_sub (a := 1536 + (i + 1)) (b := 1) (by omega)
    refine br_f (nI_nle (by omega) (by omega)) ⟨?_, ?_, nm_r (e' := sh_A b_bits i) ?_ (nm_r (pk_m1 i) (ih (by omega)))⟩
    · rw [e1, e2]; exact vp_in_nI (by omega) (by omega)
    · rw [e1]; exact vp_in_nI (by omega) (by omega)
    · rw [e1, e2, nI_clamp (by omega), nI_clamp (by omega)]
      exact sh_step (by omega)
theorem yk_push {bit : Int32} (K : post (g_w, g_m, g_q, g_period, g_n, g_size, g_bias, g_clock, upd (sh_A b_bits 0) 1536 bit, b_slotPcs, b_slotDirs, b_slotProvs, b_counters, b_tags, b_usefuls, b_counts)) : wpY_push post (g_w, g_m, g_q, g_period, g_n, g_size, g_bias, g_clock, b_bits, b_slotPcs, b_slotDirs, b_slotProvs, b_counters, b_tags, b_usefuls, b_counts) bit := by
  have h := yk_pl K 95 (by omega)
  rw [sh_95] at h
  exact ⟨96, h⟩
end
def pu_N (w m : Nat) (bit : Int32) (lv f : Nat → Int32) (i : Nat) : Int32 := (fd_rot (cf_W w (i % 3)) (f (192 + i)) ^^^ bit) ^^^ (lv (i / 3 + 1) <<< (nI (cf_L m (i / 3 + 1) % cf_W w (i % 3)) &&& 31))
def pu_f (w m : Nat) (bit : Int32) (lv f : Nat → Int32) (r : Nat) : Nat → Int32 := fun j => if 192 ≤ j ∧ j < 192 + r then pu_N w m bit lv f (j - 192) else f j
section
variable {w m r : Nat} {bit : Int32} {lv f : Nat → Int32}
theorem pu_0 : pu_f w m bit lv f 0 = f := by
  funext j
  unfold pu_f
  rw [if_neg (by omega)]
theorem pu_step : upd (pu_f w m bit lv f r) (192 + r) (pu_N w m bit lv f r) = pu_f w m bit lv f (r + 1) := by
  funext j
  by_cases z : j = 192 + r
  · subst z
    rw [pk_us]
    unfold pu_f
    rw [if_pos (by omega), Nat.add_sub_cancel_left]
  · rw [pk_un z]
    unfold pu_f
    by_cases y : 192 ≤ j ∧ j < 192 + r
    · rw [if_pos y, if_pos (by omega)]
    · rw [if_neg y, if_neg (by omega)]
theorem pu_at : pu_f w m bit lv f r (192 + r) = f (192 + r) := by
  unfold pu_f
  rw [if_neg (by omega)]
theorem pu_out {j : Nat} (h : j < 192) : pu_f w m bit lv f r j = f j := by
  unfold pu_f
  rw [if_neg (by omega)]
theorem pu_in {i : Nat} (h : i < r) : pu_f w m bit lv f r (192 + i) = pu_N w m bit lv f i := by
  unfold pu_f
  rw [if_pos (by omega), Nat.add_sub_cancel_left]
theorem pu_Nt {t k : Nat} (t1 : 1 ≤ t) (hk : k < 3) : pu_N w m bit lv f ((t - 1) * 3 + k) = (fd_rot (cf_W w k) (f (192 + ((t - 1) * 3 + k))) ^^^ bit) ^^^ (lv t <<< (nI (cf_L m t % cf_W w k) &&& 31)) := by
  have e1 : ((t - 1) * 3 + k) % 3 = k := by omega
  have e2 : ((t - 1) * 3 + k) / 3 + 1 = t := by omega
  unfold pu_N
  rw [e1, e2]
end
section
variable {f_logSize f_minHistory f_capacity f_agePeriod f_tableSize f_newest f_oldest f_queueLength f_bias f_ageClock f_foundProvider f_foundAlternate f_providerDirection f_alternateDirection f_foundFresh : Int32} {a_history a_lengths a_widths a_leavingPlace a_folds a_slotPcs a_slotDirections a_slotProviders a_baseCounters a_entryTags a_counters a_usefulValues a_counts a_position a_wantedTag : Nat → Int32} {w m q P p : Nat} {post : SX → Prop} {bit : Int32} {lv : Nat → Int32}
theorem xk_cl {src dst : Nat} (h1 : src ≤ 16) (h2 : dst ≤ 16) (hne : src ≠ dst) (K : post (f_logSize, f_minHistory, f_capacity, f_agePeriod, f_tableSize, f_newest, f_oldest, f_queueLength, f_bias, f_ageClock, f_foundProvider, f_foundAlternate, f_providerDirection, f_alternateDirection, f_foundFresh, a_history, a_lengths, a_widths, a_leavingPlace, cp_A a_folds (src * 12) (dst * 12) 12, a_slotPcs, a_slotDirections, a_slotProviders, a_baseCounters, a_entryTags, a_counters, a_usefulValues, a_counts, a_position, a_wantedTag)) : ∀ n i, i ≤ 12 → 12 - i < n → wX_copyFolds_14 post (nI (src * 12)) (nI (dst * 12)) f_logSize f_minHistory f_capacity f_agePeriod f_tableSize f_newest f_oldest f_queueLength f_bias f_ageClock f_foundProvider f_foundAlternate f_providerDirection f_alternateDirection f_foundFresh n (nI i) a_history a_lengths a_widths a_leavingPlace (cp_A a_folds (src * 12) (dst * 12) i) a_slotPcs a_slotDirections a_slotProviders a_baseCounters a_entryTags a_counters a_usefulValues a_counts a_position a_wantedTag := by
  intro n
  induction n with
  | zero => intro i _ hn; omega
  | succ n ih =>
    intro i hi hn
    rcases Nat.lt_or_ge i 12 with z | z
    · refine br_f (nI_ge (b := 12) z (by omega)) ⟨?_, ?_, nm_r (e' := cp_A a_folds (src * 12) (dst * 12) (i + 1)) ?_ (nm_r (nI_1 i) (ih (i + 1) (by omega) (by omega)))⟩
      · rw [nI_add]; exact vp_in_nI (by omega) (by omega)
      · rw [nI_add]; exact vp_in_nI (by omega) (by omega)
      · rw [nI_add, nI_add, nI_clamp (by omega), nI_clamp (by omega)]
        exact cp_step (n := 12) (by omega) z
    · have e : i = 12 := by omega
      subst e
      exact br_t (nI_le (a := 12) (by omega) (by omega)) K
theorem xk_cf {src dst : Nat} (h1 : src ≤ 16) (h2 : dst ≤ 16) (hne : src ≠ dst) (K : post (f_logSize, f_minHistory, f_capacity, f_agePeriod, f_tableSize, f_newest, f_oldest, f_queueLength, f_bias, f_ageClock, f_foundProvider, f_foundAlternate, f_providerDirection, f_alternateDirection, f_foundFresh, a_history, a_lengths, a_widths, a_leavingPlace, cp_A a_folds (src * 12) (dst * 12) 12, a_slotPcs, a_slotDirections, a_slotProviders, a_baseCounters, a_entryTags, a_counters, a_usefulValues, a_counts, a_position, a_wantedTag)) : wpX_copyFolds post (f_logSize, f_minHistory, f_capacity, f_agePeriod, f_tableSize, f_newest, f_oldest, f_queueLength, f_bias, f_ageClock, f_foundProvider, f_foundAlternate, f_providerDirection, f_alternateDirection, f_foundFresh, a_history, a_lengths, a_widths, a_leavingPlace, a_folds, a_slotPcs, a_slotDirections, a_slotProviders, a_baseCounters, a_entryTags, a_counters, a_usefulValues, a_counts, a_position, a_wantedTag) (nI src) (nI dst) := by
  have h := xk_cl h1 h2 hne K 13 0 (by omega) (by omega)
  rw [cp_0] at h
  exact nm_r (pk_mul src 12) (nm_r (pk_mul dst 12) ⟨13, h⟩)
theorem xk_pi {J : Int32 → (Nat → Int32) → (Nat → Int32) → (Nat → Int32) → (Nat → Int32) → (Nat → Int32) → (Nat → Int32) → (Nat → Int32) → (Nat → Int32) → (Nat → Int32) → (Nat → Int32) → (Nat → Int32) → (Nat → Int32) → (Nat → Int32) → (Nat → Int32) → (Nat → Int32) → Prop} (hs : rl_set w m a_lengths a_widths a_leavingPlace) {t : Nat} (t1 : 1 ≤ t) (t4 : t ≤ 4) (K : J (nI (t + 1)) a_history a_lengths a_widths a_leavingPlace (pu_f w m bit lv a_folds (t * 3)) a_slotPcs a_slotDirections a_slotProviders a_baseCounters a_entryTags a_counters a_usefulValues a_counts a_position a_wantedTag) : ∀ d k, k + d = 3 → wX_push_32 post J bit (nI t) (lv t) f_logSize f_minHistory f_capacity f_agePeriod f_tableSize f_newest f_oldest f_queueLength f_bias f_ageClock f_foundProvider f_foundAlternate f_providerDirection f_alternateDirection f_foundFresh (d + 1) (nI k) a_history a_lengths a_widths a_leavingPlace (pu_f w m bit lv a_folds ((t - 1) * 3 + k)) a_slotPcs a_slotDirections a_slotProviders a_baseCounters a_entryTags a_counters a_usefulValues a_counts a_position a_wantedTag := by
  intro d
  induction d with
  | zero =>
    intro k hk
    have e : k = 3 := by omega
    subst e
    have e3 : (t - 1) * 3 + 3 = t * 3 := by omega
    rw [e3]
    exact br_t (nI_le (a := 3) (b := 3) (by omega) (by omega)) (nm_r (nI_1 t) K)
  | succ d ih =>
    intro k hk
    have er : ((nI t - 1) * 3) + nI k = nI ((t - 1) * 3 + k) := by
      show ((nI t - nI 1) * nI 3) + nI k = _
      rw [pk_sub t1, pk_mul, nI_add]
    have e9 : (192 : Int32) + nI ((t - 1) * 3 + k) = nI (192 + ((t - 1) * 3 + k)) := nI_add 192 _
    have ew : a_widths (nI k).toNatClampNeg = nI (cf_W w k) := by rw [nI_clamp (by omega)]; exact hs.2.1 k (by omega)
    have eo : pu_f w m bit lv a_folds ((t - 1) * 3 + k) ((192 : Int32) + nI ((t - 1) * 3 + k)).toNatClampNeg = a_folds (192 + ((t - 1) * 3 + k)) := by rw [e9, nI_clamp (by omega)]; exact pu_at
    have hv : vp_in ((192 : Int32) + nI ((t - 1) * 3 + k)) 204 := by rw [e9]; exact vp_in_nI (by omega) (by omega)
    refine br_f (nI_ge (b := 3) (by omega) (by omega)) (nm_r er ⟨vp_in_nI (by omega) (by omega), nm_r ew ⟨hv, nm_r eo (nm_r (e' := fd_rot (cf_W w k) (a_folds (192 + ((t - 1) * 3 + k)))) rfl ⟨vp_in_nI (by omega) (by omega), hv, nm_r (e' := pu_f w m bit lv a_folds ((t - 1) * 3 + (k + 1))) ?_ (nm_r (nI_1 k) (ih (k + 1) (by omega)))⟩)⟩⟩)
    rw [e9, nI_clamp (by omega), nI_clamp (by omega), hs.2.2 t k t1 t4 (by omega), ← pu_Nt t1 (by omega), pu_step]
    rfl
theorem xk_po (hc : rl_cfg w m q P) (hs : rl_set w m a_lengths a_widths a_leavingPlace) (hp : p < 128) (hb : bit = 0 ∨ bit = 1) (hv : ∀ t, lv t = a_history ((p + 256 - (cf_L m t - 1)) % 128))
    (K : post (f_logSize, f_minHistory, f_capacity, f_agePeriod, f_tableSize, nI ((p + 1) % 128), f_oldest, f_queueLength, f_bias, f_ageClock, f_foundProvider, f_foundAlternate, f_providerDirection, f_alternateDirection, f_foundFresh, upd a_history ((p + 1) % 128) bit, a_lengths, a_widths, a_leavingPlace, pu_f w m bit lv a_folds 12, a_slotPcs, a_slotDirections, a_slotProviders, a_baseCounters, a_entryTags, a_counters, a_usefulValues, a_counts, a_position, a_wantedTag)) : ∀ d t, 1 ≤ t → t + d = 5 → wX_push_2 post bit f_logSize f_minHistory f_capacity f_agePeriod f_tableSize (nI p) f_oldest f_queueLength f_bias f_ageClock f_foundProvider f_foundAlternate f_providerDirection f_alternateDirection f_foundFresh (d + 1) (nI t) a_history a_lengths a_widths a_leavingPlace (pu_f w m bit lv a_folds ((t - 1) * 3)) a_slotPcs a_slotDirections a_slotProviders a_baseCounters a_entryTags a_counters a_usefulValues a_counts a_position a_wantedTag := by
  intro d
  induction d with
  | zero =>
    intro t t1 ht
    have e : t = 5 := by omega
    subst e
    have e1 : (nI p + 1) &&& 127 = nI ((p + 1) % 128) := by rw [nI_1]; exact pk_andN (by omega) 7 (by decide)
    have eb : vp_nar .byte bit.toInt8.toInt32 = bit := by
      rw [pk_vb]
      rcases hb with rfl | rfl
      · decide
      · decide
    refine br_t (nI_lt (a := 4) (b := 5) (by omega) (by omega)) (nm_r e1 ⟨vp_in_nI (by omega) (by omega), nm_r (e' := upd a_history ((p + 1) % 128) bit) ?_ K⟩)
    rw [eb, nI_clamp (by omega)]
  | succ d ih =>
    intro t t1 ht
    have hL := cf_L2 hc.2.1.1 hc.2.1.2 (t := t) (by omega)
    have el : (nI p - (a_lengths (nI t).toNatClampNeg - 1)) &&& 127 = nI ((p + 256 - (cf_L m t - 1)) % 128) := by
      rw [nI_clamp (by omega), hs.1 t t1 (by omega), show nI (cf_L m t) - 1 = nI (cf_L m t - 1) from pk_sub (a := cf_L m t) (b := 1) hL.1]
      exact ar_mod (by omega) (by omega)
    have h := ih (t + 1) (by omega) (by omega)
    rw [Nat.add_sub_cancel] at h
    refine br_f (nI_nlt (a := 4) (b := t) (by omega) (by omega)) ⟨vp_in_nI (by omega) (by omega), ?_, nm_r (e' := lv t) ?_ ⟨4, ?_⟩⟩
    · rw [el]; exact vp_in_nI (by omega) (by omega)
    · rw [el, nI_clamp (by omega), hv t]
    · exact xk_pi hs t1 (by omega) h 3 0 (by omega)
theorem xk_push (hc : rl_cfg w m q P) (hs : rl_set w m a_lengths a_widths a_leavingPlace) (hp : p < 128) (hb : bit = 0 ∨ bit = 1)
    (K : post (f_logSize, f_minHistory, f_capacity, f_agePeriod, f_tableSize, nI ((p + 1) % 128), f_oldest, f_queueLength, f_bias, f_ageClock, f_foundProvider, f_foundAlternate, f_providerDirection, f_alternateDirection, f_foundFresh, upd a_history ((p + 1) % 128) bit, a_lengths, a_widths, a_leavingPlace, pu_f w m bit (fun t => a_history ((p + 256 - (cf_L m t - 1)) % 128)) a_folds 12, a_slotPcs, a_slotDirections, a_slotProviders, a_baseCounters, a_entryTags, a_counters, a_usefulValues, a_counts, a_position, a_wantedTag)) : wpX_push post (f_logSize, f_minHistory, f_capacity, f_agePeriod, f_tableSize, nI p, f_oldest, f_queueLength, f_bias, f_ageClock, f_foundProvider, f_foundAlternate, f_providerDirection, f_alternateDirection, f_foundFresh, a_history, a_lengths, a_widths, a_leavingPlace, a_folds, a_slotPcs, a_slotDirections, a_slotProviders, a_baseCounters, a_entryTags, a_counters, a_usefulValues, a_counts, a_position, a_wantedTag) bit := by
  have h := xk_po hc hs hp hb (fun _ => rfl) K 4 1 (by omega) (by omega)
  rw [show (1 - 1) * 3 = 0 from rfl, pu_0] at h
  exact ⟨5, h⟩
end
end
section
/-! the relation's histories, folds and queue under copy, push, rewind, shift -/
section
variable {w m q P p s o row row' : Nat} {bit : Int32} {hx hx' xf xf' yb B B' lv : Nat → Int32}
theorem rl_fc (hc : rl_cfg w m q P) (h1 : ∀ j, j < 12 → xf' (row' * 12 + j) = xf (row * 12 + j)) (h2 : ∀ i, i < 96 → B' i = B i) (h : rl_f w m xf row B) : rl_f w m xf' row' B' := by
  intro t k t1 t4 hk
  have hL := cf_L2 hc.2.1.1 hc.2.1.2 t4
  have e := h1 ((t - 1) * 3 + k) (by omega)
  rw [← Nat.add_assoc, ← Nat.add_assoc] at e
  rw [e, h t k t1 t4 hk]
  exact fd_congr _ (fun i hi => (h2 i (by omega)).symm)
theorem rl_hcg {p' : Nat} (h1 : ∀ i, i < 96 → hx' ((p' + 256 - i) % 128) = hx ((p + 256 - i) % 128)) (h2 : ∀ i, i < 96 → B' i = B i) (h : rl_h hx p B) : rl_h hx' p' B' := fun i hi => by rw [h2 i hi, h i hi, h1 i hi]
theorem pu_rl (hc : rl_cfg w m q P) (hf : rl_f w m xf 16 B) (hb : fd_b01 B 96) (h0 : B' 0 = bit) (hs : ∀ i, i < 95 → B' (i + 1) = B i) (hl : ∀ t, 1 ≤ t → t ≤ 4 → lv t = B (cf_L m t - 1)) : rl_f w m (pu_f w m bit lv xf 12) 16 B' := by
  intro t k t1 t4 hk
  have hL := cf_L2 hc.2.1.1 hc.2.1.2 t4
  have hW := cf_W2 k hc.1.1 hc.1.2
  have ei : 16 * 12 + (t - 1) * 3 + k = 192 + ((t - 1) * 3 + k) := by omega
  have e := hf t k t1 t4 hk
  rw [ei] at e
  rw [ei, pu_in (by omega), pu_Nt t1 hk, e, hl t t1 t4, ← h0]
  exact fd_push hW.1 hW.2 hL.1 (fun i hi => hb i (by omega)) (fun i hi => hs i (by omega))
theorem bk_cp {a d i : Nat} (hi : i < 96) : bk (cp_A yb (a * 96) (d * 96) 96) d i = bk yb a i := cp_in hi
theorem bk_cpo {a d j i : Nat} (hj : j ≠ d) (hi : i < 96) : bk (cp_A yb (a * 96) (d * 96) 96) j i = bk yb j i := cp_out (by omega)
theorem bk_p0 : bk (upd (sh_A yb 0) 1536 bit) 16 0 = bit := pk_us
theorem bk_p1 {i : Nat} (hi : i < 95) : bk (upd (sh_A yb 0) 1536 bit) 16 (i + 1) = bk yb 16 i := by
  show upd (sh_A yb 0) 1536 bit (16 * 96 + (i + 1)) = yb (16 * 96 + i)
  rw [pk_un (by omega)]
  unfold sh_A
  rw [if_pos (by omega)]
  exact congrArg yb (by omega)
theorem bk_po {j i : Nat} (hj : j < 16) (hi : i < 96) : bk (upd (sh_A yb 0) 1536 bit) j i = bk yb j i := by
  show upd (sh_A yb 0) 1536 bit (j * 96 + i) = yb (j * 96 + i)
  rw [pk_un (by omega)]
  unfold sh_A
  rw [if_neg (by omega)]
theorem h_01 (h01 : ∀ i, i < 128 → hx i = 0 ∨ hx i = 1) (hn : rl_h hx p B) : fd_b01 B 96 := fun i hi => by
  rw [hn i hi]
  exact h01 _ (Nat.mod_lt _ (by omega))
theorem hf_push (hc : rl_cfg w m q P) (hs : s ≤ 16) (hp : p < 128) (hb : bit = 0 ∨ bit = 1) (h01 : ∀ i, i < 128 → hx i = 0 ∨ hx i = 1) (hn : rl_h hx p (bk yb 16)) (hq : ∀ j, j < s → rl_h hx (p + 129 - (s - j)) (bk yb j)) (fn : rl_f w m xf 16 (bk yb 16)) (fq : ∀ j, j < s → rl_f w m xf ((o + j) % 16) (bk yb j)) :
    rl_his s ((p + 1) % 128) (upd hx ((p + 1) % 128) bit) (upd (sh_A yb 0) 1536 bit) ∧ rl_fol w m s o (pu_f w m bit (fun t => hx ((p + 256 - (cf_L m t - 1)) % 128)) xf 12) (upd (sh_A yb 0) 1536 bit) := by
  refine ⟨⟨?_, ?_, ?_⟩, ?_, ?_⟩
  · intro i hi
    by_cases z : i = (p + 1) % 128
    · subst z
      rw [pk_us]; exact hb
    · rw [pk_un z]; exact h01 i hi
  · intro i hi
    rcases Nat.eq_zero_or_pos i with z | z
    · subst z
      rw [bk_p0, show ((p + 1) % 128 + 256 - 0) % 128 = (p + 1) % 128 by omega, pk_us]
    · obtain ⟨i', rfl⟩ : ∃ i', i = i' + 1 := ⟨i - 1, by omega⟩
      rw [bk_p1 (by omega), hn i' (by omega), show ((p + 1) % 128 + 256 - (i' + 1)) % 128 = (p + 256 - i') % 128 by omega, pk_un (by omega)]
  · intro j hj
    refine rl_hcg (fun i hi => ?_) (fun i hi => bk_po (by omega) hi) (hq j hj)
    rw [show ((p + 1) % 128 + 128 - (s - j) + 256 - i) % 128 = (p + 129 - (s - j) + 256 - i) % 128 by omega, pk_un (by omega)]
  · refine pu_rl hc fn (h_01 h01 hn) bk_p0 (fun i hi => bk_p1 hi) (fun t t1 t4 => ?_)
    have hL := cf_L2 hc.2.1.1 hc.2.1.2 t4
    exact (hn _ (by omega)).symm
  · intro j hj
    exact rl_fc hc (fun i hi => pu_out (by omega)) (fun i hi => bk_po (by omega) hi) (fq j hj)
theorem hf_pred (hc : rl_cfg w m q P) (hs : s < 16) (hp : p < 128) (hb : bit = 0 ∨ bit = 1) (H : rl_his s p hx yb) (F : rl_fol w m s o xf yb) :
    rl_his (s + 1) ((p + 1) % 128) (upd hx ((p + 1) % 128) bit) (upd (sh_A (cp_A yb (16 * 96) (s * 96) 96) 0) 1536 bit) ∧ rl_fol w m (s + 1) o (pu_f w m bit (fun t => hx ((p + 256 - (cf_L m t - 1)) % 128)) (cp_A xf (16 * 12) ((o + s) % 16 * 12) 12) 12) (upd (sh_A (cp_A yb (16 * 96) (s * 96) 96) 0) 1536 bit) := by
  refine hf_push hc (by omega) hp hb H.1 ?_ ?_ ?_ ?_
  · exact rl_hcg (fun i hi => rfl) (fun i hi => bk_cpo (by omega) hi) H.2.1
  · intro j hj
    rcases Nat.lt_or_ge j s with z | z
    · refine rl_hcg (fun i hi => ?_) (fun i hi => bk_cpo (by omega) hi) (H.2.2 j z)
      exact congrArg hx (by omega)
    · have e : j = s := by omega
      subst e
      refine rl_hcg (fun i hi => ?_) (fun i hi => bk_cp hi) H.2.1
      exact congrArg hx (by omega)
  · exact rl_fc hc (fun i hi => cp_out (by omega)) (fun i hi => bk_cpo (by omega) hi) F.1
  · intro j hj
    rcases Nat.lt_or_ge j s with z | z
    · have hne : (o + j) % 16 ≠ (o + s) % 16 := by omega
      exact rl_fc hc (fun i hi => cp_out (by omega)) (fun i hi => bk_cpo (by omega) hi) (F.2 j z)
    · have e : j = s := by omega
      subst e
      exact rl_fc hc (fun i hi => cp_in hi) (fun i hi => bk_cp hi) F.1
theorem hf_rew {j : Nat} (hc : rl_cfg w m q P) (hj : j < s) (hs : s ≤ 16) (hp : p < 128) (H : rl_his s p hx yb) (F : rl_fol w m s o xf yb) :
    rl_his j ((p + 256 - (s - j)) % 128) hx (cp_A yb (j * 96) (16 * 96) 96) ∧ rl_fol w m j o (cp_A xf ((o + j) % 16 * 12) (16 * 12) 12) (cp_A yb (j * 96) (16 * 96) 96) := by
  refine ⟨⟨H.1, ?_, ?_⟩, ?_, ?_⟩
  · refine rl_hcg (fun i hi => ?_) (fun i hi => bk_cp hi) (H.2.2 j hj)
    exact congrArg hx (by omega)
  · intro j' hj'
    refine rl_hcg (fun i hi => ?_) (fun i hi => bk_cpo (by omega) hi) (H.2.2 j' (by omega))
    exact congrArg hx (by omega)
  · exact rl_fc hc (fun i hi => cp_in hi) (fun i hi => bk_cp hi) (F.2 j hj)
  · intro j' hj'
    exact rl_fc hc (fun i hi => cp_out (by omega)) (fun i hi => bk_cpo (by omega) hi) (F.2 j' (by omega))
end
/-- Y's shift of the queue by one: n places done -/
def sl_A (a : Nat → Int32) (n : Nat) : Nat → Int32 := fun j => if j < n then a (j + 1) else a j
def bl_A (a : Nat → Int32) (n : Nat) : Nat → Int32 := fun j => if j < n * 96 then a (j + 96) else a j
theorem sl_0 {a : Nat → Int32} : sl_A a 0 = a := by
  funext j
  unfold sl_A
  rw [if_neg (by omega)]
theorem bl_0 {a : Nat → Int32} : bl_A a 0 = a := by
  funext j
  unfold bl_A
  rw [if_neg (by omega)]
theorem sl_step {a : Nat → Int32} {i : Nat} : upd (sl_A a i) i (sl_A a i (i + 1)) = sl_A a (i + 1) := by
  funext j
  have e : sl_A a i (i + 1) = a (i + 1) := by
    unfold sl_A
    rw [if_neg (by omega)]
  rw [e]
  by_cases z : j = i
  · subst z
    rw [pk_us]
    unfold sl_A
    rw [if_pos (by omega)]
  · rw [pk_un z]
    unfold sl_A
    by_cases y : j < i
    · rw [if_pos y, if_pos (by omega)]
    · rw [if_neg y, if_neg (by omega)]
theorem bl_step {a : Nat → Int32} {i : Nat} : cp_A (bl_A a i) ((i + 1) * 96) (i * 96) 96 = bl_A a (i + 1) := by
  funext j
  unfold cp_A bl_A
  by_cases z : i * 96 ≤ j ∧ j < i * 96 + 96
  · rw [if_pos z, if_neg (by omega), if_pos (by omega)]
    exact congrArg a (by omega)
  · rw [if_neg z]
    by_cases y : j < i * 96
    · rw [if_pos y, if_pos (by omega)]
    · rw [if_neg y, if_neg (by omega)]
section
variable {w m q P p s o : Nat} {hx xf yb xp xd xv yp yd yv : Nat → Int32}
theorem bk_bl {j i : Nat} (hj : j < s) (hi : i < 96) : bk (bl_A yb s) j i = bk yb (j + 1) i := by
  show bl_A yb s (j * 96 + i) = yb ((j + 1) * 96 + i)
  unfold bl_A
  rw [if_pos (by omega)]
  exact congrArg yb (by omega)
theorem bk_blo {i : Nat} (hs : s ≤ 16) : bk (bl_A yb s) 16 i = bk yb 16 i := by
  show bl_A yb s (16 * 96 + i) = yb (16 * 96 + i)
  unfold bl_A
  rw [if_neg (by omega)]
theorem hf_shift (hc : rl_cfg w m q P) (hs : s < 16) (H : rl_his (s + 1) p hx yb) (F : rl_fol w m (s + 1) o xf yb) : rl_his s p hx (bl_A yb s) ∧ rl_fol w m s ((o + 1) % 16) xf (bl_A yb s) := by
  refine ⟨⟨H.1, ?_, ?_⟩, ?_, ?_⟩
  · exact rl_hcg (fun i hi => rfl) (fun i hi => bk_blo (by omega)) H.2.1
  · intro j hj
    refine rl_hcg (fun i hi => ?_) (fun i hi => bk_bl hj hi) (H.2.2 (j + 1) (by omega))
    exact congrArg hx (by omega)
  · exact rl_fc hc (fun i hi => rfl) (fun i hi => bk_blo (by omega)) F.1
  · intro j hj
    refine rl_fc hc (fun i hi => ?_) (fun i hi => bk_bl hj hi) (F.2 (j + 1) (by omega))
    exact congrArg xf (by omega)
theorem qu_pred {x1 x2 x3 : Int32} (hs : s < 16) (h : rl_que s o xp xd xv yp yd yv) : rl_que (s + 1) o (upd xp ((o + s) % 16) x1) (upd xd ((o + s) % 16) x2) (upd xv ((o + s) % 16) x3) (upd yp s x1) (upd yd s x2) (upd yv s x3) := by
  intro i hi
  rcases Nat.lt_or_ge i s with z | z
  · have h1 : (o + i) % 16 ≠ (o + s) % 16 := by omega
    have h2 : i ≠ s := by omega
    rw [pk_un h1, pk_un h1, pk_un h1, pk_un h2, pk_un h2, pk_un h2]
    exact h i z
  · have e : i = s := by omega
    subst e
    rw [pk_us, pk_us, pk_us, pk_us, pk_us, pk_us]
    exact ⟨rfl, rfl, rfl⟩
theorem qu_le {j : Nat} (hj : j ≤ s) (h : rl_que s o xp xd xv yp yd yv) : rl_que j o xp xd xv yp yd yv := fun i hi => h i (by omega)
theorem qu_shift (h : rl_que (s + 1) o xp xd xv yp yd yv) : rl_que s ((o + 1) % 16) xp xd xv (sl_A yp s) (sl_A yd s) (sl_A yv s) := by
  intro i hi
  have e : ((o + 1) % 16 + i) % 16 = (o + (i + 1)) % 16 := by omega
  have h' := h (i + 1) (by omega)
  unfold sl_A
  rw [if_pos hi, if_pos hi, if_pos hi, e]
  exact h'
end
end
section
/-! training, first: the tables' relation under stores; step, clamp, move -/
section
variable {xb xt xc xu yc yt yu : Nat → Int32} {v : Int32}
theorem tb_b {e : Nat} (h : rl_tab xb xt xc xu yc yt yu) (he : e < 64) : rl_tab (upd xb e v) xt xc xu (upd yc e v) yt yu := by
  refine ⟨fun j hj => ?_, fun t' e' t1 t4 hj => ?_, h.2.2⟩
  · by_cases z : j = e
    · rw [z, pk_us, pk_us]
    · rw [pk_un z, pk_un z]; exact h.1 j hj
  · rw [pk_un (f := yc) (show t' * 64 + e' ≠ e by omega)]
    exact h.2.1 t' e' t1 t4 hj
theorem tb_c {t e : Nat} (h : rl_tab xb xt xc xu yc yt yu) (t1 : 1 ≤ t) (he : e < 32) : rl_tab xb xt (upd xc ((t - 1) * 32 + e) v) xu (upd yc (t * 64 + e) v) yt yu := by
  refine ⟨fun j hj => ?_, fun t' e' t1' t4 hj => ?_, h.2.2⟩
  · rw [pk_un (by omega)]; exact h.1 j hj
  · obtain ⟨h1, h2, h3⟩ := h.2.1 t' e' t1' t4 hj
    refine ⟨h1, ?_, h3⟩
    by_cases z : t' = t ∧ e' = e
    · rw [z.1, z.2, pk_us, pk_us]
    · rw [pk_un (by omega), pk_un (by omega)]; exact h2
theorem tb_t {t e : Nat} (h : rl_tab xb xt xc xu yc yt yu) (t1 : 1 ≤ t) (he : e < 32) : rl_tab xb (upd xt ((t - 1) * 32 + e) v) xc xu yc (upd yt (t * 64 + e) v) yu := by
  refine ⟨h.1, fun t' e' t1' t4 hj => ?_, h.2.2⟩
  obtain ⟨h1, h2, h3⟩ := h.2.1 t' e' t1' t4 hj
  refine ⟨?_, h2, h3⟩
  by_cases z : t' = t ∧ e' = e
  · rw [z.1, z.2, pk_us, pk_us]
  · rw [pk_un (by omega), pk_un (by omega)]; exact h1
theorem tb_u {t e n : Nat} (h : rl_tab xb xt xc xu yc yt yu) (t1 : 1 ≤ t) (he : e < 32) (hn : n ≤ 3) : rl_tab xb xt xc (upd xu ((t - 1) * 32 + e) (nI n)) yc yt (upd yu (t * 64 + e) (nI n)) := by
  refine ⟨h.1, fun t' e' t1' t4 hj => ?_, fun t' e' t1' t4 hj => ?_⟩
  · obtain ⟨h1, h2, h3⟩ := h.2.1 t' e' t1' t4 hj
    refine ⟨h1, h2, ?_⟩
    by_cases z : t' = t ∧ e' = e
    · rw [z.1, z.2, pk_us, pk_us]
    · rw [pk_un (by omega), pk_un (by omega)]; exact h3
  · by_cases z : t' = t ∧ e' = e
    · rw [z.1, z.2, pk_us]; exact ⟨n, hn, rfl⟩
    · rw [pk_un (by omega)]; exact h.2.2 t' e' t1' t4 hj
end
theorem up_same {f : Nat → Int32} {k : Nat} : upd f k (f k) = f := by
  funext j
  by_cases z : j = k
  · rw [z, pk_us]
  · rw [pk_un z]
def st_v (x up g : Int32) : Int32 := if up = 1 then (if g ≤ x then x else x + 1) else (if x ≤ 0 then x else x - 1)
def cl_v (x l g : Int32) : Int32 := if l ≤ x then (if x ≤ g then x else g) else l
theorem st_15 : ∀ b, b < 16 → st_v (nI b) 1 15 = nI (if 15 ≤ b then b else b + 1) ∧ st_v (nI b) 0 15 = nI (b - 1) ∧ cl_v (nI b + 1) 0 15 = nI (if 15 ≤ b then b else b + 1) ∧ cl_v (nI b - 1) 0 15 = nI (b - 1) := by decide +kernel
theorem st_3 : ∀ b, b < 4 → st_v (nI b) 1 3 = nI (if 3 ≤ b then b else b + 1) ∧ st_v (nI b) 0 3 = nI (b - 1) ∧ cl_v (nI b + 1) 0 3 = nI (if 3 ≤ b then b else b + 1) ∧ cl_v (nI b - 1) 0 3 = nI (b - 1) := by decide +kernel
theorem st_3n : ∀ b, b < 4 → ¬ nI b = 0 → nI b - 1 = nI (b - 1) := by decide +kernel
section
variable {f_logSize f_minHistory f_capacity f_agePeriod f_tableSize f_newest f_oldest f_queueLength f_bias f_ageClock f_foundProvider f_foundAlternate f_providerDirection f_alternateDirection f_foundFresh : Int32} {a_history a_lengths a_widths a_leavingPlace a_folds a_slotPcs a_slotDirections a_slotProviders a_baseCounters a_entryTags a_counters a_usefulValues a_counts a_position a_wantedTag : Nat → Int32} {g_w g_m g_q g_period g_n g_size g_bias g_clock : Int32} {b_bits b_slotPcs b_slotDirs b_slotProvs b_counters b_tags b_usefuls b_counts : Nat → Int32}
theorem xk_step {post : Int32 → Prop} {x up g : Int32} (K : post (st_v x up g)) : wpX_step post (f_logSize, f_minHistory, f_capacity, f_agePeriod, f_tableSize, f_newest, f_oldest, f_queueLength, f_bias, f_ageClock, f_foundProvider, f_foundAlternate, f_providerDirection, f_alternateDirection, f_foundFresh, a_history, a_lengths, a_widths, a_leavingPlace, a_folds, a_slotPcs, a_slotDirections, a_slotProviders, a_baseCounters, a_entryTags, a_counters, a_usefulValues, a_counts, a_position, a_wantedTag) x up g := by
  unfold st_v at K
  unfold wpX_step
  dsimp only
  by_cases h1 : up = 1
  · rw [if_pos h1] at K
    refine br_t h1 (br_c (fun h => ?_) (fun h => ?_))
    · rw [if_pos h] at K; exact K
    · rw [if_neg h] at K; exact K
  · rw [if_neg h1] at K
    refine br_f h1 (br_c (fun h => ?_) (fun h => ?_))
    · rw [if_pos h] at K; exact K
    · rw [if_neg h] at K; exact K
theorem xk_clamp {post : Int32 → Prop} {x l g : Int32} (K : post (cl_v x l g)) : wpX_clamp post (f_logSize, f_minHistory, f_capacity, f_agePeriod, f_tableSize, f_newest, f_oldest, f_queueLength, f_bias, f_ageClock, f_foundProvider, f_foundAlternate, f_providerDirection, f_alternateDirection, f_foundFresh, a_history, a_lengths, a_widths, a_leavingPlace, a_folds, a_slotPcs, a_slotDirections, a_slotProviders, a_baseCounters, a_entryTags, a_counters, a_usefulValues, a_counts, a_position, a_wantedTag) x l g := by
  unfold cl_v at K
  unfold wpX_clamp
  dsimp only
  by_cases h1 : l ≤ x
  · rw [if_pos h1] at K
    refine br_t h1 (br_c (fun h => ?_) (fun h => ?_))
    · rw [if_pos h] at K; exact K
    · rw [if_neg h] at K; exact K
  · rw [if_neg h1] at K
    exact br_f h1 K
theorem yk_clamp {post : Int32 → Prop} {x l g : Int32} (K : post (cl_v x l g)) : wpY_clamp post (g_w, g_m, g_q, g_period, g_n, g_size, g_bias, g_clock, b_bits, b_slotPcs, b_slotDirs, b_slotProvs, b_counters, b_tags, b_usefuls, b_counts) x l g := by
  unfold cl_v at K
  unfold wpY_clamp
  dsimp only
  by_cases h1 : l ≤ x
  · rw [if_pos h1] at K
    refine br_t h1 (br_c (fun h => ?_) (fun h => ?_))
    · rw [if_pos h] at K; exact K
    · rw [if_neg h] at K; exact K
  · rw [if_neg h1] at K
    exact br_f h1 K
theorem yk_m10 {post : SY → Prop} {c : Nat} {act z : Int32} (ha : act = 0 ∨ act = 1) (hl : c < 320) (K : post (g_w, g_m, g_q, g_period, g_n, g_size, g_bias, g_clock, b_bits, b_slotPcs, b_slotDirs, b_slotProvs, upd b_counters c (st_v (b_counters c) act z), b_tags, b_usefuls, b_counts)) : wY_move_10 post (nI c) act z g_w g_m g_q g_period g_n g_size g_bias g_clock b_bits b_slotPcs b_slotDirs b_slotProvs b_counters b_tags b_usefuls b_counts := by
  have hi : vp_in (nI c) 320 := vp_in_nI hl (by omega)
  unfold st_v at K
  unfold wY_move_10 wY_move_38
  rw [nI_clamp (by omega)]
  rcases ha with rfl | rfl
  · rw [if_neg (by decide)] at K
    refine br_f (by decide) (br_t rfl ⟨hi, br_c (fun h => ?_) (fun h => ⟨hi, hi, nm_e ?_⟩)⟩)
    · rw [if_pos h, up_same] at K; exact K
    · rw [if_neg h] at K; exact K
  · rw [if_pos rfl] at K
    refine br_t rfl ⟨hi, br_c (fun h => br_f (by decide) ?_) (fun h => ⟨hi, hi, nm_e (br_f (by decide) ?_)⟩)⟩
    · rw [if_pos h, up_same] at K; exact K
    · rw [if_neg h] at K; exact K
theorem tr_move {E : Nat → Nat} {T : Nat → Int32} {t : Nat} {act : Int32} (hl : px_loc E T a_position a_wantedTag) (hE : px_ok E) (ht : rl_tab a_baseCounters a_entryTags a_counters a_usefulValues b_counters b_tags b_usefuls) (t4 : t ≤ 4) (ha : act = 0 ∨ act = 1) :
    ∃ xb xc yc, rl_tab xb a_entryTags xc a_usefulValues yc b_tags b_usefuls ∧ (∀ post : SX → Prop, post (f_logSize, f_minHistory, f_capacity, f_agePeriod, f_tableSize, f_newest, f_oldest, f_queueLength, f_bias, f_ageClock, f_foundProvider, f_foundAlternate, f_providerDirection, f_alternateDirection, f_foundFresh, a_history, a_lengths, a_widths, a_leavingPlace, a_folds, a_slotPcs, a_slotDirections, a_slotProviders, xb, a_entryTags, xc, a_usefulValues, a_counts, a_position, a_wantedTag) → wpX_moveCounter post (f_logSize, f_minHistory, f_capacity, f_agePeriod, f_tableSize, f_newest, f_oldest, f_queueLength, f_bias, f_ageClock, f_foundProvider, f_foundAlternate, f_providerDirection, f_alternateDirection, f_foundFresh, a_history, a_lengths, a_widths, a_leavingPlace, a_folds, a_slotPcs, a_slotDirections, a_slotProviders, a_baseCounters, a_entryTags, a_counters, a_usefulValues, a_counts, a_position, a_wantedTag) (nI t) act) ∧ (∀ post : SY → Prop, post (g_w, g_m, g_q, g_period, g_n, g_size, g_bias, g_clock, b_bits, b_slotPcs, b_slotDirs, b_slotProvs, yc, b_tags, b_usefuls, b_counts) → wpY_move post (g_w, g_m, g_q, g_period, g_n, g_size, g_bias, g_clock, b_bits, b_slotPcs, b_slotDirs, b_slotProvs, b_counters, b_tags, b_usefuls, b_counts) (nI t) (nI (t * 64 + E t)) act) := by
  have hi : vp_in (nI t) 5 := vp_in_nI (by omega) (by omega)
  have ep : a_position (nI t).toNatClampNeg = nI (px_P E t) := by rw [nI_clamp (by omega)]; exact hl.1 t t4
  rcases Nat.eq_zero_or_pos t with h0 | h0
  · subst h0
    have he := hE.1
    have hv : vp_in (nI (E 0)) 64 := vp_in_nI he (by omega)
    have et : a_baseCounters (E 0) = b_counters (0 * 64 + E 0) := by rw [Nat.zero_mul, Nat.zero_add]; exact ht.1 _ he
    rw [px_0] at ep
    refine ⟨upd a_baseCounters (E 0) (st_v (b_counters (0 * 64 + E 0)) act 3), a_counters, upd b_counters (0 * 64 + E 0) (st_v (b_counters (0 * 64 + E 0)) act 3), ?_, fun post K => ?_, fun post K => ?_⟩
    · have h := tb_b (v := st_v (b_counters (0 * 64 + E 0)) act 3) ht he
      rw [Nat.zero_mul, Nat.zero_add] at h ⊢
      exact h
    · refine ⟨hi, nm_r ep (br_t rfl ⟨hv, ?_⟩)⟩
      rw [nI_clamp (by omega), et]
      exact xk_step ⟨hv, nm_e K⟩
    · exact br_t rfl (yk_m10 ha (by omega) K)
  · have he := hE.2 t h0 t4
    have hP : px_P E t = (t - 1) * 32 + E t := px_t h0
    have hlt := px_lt hE h0 t4
    have hv : vp_in (nI (px_P E t)) 128 := vp_in_nI hlt (by omega)
    have et : a_counters (px_P E t) = b_counters (t * 64 + E t) := by rw [hP]; exact (ht.2.1 t _ h0 t4 he).2.1
    refine ⟨a_baseCounters, upd a_counters (px_P E t) (st_v (b_counters (t * 64 + E t)) act 7), upd b_counters (t * 64 + E t) (st_v (b_counters (t * 64 + E t)) act 7), ?_, fun post K => ?_, fun post K => ?_⟩
    · rw [hP]; exact tb_c ht h0 he
    · refine ⟨hi, nm_r ep (br_f (nI_ne0 h0 (by omega)) ⟨hv, ?_⟩)⟩
      rw [nI_clamp (by omega), et]
      exact xk_step ⟨hv, nm_e K⟩
    · exact br_f (nI_ne0 h0 (by omega)) (yk_m10 ha (by omega) K)
/-- step (d) -/
theorem tr_d {E : Nat → Nat} {T : Nat → Int32} {p a : Nat} {pred act pc : Int32} (hl : px_loc E T a_position a_wantedTag) (hE : px_ok E) (ht : rl_tab a_baseCounters a_entryTags a_counters a_usefulValues b_counters b_tags b_usefuls) (p4 : p ≤ 4) (a4 : a ≤ 4) (ha : act = 0 ∨ act = 1) :
    ∃ xb xc yc, rl_tab xb a_entryTags xc a_usefulValues yc b_tags b_usefuls ∧ (∀ post : SX → Prop, wX_train_73 post pred act f_logSize f_minHistory f_capacity f_agePeriod f_tableSize f_newest f_oldest f_queueLength f_bias f_ageClock (nI p) (nI a) f_providerDirection f_alternateDirection f_foundFresh a_history a_lengths a_widths a_leavingPlace a_folds a_slotPcs a_slotDirections a_slotProviders xb a_entryTags xc a_usefulValues a_counts a_position a_wantedTag → wX_train_29 post pred act f_logSize f_minHistory f_capacity f_agePeriod f_tableSize f_newest f_oldest f_queueLength f_bias f_ageClock (nI p) (nI a) f_providerDirection f_alternateDirection f_foundFresh a_history a_lengths a_widths a_leavingPlace a_folds a_slotPcs a_slotDirections a_slotProviders a_baseCounters a_entryTags a_counters a_usefulValues a_counts a_position a_wantedTag) ∧ (∀ post : SY → Prop, wY_train_205 post act pc (nI p) g_w g_m g_q g_period g_n g_size g_bias g_clock b_bits b_slotPcs b_slotDirs b_slotProvs yc b_tags b_usefuls b_counts → wY_train_174 post act pc (nI p) (nI a) (nI (p * 64 + E p)) (nI (a * 64 + E a)) g_w g_m g_q g_period g_n g_size g_bias g_clock b_bits b_slotPcs b_slotDirs b_slotProvs b_counters b_tags b_usefuls b_counts) := by
  obtain ⟨xb, xc, yc, t1, X1, Y1⟩ := tr_move (f_logSize := f_logSize) (f_minHistory := f_minHistory) (f_capacity := f_capacity) (f_agePeriod := f_agePeriod) (f_tableSize := f_tableSize) (f_newest := f_newest) (f_oldest := f_oldest) (f_queueLength := f_queueLength) (f_bias := f_bias) (f_ageClock := f_ageClock) (f_foundProvider := nI p) (f_foundAlternate := nI a) (f_providerDirection := f_providerDirection) (f_alternateDirection := f_alternateDirection) (f_foundFresh := f_foundFresh) (a_history := a_history) (a_lengths := a_lengths) (a_widths := a_widths) (a_leavingPlace := a_leavingPlace) (a_folds := a_folds) (a_slotPcs := a_slotPcs) (a_slotDirections := a_slotDirections) (a_slotProviders := a_slotProviders) (a_baseCounters := a_baseCounters) (a_entryTags := a_entryTags) (a_counters := a_counters) (a_usefulValues := a_usefulValues) (a_counts := a_counts) (a_position := a_position) (a_wantedTag := a_wantedTag) (g_w := g_w) (g_m := g_m) (g_q := g_q) (g_period := g_period) (g_n := g_n) (g_size := g_size) (g_bias := g_bias) (g_clock := g_clock) (b_bits := b_bits) (b_slotPcs := b_slotPcs) (b_slotDirs := b_slotDirs) (b_slotProvs := b_slotProvs) (b_counters := b_counters) (b_tags := b_tags) (b_usefuls := b_usefuls) (b_counts := b_counts) hl hE ht p4 ha
  obtain ⟨xb2, xc2, yc2, t2, X2, Y2⟩ := tr_move (f_logSize := f_logSize) (f_minHistory := f_minHistory) (f_capacity := f_capacity) (f_agePeriod := f_agePeriod) (f_tableSize := f_tableSize) (f_newest := f_newest) (f_oldest := f_oldest) (f_queueLength := f_queueLength) (f_bias := f_bias) (f_ageClock := f_ageClock) (f_foundProvider := nI p) (f_foundAlternate := nI a) (f_providerDirection := f_providerDirection) (f_alternateDirection := f_alternateDirection) (f_foundFresh := f_foundFresh) (a_history := a_history) (a_lengths := a_lengths) (a_widths := a_widths) (a_leavingPlace := a_leavingPlace) (a_folds := a_folds) (a_slotPcs := a_slotPcs) (a_slotDirections := a_slotDirections) (a_slotProviders := a_slotProviders) (a_baseCounters := xb) (a_entryTags := a_entryTags) (a_counters := xc) (a_usefulValues := a_usefulValues) (a_counts := a_counts) (a_position := a_position) (a_wantedTag := a_wantedTag) (g_w := g_w) (g_m := g_m) (g_q := g_q) (g_period := g_period) (g_n := g_n) (g_size := g_size) (g_bias := g_bias) (g_clock := g_clock) (b_bits := b_bits) (b_slotPcs := b_slotPcs) (b_slotDirs := b_slotDirs) (b_slotProvs := b_slotProvs) (b_counters := yc) (b_tags := b_tags) (b_usefuls := b_usefuls) (b_counts := b_counts) hl hE t1 a4 ha
  by_cases p0 : p = 0
  · subst p0
    refine ⟨xb, xc, yc, t1, fun post K => ?_, fun post K => ?_⟩
    · unfold wX_train_29
      exact X1 _ (br_t (by decide) K)
    · unfold wY_train_174
      exact Y1 _ (br_t (by decide) K)
  · have h1 : 1 ≤ p := by omega
    have hi : vp_in (nI p) 5 := vp_in_nI (by omega) (by omega)
    have ep : a_position (nI p).toNatClampNeg = nI (px_P E p) := by rw [nI_clamp (by omega)]; exact hl.1 p p4
    have hlt := px_lt hE h1 p4
    have hv : vp_in (nI (px_P E p)) 128 := vp_in_nI hlt (by omega)
    have he := hE.2 p h1 p4
    have hy : vp_in (nI (p * 64 + E p)) 320 := vp_in_nI (by omega) (by omega)
    have eu : a_usefulValues (a_position (nI p).toNatClampNeg).toNatClampNeg = b_usefuls (nI (p * 64 + E p)).toNatClampNeg := by
      rw [ep, nI_clamp (by omega), nI_clamp (by omega), px_t h1]
      exact (ht.2.1 p _ h1 p4 he).2.2
    by_cases z : b_usefuls (nI (p * 64 + E p)).toNatClampNeg = 0
    · refine ⟨xb2, xc2, yc2, t2, fun post K => ?_, fun post K => ?_⟩
      · unfold wX_train_29
        exact X1 _ (br_f (nI_nle h1 (by omega)) ⟨hi, by rw [ep]; exact hv, br_t (eu.trans z) (X2 _ K)⟩)
      · unfold wY_train_174
        exact Y1 _ (br_f (nI_nle h1 (by omega)) ⟨hy, br_t z (Y2 _ K)⟩)
    · refine ⟨xb, xc, yc, t1, fun post K => ?_, fun post K => ?_⟩
      · unfold wX_train_29
        exact X1 _ (br_f (nI_nle h1 (by omega)) ⟨hi, by rw [ep]; exact hv, br_f (fun q => z (eu.symm.trans q)) K⟩)
      · unfold wY_train_174
        exact Y1 _ (br_f (nI_nle h1 (by omega)) ⟨hy, br_f z K⟩)
end
end
section
/-! training: bias, useful, allocation, age -/
section
variable {f_logSize f_minHistory f_capacity f_agePeriod f_tableSize f_newest f_oldest f_queueLength f_bias f_ageClock f_foundProvider f_foundAlternate f_providerDirection f_alternateDirection f_foundFresh : Int32} {a_history a_lengths a_widths a_leavingPlace a_folds a_slotPcs a_slotDirections a_slotProviders a_baseCounters a_entryTags a_counters a_usefulValues a_counts a_position a_wantedTag : Nat → Int32} {g_w g_m g_q g_period g_n g_size g_bias g_clock : Int32} {b_bits b_slotPcs b_slotDirs b_slotProvs b_counters b_tags b_usefuls b_counts : Nat → Int32} {w m q P b c p : Nat} {act pred pc dp da fr : Int32} {E : Nat → Nat} {T : Nat → Int32}
/-- step (b) -/
theorem tr_b (hb : b ≤ 15) : ∃ b', b' ≤ 15 ∧ (∀ post : SX → Prop, post (f_logSize, f_minHistory, f_capacity, f_agePeriod, f_tableSize, f_newest, f_oldest, f_queueLength, nI b', f_ageClock, f_foundProvider, f_foundAlternate, f_providerDirection, da, fr, a_history, a_lengths, a_widths, a_leavingPlace, a_folds, a_slotPcs, a_slotDirections, a_slotProviders, a_baseCounters, a_entryTags, a_counters, a_usefulValues, a_counts, a_position, a_wantedTag) → wpX_adjustBias post (f_logSize, f_minHistory, f_capacity, f_agePeriod, f_tableSize, f_newest, f_oldest, f_queueLength, nI b, f_ageClock, f_foundProvider, f_foundAlternate, f_providerDirection, da, fr, a_history, a_lengths, a_widths, a_leavingPlace, a_folds, a_slotPcs, a_slotDirections, a_slotProviders, a_baseCounters, a_entryTags, a_counters, a_usefulValues, a_counts, a_position, a_wantedTag) act) ∧
    (∀ (post : SY → Prop) (x2 x3 x4 x8 x9 : Int32), ¬ dp = da → wY_train_119 post act x2 x3 x4 dp da x8 x9 g_w g_m g_q g_period g_n g_size (nI b') g_clock b_bits b_slotPcs b_slotDirs b_slotProvs b_counters b_tags b_usefuls b_counts → ((fr = 0 → wY_train_119 post act x2 x3 x4 dp da x8 x9 g_w g_m g_q g_period g_n g_size (nI b) g_clock b_bits b_slotPcs b_slotDirs b_slotProvs b_counters b_tags b_usefuls b_counts) ∧ (¬ fr = 0 → ((dp = da → wY_train_119 post act x2 x3 x4 dp da x8 x9 g_w g_m g_q g_period g_n g_size (nI b) g_clock b_bits b_slotPcs b_slotDirs b_slotProvs b_counters b_tags b_usefuls b_counts) ∧ (¬ dp = da → ((da = act → wY_train_104 post act x2 x3 x4 dp da x8 x9 (nI b + 1) g_w g_m g_q g_period g_n g_size (nI b) g_clock b_bits b_slotPcs b_slotDirs b_slotProvs b_counters b_tags b_usefuls b_counts) ∧ (¬ da = act → wY_train_104 post act x2 x3 x4 dp da x8 x9 (nI b - 1) g_w g_m g_q g_period g_n g_size (nI b) g_clock b_bits b_slotPcs b_slotDirs b_slotProvs b_counters b_tags b_usefuls b_counts))))))) := by
  have s := st_15 b (by omega)
  by_cases hf : fr = 0
  · exact ⟨b, hb, fun post K => br_t hf K, fun post x2 x3 x4 x8 x9 hne K => br_t hf K⟩
  · by_cases hd : da = act
    · refine ⟨if 15 ≤ b then b else b + 1, by split <;> omega, fun post K => br_f hf (br_t hd ?_), fun post x2 x3 x4 x8 x9 hne K => br_f hf (br_f hne (br_t hd ?_))⟩
      · unfold wX_adjustBias_20
        refine xk_step ?_
        rw [s.1]
        exact K
      · unfold wY_train_104
        refine yk_clamp ?_
        rw [s.2.2.1]
        exact K
    · refine ⟨b - 1, by omega, fun post K => br_f hf (br_f hd ?_), fun post x2 x3 x4 x8 x9 hne K => br_f hf (br_f hne (br_f hd ?_))⟩
      · unfold wX_adjustBias_20
        refine xk_step ?_
        rw [s.2.1]
        exact K
      · unfold wY_train_104
        refine yk_clamp ?_
        rw [s.2.2.2]
        exact K
/-- step (c) -/
theorem tr_c (hl : px_loc E T a_position a_wantedTag) (hE : px_ok E) (ht : rl_tab a_baseCounters a_entryTags a_counters a_usefulValues b_counters b_tags b_usefuls) (p4 : p ≤ 4) (hne : ¬ dp = da) :
    ∃ xu yu, rl_tab a_baseCounters a_entryTags a_counters xu b_counters b_tags yu ∧ (∀ post : SX → Prop, post (f_logSize, f_minHistory, f_capacity, f_agePeriod, f_tableSize, f_newest, f_oldest, f_queueLength, f_bias, f_ageClock, nI p, f_foundAlternate, dp, f_alternateDirection, f_foundFresh, a_history, a_lengths, a_widths, a_leavingPlace, a_folds, a_slotPcs, a_slotDirections, a_slotProviders, a_baseCounters, a_entryTags, a_counters, xu, a_counts, a_position, a_wantedTag) → wpX_adjustUseful post (f_logSize, f_minHistory, f_capacity, f_agePeriod, f_tableSize, f_newest, f_oldest, f_queueLength, f_bias, f_ageClock, nI p, f_foundAlternate, dp, f_alternateDirection, f_foundFresh, a_history, a_lengths, a_widths, a_leavingPlace, a_folds, a_slotPcs, a_slotDirections, a_slotProviders, a_baseCounters, a_entryTags, a_counters, a_usefulValues, a_counts, a_position, a_wantedTag) act) ∧
    (∀ (post : SY → Prop) (x2 x4 x9 : Int32), wY_train_174 post act x2 (nI p) x4 (nI (p * 64 + E p)) x9 g_w g_m g_q g_period g_n g_size g_bias g_clock b_bits b_slotPcs b_slotDirs b_slotProvs b_counters b_tags yu b_counts → wY_train_119 post act x2 (nI p) x4 dp da (nI (p * 64 + E p)) x9 g_w g_m g_q g_period g_n g_size g_bias g_clock b_bits b_slotPcs b_slotDirs b_slotProvs b_counters b_tags b_usefuls b_counts) := by
  by_cases p0 : p = 0
  · subst p0
    exact ⟨a_usefulValues, b_usefuls, ht, fun post K => br_t (by decide) K, fun post x2 x4 x9 K => br_t (by decide) K⟩
  · have h1 : 1 ≤ p := by omega
    have he := hE.2 p h1 p4
    have hi : vp_in (nI p) 5 := vp_in_nI (by omega) (by omega)
    have hP : px_P E p = (p - 1) * 32 + E p := px_t h1
    have ep : a_position (nI p).toNatClampNeg = nI (px_P E p) := by rw [nI_clamp (by omega)]; exact hl.1 p p4
    have hlt := px_lt hE h1 p4
    have hv : vp_in (nI (px_P E p)) 128 := vp_in_nI hlt (by omega)
    have hy : vp_in (nI (p * 64 + E p)) 320 := vp_in_nI (by omega) (by omega)
    have ec : (nI (px_P E p)).toNatClampNeg = px_P E p := nI_clamp (by omega)
    have ey : (nI (p * 64 + E p)).toNatClampNeg = p * 64 + E p := nI_clamp (by omega)
    obtain ⟨n, hn, en⟩ := ht.2.2 p _ h1 p4 he
    have eu : a_usefulValues (px_P E p) = nI n := by rw [hP, ← en]; exact (ht.2.1 p _ h1 p4 he).2.2
    have s := st_3 n (by omega)
    by_cases hd : dp = act
    · refine ⟨upd a_usefulValues (px_P E p) (nI (if 3 ≤ n then n else n + 1)), upd b_usefuls (p * 64 + E p) (nI (if 3 ≤ n then n else n + 1)), ?_, fun post K => ?_, fun post x2 x4 x9 K => ?_⟩
      · rw [hP]; exact tb_u ht h1 he (by split <;> omega)
      · refine br_f (nI_nle h1 (by omega)) ⟨hi, nm_r ep (br_t hd ?_)⟩
        unfold wX_adjustUseful_30
        rw [ec, eu]
        refine ⟨hv, xk_step ?_⟩
        rw [s.1]
        exact ⟨hv, nm_e K⟩
      · refine br_f (nI_nle h1 (by omega)) (br_f hne (br_t hd ⟨hy, ?_⟩))
        unfold wY_train_157
        rw [ey, en]
        refine yk_clamp ?_
        rw [s.2.2.1]
        exact ⟨hy, nm_e K⟩
    · refine ⟨upd a_usefulValues (px_P E p) (nI (n - 1)), upd b_usefuls (p * 64 + E p) (nI (n - 1)), ?_, fun post K => ?_, fun post x2 x4 x9 K => ?_⟩
      · rw [hP]; exact tb_u ht h1 he (by omega)
      · refine br_f (nI_nle h1 (by omega)) ⟨hi, nm_r ep (br_f hd ?_)⟩
        unfold wX_adjustUseful_30
        rw [ec, eu]
        refine ⟨hv, xk_step ?_⟩
        rw [s.2.1]
        exact ⟨hv, nm_e K⟩
      · refine br_f (nI_nle h1 (by omega)) (br_f hne (br_f hd ⟨hy, ?_⟩))
        unfold wY_train_157
        rw [ey, en]
        refine yk_clamp ?_
        rw [s.2.2.2]
        exact ⟨hy, nm_e K⟩
/-- step (e): wearing down -/
theorem tr_w (hc : rl_cfg w m q P) (hl : px_loc (tg_E w m pc (bk b_bits 0)) T a_position a_wantedTag) : ∀ d t xu yu, 1 ≤ t → t + d = 5 → rl_tab a_baseCounters a_entryTags a_counters xu b_counters b_tags yu → (∀ t', t ≤ t' → t' ≤ 4 → ¬ yu (t' * 64 + tg_E w m pc (bk b_bits 0) t') = 0) →
    ∃ xu' yu', rl_tab a_baseCounters a_entryTags a_counters xu' b_counters b_tags yu' ∧ (∀ post : SX → Prop, post (f_logSize, f_minHistory, f_capacity, f_agePeriod, f_tableSize, f_newest, f_oldest, f_queueLength, f_bias, f_ageClock, f_foundProvider, f_foundAlternate, f_providerDirection, f_alternateDirection, f_foundFresh, a_history, a_lengths, a_widths, a_leavingPlace, a_folds, a_slotPcs, a_slotDirections, a_slotProviders, a_baseCounters, a_entryTags, a_counters, xu', upd a_counts 5 ((a_counts 5) + 1), a_position, a_wantedTag) → wX_allocate_80 post f_logSize f_minHistory f_capacity f_agePeriod f_tableSize f_newest f_oldest f_queueLength f_bias f_ageClock f_foundProvider f_foundAlternate f_providerDirection f_alternateDirection f_foundFresh (d + 1) (nI t) a_history a_lengths a_widths a_leavingPlace a_folds a_slotPcs a_slotDirections a_slotProviders a_baseCounters a_entryTags a_counters xu a_counts a_position a_wantedTag) ∧
    (∀ post : SY → Prop, post (nI w, nI m, g_q, g_period, nI (2 ^ w), g_size, g_bias, g_clock, b_bits, b_slotPcs, b_slotDirs, b_slotProvs, b_counters, b_tags, yu', upd a_counts 5 ((a_counts 5) + 1)) → wY_allocate_93 post pc (nI w) (nI m) g_q g_period (nI (2 ^ w)) g_size g_bias g_clock (d + 1) (nI t) b_bits b_slotPcs b_slotDirs b_slotProvs b_counters b_tags yu a_counts) := by
  have hE := px_E (w := w) (m := m) (pc := pc) (B := bk b_bits 0) hc.1.2
  intro d
  induction d with
  | zero =>
    intro t xu yu t1 h5 ht _
    have e : t = 5 := by omega
    subst e
    exact ⟨xu, yu, ht, fun post K => br_t (nI_lt (a := 4) (b := 5) (by omega) (by omega)) (nm_e K), fun post K => br_t (nI_lt (a := 4) (b := 5) (by omega) (by omega)) (nm_e K)⟩
  | succ d ih =>
    intro t xu yu t1 h5 ht hz
    have t4 : t ≤ 4 := by omega
    have he := hE.2 t t1 t4
    have hi : vp_in (nI t) 5 := vp_in_nI (by omega) (by omega)
    have hP : px_P (tg_E w m pc (bk b_bits 0)) t = (t - 1) * 32 + (tg_E w m pc (bk b_bits 0)) t := px_t t1
    have ep : a_position (nI t).toNatClampNeg = nI (px_P (tg_E w m pc (bk b_bits 0)) t) := by rw [nI_clamp (by omega)]; exact hl.1 t t4
    have hlt := px_lt hE t1 t4
    have hv : vp_in (nI (px_P (tg_E w m pc (bk b_bits 0)) t)) 128 := vp_in_nI hlt (by omega)
    have hy : vp_in (nI (t * 64 + tg_E w m pc (bk b_bits 0) t)) 320 := vp_in_nI (by omega) (by omega)
    have ec : (nI (px_P (tg_E w m pc (bk b_bits 0)) t)).toNatClampNeg = px_P (tg_E w m pc (bk b_bits 0)) t := nI_clamp (by omega)
    have ey : (nI (t * 64 + tg_E w m pc (bk b_bits 0) t)).toNatClampNeg = t * 64 + tg_E w m pc (bk b_bits 0) t := nI_clamp (by omega)
    obtain ⟨n, hn, en⟩ := ht.2.2 t _ t1 t4 he
    have eu : xu (px_P (tg_E w m pc (bk b_bits 0)) t) = nI n := by rw [hP, ← en]; exact (ht.2.1 t _ t1 t4 he).2.2
    have s := st_3 n (by omega)
    have n0 : ¬ nI n = 0 := by rw [← en]; exact hz t (Nat.le_refl t) t4
    have s2 := st_3n n (by omega) n0
    have ht2 := tb_u (n := n - 1) ht t1 he (by omega)
    rw [← hP] at ht2
    obtain ⟨xu', yu', t2, X2, Y2⟩ := ih (t + 1) (upd xu (px_P (tg_E w m pc (bk b_bits 0)) t) (nI (n - 1))) (upd yu (t * 64 + tg_E w m pc (bk b_bits 0) t) (nI (n - 1))) (by omega) (by omega) ht2
      (fun t' h1 h4 => by
        have he' := hE.2 t' (by omega) h4
        rw [pk_un (by omega)]
        exact hz t' (by omega) h4)
    refine ⟨xu', yu', t2, fun post K => ?_, fun post K => ?_⟩
    · refine br_f (nI_nlt (a := 4) (b := t) (by omega) (by omega)) ⟨hi, nm_r ep ⟨hv, ?_⟩⟩
      rw [ec, eu]
      refine xk_step ?_
      rw [s.2.1]
      exact ⟨hv, nm_e (nm_r (nI_1 t) (X2 post K))⟩
    · refine br_f (nI_nlt (a := 4) (b := t) (by omega) (by omega)) ?_
      refine yk_cell hc (h := 0) (by omega) t4 ?_
      refine ⟨hy, hy, nm_r (e' := upd yu (t * 64 + tg_E w m pc (bk b_bits 0) t) (nI (n - 1))) ?_ (nm_r (nI_1 t) (Y2 post K))⟩
      rw [ey, en, s2]
theorem tr_55 {post : SX → Prop} {k : Nat} {v : Int32} (hk : k < 128) (K : post (f_logSize, f_minHistory, f_capacity, f_agePeriod, f_tableSize, f_newest, f_oldest, f_queueLength, f_bias, f_ageClock, f_foundProvider, f_foundAlternate, f_providerDirection, f_alternateDirection, f_foundFresh, a_history, a_lengths, a_widths, a_leavingPlace, a_folds, a_slotPcs, a_slotDirections, a_slotProviders, a_baseCounters, a_entryTags, upd a_counters k v, a_usefulValues, upd a_counts 4 ((a_counts 4) + 1), a_position, a_wantedTag)) : wX_allocate_55 post v (nI k) f_logSize f_minHistory f_capacity f_agePeriod f_tableSize f_newest f_oldest f_queueLength f_bias f_ageClock f_foundProvider f_foundAlternate f_providerDirection f_alternateDirection f_foundFresh a_history a_lengths a_widths a_leavingPlace a_folds a_slotPcs a_slotDirections a_slotProviders a_baseCounters a_entryTags a_counters a_usefulValues a_counts a_position a_wantedTag := by
  unfold wX_allocate_55
  rw [nI_clamp (by omega)]
  exact ⟨vp_in_nI hk (by omega), nm_e (nm_e K)⟩
theorem tr_62 {post : SY → Prop} {k : Nat} {v : Int32} (hk : k < 320) (hz : b_usefuls k = 0) (K : post (g_w, g_m, g_q, g_period, g_n, g_size, g_bias, g_clock, b_bits, b_slotPcs, b_slotDirs, b_slotProvs, upd b_counters k v, b_tags, b_usefuls, upd b_counts 4 ((b_counts 4) + 1))) : wY_allocate_62 post (nI k) v (nI k) g_w g_m g_q g_period g_n g_size g_bias g_clock b_bits b_slotPcs b_slotDirs b_slotProvs b_counters b_tags b_usefuls b_counts := by
  have e : upd b_usefuls k 0 = b_usefuls := by
    have h := up_same (f := b_usefuls) (k := k)
    rw [hz] at h
    exact h
  unfold wY_allocate_62
  rw [nI_clamp (by omega), e]
  exact ⟨vp_in_nI hk (by omega), nm_e ⟨vp_in_nI hk (by omega), nm_e (nm_e K)⟩⟩
theorem tr_s (hc : rl_cfg w m q P) (hl : px_loc (tg_E w m pc (bk b_bits 0)) (tg_T m pc (bk b_bits 0)) a_position a_wantedTag) (ht : rl_tab a_baseCounters a_entryTags a_counters a_usefulValues b_counters b_tags b_usefuls) (p4 : p ≤ 4) : ∀ d t, p + 1 ≤ t → t + d = 5 → (∀ t', p + 1 ≤ t' → t' < t → ¬ b_usefuls (t' * 64 + tg_E w m pc (bk b_bits 0) t') = 0) →
    ∃ xt xc xu ct yc yt yu, rl_tab a_baseCounters xt xc xu yc yt yu ∧ (∀ post : SX → Prop, post (f_logSize, f_minHistory, f_capacity, f_agePeriod, f_tableSize, f_newest, f_oldest, f_queueLength, f_bias, f_ageClock, nI p, f_foundAlternate, f_providerDirection, f_alternateDirection, f_foundFresh, a_history, a_lengths, a_widths, a_leavingPlace, a_folds, a_slotPcs, a_slotDirections, a_slotProviders, a_baseCounters, xt, xc, xu, ct, a_position, a_wantedTag) → wX_allocate_7 post act f_logSize f_minHistory f_capacity f_agePeriod f_tableSize f_newest f_oldest f_queueLength f_bias f_ageClock (nI p) f_foundAlternate f_providerDirection f_alternateDirection f_foundFresh a_history a_lengths a_widths a_leavingPlace a_folds a_slotPcs a_slotDirections a_slotProviders a_baseCounters a_entryTags a_counters a_usefulValues a_counts a_position a_wantedTag (d + 1) (nI t)) ∧
    (∀ post : SY → Prop, post (nI w, nI m, g_q, g_period, nI (2 ^ w), g_size, g_bias, g_clock, b_bits, b_slotPcs, b_slotDirs, b_slotProvs, yc, yt, yu, ct) → wY_allocate_5 post (nI p) pc act (nI w) (nI m) g_q g_period (nI (2 ^ w)) g_size g_bias g_clock b_bits b_slotPcs b_slotDirs b_slotProvs b_counters b_tags b_usefuls a_counts (d + 1) (nI t)) := by
  have hE := px_E (w := w) (m := m) (pc := pc) (B := bk b_bits 0) hc.1.2
  intro d
  induction d with
  | zero =>
    intro t tp h5 hz
    have e : t = 5 := by omega
    subst e
    obtain ⟨xu, yu, t2, X2, Y2⟩ := tr_w (f_logSize := f_logSize) (f_minHistory := f_minHistory) (f_capacity := f_capacity) (f_agePeriod := f_agePeriod) (f_tableSize := f_tableSize) (f_newest := f_newest) (f_oldest := f_oldest) (f_queueLength := f_queueLength) (f_bias := f_bias) (f_ageClock := f_ageClock) (f_foundProvider := nI p) (f_foundAlternate := f_foundAlternate) (f_providerDirection := f_providerDirection) (f_alternateDirection := f_alternateDirection) (f_foundFresh := f_foundFresh) (a_history := a_history) (a_lengths := a_lengths) (a_widths := a_widths) (a_leavingPlace := a_leavingPlace) (a_folds := a_folds) (a_slotPcs := a_slotPcs) (a_slotDirections := a_slotDirections) (a_slotProviders := a_slotProviders) (a_baseCounters := a_baseCounters) (a_entryTags := a_entryTags) (a_counters := a_counters) (a_counts := a_counts) (a_position := a_position) (a_wantedTag := a_wantedTag) (g_q := g_q) (g_period := g_period) (g_size := g_size) (g_bias := g_bias) (g_clock := g_clock) (b_bits := b_bits) (b_slotPcs := b_slotPcs) (b_slotDirs := b_slotDirs) (b_slotProvs := b_slotProvs) (b_counters := b_counters) (b_tags := b_tags) (T := tg_T m pc (bk b_bits 0)) hc hl (4 - p) (p + 1) a_usefulValues b_usefuls (by omega) (by omega) ht (fun t' h1 h4 => hz t' h1 (by omega))
    refine ⟨a_entryTags, a_counters, xu, upd a_counts 5 ((a_counts 5) + 1), b_counters, b_tags, yu, t2, fun post K => ?_, fun post K => ?_⟩
    · exact br_t (nI_lt (a := 4) (b := 5) (by omega) (by omega)) (nm_r (nI_1 p) ⟨_, X2 post K⟩)
    · exact br_t (nI_lt (a := 4) (b := 5) (by omega) (by omega)) (nm_r (nI_1 p) ⟨_, Y2 post K⟩)
  | succ d ih =>
    intro t tp h5 hz
    have t1 : 1 ≤ t := by omega
    have t4 : t ≤ 4 := by omega
    have he := hE.2 t t1 t4
    have hi : vp_in (nI t) 5 := vp_in_nI (by omega) (by omega)
    have hP : px_P (tg_E w m pc (bk b_bits 0)) t = (t - 1) * 32 + (tg_E w m pc (bk b_bits 0)) t := px_t t1
    have ep : a_position (nI t).toNatClampNeg = nI (px_P (tg_E w m pc (bk b_bits 0)) t) := by rw [nI_clamp (by omega)]; exact hl.1 t t4
    have ew : a_wantedTag (nI t).toNatClampNeg = tg_T m pc (bk b_bits 0) t := by rw [nI_clamp (by omega)]; exact hl.2 t t1 t4
    have hlt := px_lt hE t1 t4
    have hv : vp_in (nI (px_P (tg_E w m pc (bk b_bits 0)) t)) 128 := vp_in_nI hlt (by omega)
    have hy : vp_in (nI (t * 64 + tg_E w m pc (bk b_bits 0) t)) 320 := vp_in_nI (by omega) (by omega)
    have ec : (nI (px_P (tg_E w m pc (bk b_bits 0)) t)).toNatClampNeg = px_P (tg_E w m pc (bk b_bits 0)) t := nI_clamp (by omega)
    have ey : (nI (t * 64 + tg_E w m pc (bk b_bits 0) t)).toNatClampNeg = t * 64 + tg_E w m pc (bk b_bits 0) t := nI_clamp (by omega)
    have eu : a_usefulValues (px_P (tg_E w m pc (bk b_bits 0)) t) = b_usefuls (t * 64 + tg_E w m pc (bk b_bits 0) t) := by rw [hP]; exact (ht.2.1 t _ t1 t4 he).2.2
    by_cases z : b_usefuls (t * 64 + tg_E w m pc (bk b_bits 0) t) = 0
    · have ht2 := tb_c (v := if act = 1 then 4 else 3) (tb_t (v := tg_T m pc (bk b_bits 0) t) ht t1 he) t1 he
      rw [← hP] at ht2
      refine ⟨upd a_entryTags (px_P (tg_E w m pc (bk b_bits 0)) t) (tg_T m pc (bk b_bits 0) t), upd a_counters (px_P (tg_E w m pc (bk b_bits 0)) t) (if act = 1 then 4 else 3), a_usefulValues, upd a_counts 4 ((a_counts 4) + 1), upd b_counters (t * 64 + tg_E w m pc (bk b_bits 0) t) (if act = 1 then 4 else 3), upd b_tags (t * 64 + tg_E w m pc (bk b_bits 0) t) (tg_T m pc (bk b_bits 0) t), b_usefuls, ht2, fun post K => ?_, fun post K => ?_⟩
      · refine br_f (nI_nlt (a := 4) (b := t) (by omega) (by omega)) ⟨hi, nm_r ep ⟨hv, ?_⟩⟩
        rw [ec, eu, ew]
        refine br_t z ⟨hi, hv, nm_e (br_c (fun a1 => ?_) (fun a1 => ?_))⟩
        · rw [if_pos a1] at K; exact tr_55 hlt K
        · rw [if_neg a1] at K; exact tr_55 hlt K
      · refine br_f (nI_nlt (a := 4) (b := t) (by omega) (by omega)) ?_
        refine yk_cell hc (h := 0) (by omega) t4 ?_
        rw [ey]
        refine ⟨hy, br_t z ?_⟩
        refine yk_tag hc (h := 0) (by omega) t1 t4 ?_
        refine ⟨hy, nm_e (br_c (fun a1 => ?_) (fun a1 => ?_))⟩
        · rw [if_pos a1] at K; exact tr_62 (by omega) z K
        · rw [if_neg a1] at K; exact tr_62 (by omega) z K
    · obtain ⟨xt, xc, xu, ct, yc, yt, yu, t2, X2, Y2⟩ := ih (t + 1) (by omega) (by omega) (fun t' h1 h2 => by
        by_cases e : t' = t
        · rw [e]; exact z
        · exact hz t' h1 (by omega))
      refine ⟨xt, xc, xu, ct, yc, yt, yu, t2, fun post K => ?_, fun post K => ?_⟩
      · refine br_f (nI_nlt (a := 4) (b := t) (by omega) (by omega)) ⟨hi, nm_r ep ⟨hv, ?_⟩⟩
        rw [ec, eu]
        exact br_f z (nm_r (nI_1 t) (X2 post K))
      · refine br_f (nI_nlt (a := 4) (b := t) (by omega) (by omega)) ?_
        refine yk_cell hc (h := 0) (by omega) t4 ?_
        rw [ey]
        exact ⟨hy, br_f z (nm_r (nI_1 t) (Y2 post K))⟩
/-- step (e) -/
theorem tr_e (hc : rl_cfg w m q P) (hl : px_loc (tg_E w m pc (bk b_bits 0)) (tg_T m pc (bk b_bits 0)) a_position a_wantedTag) (ht : rl_tab a_baseCounters a_entryTags a_counters a_usefulValues b_counters b_tags b_usefuls) (p4 : p ≤ 4) :
    ∃ xt xc xu ct yc yt yu, rl_tab a_baseCounters xt xc xu yc yt yu ∧ (∀ post : SX → Prop, wX_train_93 post f_logSize f_minHistory f_capacity f_agePeriod f_tableSize f_newest f_oldest f_queueLength f_bias f_ageClock (nI p) f_foundAlternate f_providerDirection f_alternateDirection f_foundFresh a_history a_lengths a_widths a_leavingPlace a_folds a_slotPcs a_slotDirections a_slotProviders a_baseCounters xt xc xu ct a_position a_wantedTag → wX_train_73 post (b_slotDirs 0) act f_logSize f_minHistory f_capacity f_agePeriod f_tableSize f_newest f_oldest f_queueLength f_bias f_ageClock (nI p) f_foundAlternate f_providerDirection f_alternateDirection f_foundFresh a_history a_lengths a_widths a_leavingPlace a_folds a_slotPcs a_slotDirections a_slotProviders a_baseCounters a_entryTags a_counters a_usefulValues a_counts a_position a_wantedTag) ∧
    (∀ post : SY → Prop, wY_train_227 post (nI w) (nI m) g_q g_period (nI (2 ^ w)) g_size g_bias g_clock b_bits b_slotPcs b_slotDirs b_slotProvs yc yt yu ct → wY_train_205 post act pc (nI p) (nI w) (nI m) g_q g_period (nI (2 ^ w)) g_size g_bias g_clock b_bits b_slotPcs b_slotDirs b_slotProvs b_counters b_tags b_usefuls a_counts) := by
  by_cases h : b_slotDirs 0 = act
  · exact ⟨a_entryTags, a_counters, a_usefulValues, a_counts, b_counters, b_tags, b_usefuls, ht, fun post K => br_t h K, fun post K => br_t h K⟩
  · by_cases h4 : p = 4
    · subst h4
      exact ⟨a_entryTags, a_counters, a_usefulValues, a_counts, b_counters, b_tags, b_usefuls, ht, fun post K => br_f h (br_t (nI_le (a := 4) (b := 4) (by omega) (by omega)) K), fun post K => br_f h (br_t (nI_le (a := 4) (b := 4) (by omega) (by omega)) K)⟩
    · obtain ⟨xt, xc, xu, ct, yc, yt, yu, t2, X2, Y2⟩ := tr_s (f_logSize := f_logSize) (f_minHistory := f_minHistory) (f_capacity := f_capacity) (f_agePeriod := f_agePeriod) (f_tableSize := f_tableSize) (f_newest := f_newest) (f_oldest := f_oldest) (f_queueLength := f_queueLength) (f_bias := f_bias) (f_ageClock := f_ageClock) (f_foundAlternate := f_foundAlternate) (f_providerDirection := f_providerDirection) (f_alternateDirection := f_alternateDirection) (f_foundFresh := f_foundFresh) (a_history := a_history) (a_lengths := a_lengths) (a_widths := a_widths) (a_leavingPlace := a_leavingPlace) (a_folds := a_folds) (a_slotPcs := a_slotPcs) (a_slotDirections := a_slotDirections) (a_slotProviders := a_slotProviders) (a_baseCounters := a_baseCounters) (a_entryTags := a_entryTags) (a_counters := a_counters) (a_usefulValues := a_usefulValues) (a_counts := a_counts) (a_position := a_position) (a_wantedTag := a_wantedTag) (g_q := g_q) (g_period := g_period) (g_size := g_size) (g_bias := g_bias) (g_clock := g_clock) (b_bits := b_bits) (b_slotPcs := b_slotPcs) (b_slotDirs := b_slotDirs) (b_slotProvs := b_slotProvs) (b_counters := b_counters) (b_tags := b_tags) (b_usefuls := b_usefuls) (act := act) hc hl ht p4 (4 - p) (p + 1) (Nat.le_refl _) (by omega) (fun t' h1 h2 => by omega)
      refine ⟨xt, xc, xu, ct, yc, yt, yu, t2, fun post K => ?_, fun post K => ?_⟩
      · exact br_f h (br_f (nI_ge (a := p) (b := 4) (by omega) (by omega)) (nm_r (nI_1 p) ⟨_, X2 _ K⟩))
      · exact br_f h (br_f (nI_ge (a := p) (b := 4) (by omega) (by omega)) (nm_r (nI_1 p) ⟨_, Y2 _ K⟩))
end
def hv_X (u : Nat → Int32) (n : Nat) : Nat → Int32 := fun j => if j < n then (((u j).toUInt32 >>> ((1 : Int32).toUInt32 &&& Int32.toUInt32 31)).toInt32) else u j
def hv_Y (u : Nat → Int32) (n : Nat) : Nat → Int32 := fun j => if 64 ≤ j ∧ j < n then (u j) >>> ((1 : Int32) &&& 31) else u j
theorem hv_X0 {u : Nat → Int32} : hv_X u 0 = u := by
  funext j
  unfold hv_X
  rw [if_neg (by omega)]
theorem hv_Y0 {u : Nat → Int32} : hv_Y u 64 = u := by
  funext j
  unfold hv_Y
  rw [if_neg (by omega)]
theorem hv_Xs {u : Nat → Int32} {i : Nat} : upd (hv_X u i) i (((hv_X u i i).toUInt32 >>> ((1 : Int32).toUInt32 &&& Int32.toUInt32 31)).toInt32) = hv_X u (i + 1) := by
  funext j
  have e : hv_X u i i = u i := if_neg (by omega)
  rw [e]
  by_cases z : j = i
  · rw [z, pk_us]
    unfold hv_X
    rw [if_pos (by omega)]
  · rw [pk_un z]
    unfold hv_X
    by_cases y : j < i
    · rw [if_pos y, if_pos (by omega)]
    · rw [if_neg y, if_neg (by omega)]
theorem hv_Ys {u : Nat → Int32} {i : Nat} (hi : 64 ≤ i) : upd (hv_Y u i) i ((hv_Y u i i) >>> ((1 : Int32) &&& 31)) = hv_Y u (i + 1) := by
  funext j
  have e : hv_Y u i i = u i := if_neg (by omega)
  rw [e]
  by_cases z : j = i
  · rw [z, pk_us]
    unfold hv_Y
    rw [if_pos (by omega)]
  · rw [pk_un z]
    unfold hv_Y
    by_cases y : 64 ≤ j ∧ j < i
    · rw [if_pos y, if_pos (by omega)]
    · rw [if_neg y, if_neg (by omega)]
theorem hv_4 : ∀ n, n < 4 → (((nI n).toUInt32 >>> ((1 : Int32).toUInt32 &&& Int32.toUInt32 31)).toInt32) = nI (n / 2) ∧ (nI n) >>> ((1 : Int32) &&& 31) = nI (n / 2) := by decide +kernel
theorem hv_tab {xb xt xc xu yc yt yu : Nat → Int32} (h : rl_tab xb xt xc xu yc yt yu) : rl_tab xb xt xc (hv_X xu 128) yc yt (hv_Y yu 320) := by
  refine ⟨h.1, fun t e t1 t4 he => ?_, fun t e t1 t4 he => ?_⟩
  · obtain ⟨h1, h2, h3⟩ := h.2.1 t e t1 t4 he
    obtain ⟨n, hn, en⟩ := h.2.2 t e t1 t4 he
    have s := hv_4 n (by omega)
    refine ⟨h1, h2, ?_⟩
    unfold hv_X hv_Y
    rw [if_pos (by omega), if_pos (by omega), h3, en, s.1, s.2]
  · obtain ⟨n, hn, en⟩ := h.2.2 t e t1 t4 he
    refine ⟨n / 2, by omega, ?_⟩
    unfold hv_Y
    rw [if_pos (by omega), en, (hv_4 n (by omega)).2]
section
variable {f_logSize f_minHistory f_capacity f_agePeriod f_tableSize f_newest f_oldest f_queueLength f_bias f_ageClock f_foundProvider f_foundAlternate f_providerDirection f_alternateDirection f_foundFresh : Int32} {a_history a_lengths a_widths a_leavingPlace a_folds a_slotPcs a_slotDirections a_slotProviders a_baseCounters a_entryTags a_counters a_usefulValues a_counts a_position a_wantedTag : Nat → Int32} {g_w g_m g_q g_period g_n g_size g_bias g_clock : Int32} {b_bits b_slotPcs b_slotDirs b_slotProvs b_counters b_tags b_usefuls b_counts : Nat → Int32} {P c : Nat}
theorem tr_hx {post : SX → Prop} (K : post (f_logSize, f_minHistory, f_capacity, f_agePeriod, f_tableSize, f_newest, f_oldest, f_queueLength, f_bias, f_ageClock, f_foundProvider, f_foundAlternate, f_providerDirection, f_alternateDirection, f_foundFresh, a_history, a_lengths, a_widths, a_leavingPlace, a_folds, a_slotPcs, a_slotDirections, a_slotProviders, a_baseCounters, a_entryTags, a_counters, hv_X a_usefulValues 128, upd a_counts 6 ((a_counts 6) + 1), a_position, a_wantedTag)) : ∀ n i, i ≤ 128 → 128 - i < n → wX_advanceAge_29 post f_logSize f_minHistory f_capacity f_agePeriod f_tableSize f_newest f_oldest f_queueLength f_bias f_ageClock f_foundProvider f_foundAlternate f_providerDirection f_alternateDirection f_foundFresh n (nI i) a_history a_lengths a_widths a_leavingPlace a_folds a_slotPcs a_slotDirections a_slotProviders a_baseCounters a_entryTags a_counters (hv_X a_usefulValues i) a_counts a_position a_wantedTag := by
  intro n
  induction n with
  | zero => intro i _ hn; omega
  | succ n ih =>
    intro i hi hn
    rcases Nat.lt_or_ge i 128 with z | z
    · have hv : vp_in (nI i) 128 := vp_in_nI z (by omega)
      refine br_f (nI_ge (b := 128) z (by omega)) ⟨hv, hv, nm_r (e' := hv_X a_usefulValues (i + 1)) ?_ (nm_r (nI_1 i) (ih (i + 1) (by omega) (by omega)))⟩
      rw [nI_clamp (by omega)]
      exact hv_Xs
    · have e : i = 128 := by omega
      subst e
      exact br_t (nI_le (a := 128) (by omega) (by omega)) (nm_e K)
theorem tr_hy {post : SY → Prop} (K : post (g_w, g_m, g_q, g_period, g_n, g_size, g_bias, g_clock, b_bits, b_slotPcs, b_slotDirs, b_slotProvs, b_counters, b_tags, hv_Y b_usefuls 320, upd b_counts 6 ((b_counts 6) + 1))) : ∀ n i, 64 ≤ i → i ≤ 320 → 320 - i < n → wY_train_257 post g_w g_m g_q g_period g_n g_size g_bias g_clock n (nI i) b_bits b_slotPcs b_slotDirs b_slotProvs b_counters b_tags (hv_Y b_usefuls i) b_counts := by
  intro n
  induction n with
  | zero => intro i _ _ hn; omega
  | succ n ih =>
    intro i h64 hi hn
    rcases Nat.lt_or_ge i 320 with z | z
    · have hv : vp_in (nI i) 320 := vp_in_nI z (by omega)
      refine br_f (nI_ge (b := 320) z (by omega)) ⟨hv, hv, nm_r (e' := hv_Y b_usefuls (i + 1)) ?_ (nm_r (nI_1 i) (ih (i + 1) (by omega) (by omega) (by omega)))⟩
      rw [nI_clamp (by omega)]
      exact hv_Ys h64
    · have e : i = 320 := by omega
      subst e
      exact br_t (nI_le (a := 320) (by omega) (by omega)) (nm_e K)
/-- step (f) -/
theorem tr_f (ht : rl_tab a_baseCounters a_entryTags a_counters a_usefulValues b_counters b_tags b_usefuls) (hP : P ≤ 64) (hc : c < P) :
    ∃ c' xu ct yu, c' < P ∧ rl_tab a_baseCounters a_entryTags a_counters xu b_counters b_tags yu ∧ (∀ post : SX → Prop, post (f_logSize, f_minHistory, f_capacity, nI P, f_tableSize, f_newest, f_oldest, f_queueLength, f_bias, nI c', f_foundProvider, f_foundAlternate, f_providerDirection, f_alternateDirection, f_foundFresh, a_history, a_lengths, a_widths, a_leavingPlace, a_folds, a_slotPcs, a_slotDirections, a_slotProviders, a_baseCounters, a_entryTags, a_counters, xu, ct, a_position, a_wantedTag) → wX_train_93 post f_logSize f_minHistory f_capacity (nI P) f_tableSize f_newest f_oldest f_queueLength f_bias (nI c) f_foundProvider f_foundAlternate f_providerDirection f_alternateDirection f_foundFresh a_history a_lengths a_widths a_leavingPlace a_folds a_slotPcs a_slotDirections a_slotProviders a_baseCounters a_entryTags a_counters a_usefulValues a_counts a_position a_wantedTag) ∧
    (∀ post : SY → Prop, post (g_w, g_m, g_q, nI P, g_n, g_size, g_bias, nI c', b_bits, b_slotPcs, b_slotDirs, b_slotProvs, b_counters, b_tags, yu, ct) → wY_train_227 post g_w g_m g_q (nI P) g_n g_size g_bias (nI c) b_bits b_slotPcs b_slotDirs b_slotProvs b_counters b_tags b_usefuls a_counts) := by
  rcases Nat.lt_or_ge (c + 1) P with h | h
  · refine ⟨c + 1, a_usefulValues, a_counts, b_usefuls, h, ht, fun post K => ?_, fun post K => ?_⟩
    · exact nm_r (nI_1 c) (br_f (nI_ge h (by omega)) K)
    · exact nm_r (nI_1 c) (br_f (fun e => by rw [nI_eq (by omega) (by omega)] at e; omega) K)
  · have e : c + 1 = P := by omega
    refine ⟨0, hv_X a_usefulValues 128, upd a_counts 6 ((a_counts 6) + 1), hv_Y b_usefuls 320, by omega, hv_tab ht, fun post K => ?_, fun post K => ?_⟩
    · have H := fun (post : SX → Prop) K => tr_hx (post := post) (f_logSize := f_logSize) (f_minHistory := f_minHistory) (f_capacity := f_capacity) (f_agePeriod := nI P) (f_tableSize := f_tableSize) (f_newest := f_newest) (f_oldest := f_oldest) (f_queueLength := f_queueLength) (f_bias := f_bias) (f_ageClock := nI 0) (f_foundProvider := f_foundProvider) (f_foundAlternate := f_foundAlternate) (f_providerDirection := f_providerDirection) (f_alternateDirection := f_alternateDirection) (f_foundFresh := f_foundFresh) (a_history := a_history) (a_lengths := a_lengths) (a_widths := a_widths) (a_leavingPlace := a_leavingPlace) (a_folds := a_folds) (a_slotPcs := a_slotPcs) (a_slotDirections := a_slotDirections) (a_slotProviders := a_slotProviders) (a_baseCounters := a_baseCounters) (a_entryTags := a_entryTags) (a_counters := a_counters) (a_usefulValues := a_usefulValues) (a_counts := a_counts) (a_position := a_position) (a_wantedTag := a_wantedTag) K 129 0 (by omega) (by omega)
      rw [hv_X0] at H
      exact nm_r (nI_1 c) (br_t (nI_le (by omega) (by omega)) ⟨129, H _ K⟩)
    · have H := fun (post : SY → Prop) K => tr_hy (post := post) (g_w := g_w) (g_m := g_m) (g_q := g_q) (g_period := nI P) (g_n := g_n) (g_size := g_size) (g_bias := g_bias) (g_clock := nI 0) (b_bits := b_bits) (b_slotPcs := b_slotPcs) (b_slotDirs := b_slotDirs) (b_slotProvs := b_slotProvs) (b_counters := b_counters) (b_tags := b_tags) (b_usefuls := b_usefuls) (b_counts := a_counts) K 257 64 (by omega) (by omega) (by omega)
      rw [hv_Y0] at H
      exact nm_r (nI_1 c) (br_t (by rw [e]) ⟨257, H _ K⟩)
end
end
section
/-! training, joined -/
section
variable {f_logSize f_minHistory f_capacity f_agePeriod f_tableSize f_newest f_oldest f_queueLength f_bias f_ageClock f_foundProvider f_foundAlternate f_providerDirection f_alternateDirection f_foundFresh : Int32} {a_history a_lengths a_widths a_leavingPlace a_folds a_slotPcs a_slotDirections a_slotProviders a_baseCounters a_entryTags a_counters a_usefulValues a_counts a_position a_wantedTag : Nat → Int32} {g_w g_m g_q g_period g_n g_size g_bias g_clock : Int32} {b_bits b_slotPcs b_slotDirs b_slotProvs b_counters b_tags b_usefuls b_counts : Nat → Int32} {w m q P b c p a row : Nat} {act : Int32}
theorem tr_abc (hc : rl_cfg w m q P) (hr : row ≤ 16) (hf : rl_f w m a_folds row (bk b_bits 0)) (ht : rl_tab a_baseCounters a_entryTags a_counters a_usefulValues b_counters b_tags b_usefuls) (hb : b ≤ 15)
    (ep : p = lk_m b_tags (tg_E w m (b_slotPcs 0) (bk b_bits 0)) (tg_T m (b_slotPcs 0) (bk b_bits 0)) 4) (ea : a = lk_m b_tags (tg_E w m (b_slotPcs 0) (bk b_bits 0)) (tg_T m (b_slotPcs 0) (bk b_bits 0)) (p - 1)) :
    ∃ b' xu yu dp da fr pos wt, b' ≤ 15 ∧ px_loc (tg_E w m (b_slotPcs 0) (bk b_bits 0)) (tg_T m (b_slotPcs 0) (bk b_bits 0)) pos wt ∧ rl_tab a_baseCounters a_entryTags a_counters xu b_counters b_tags yu ∧
    (∀ (post : SX → Prop) (pred : Int32), wX_train_29 post pred act (nI w) f_minHistory f_capacity f_agePeriod (nI (2 ^ w)) f_newest f_oldest f_queueLength (nI b') f_ageClock (nI p) (nI a) dp da fr a_history a_lengths a_widths a_leavingPlace a_folds a_slotPcs a_slotDirections a_slotProviders a_baseCounters a_entryTags a_counters xu a_counts pos wt → wpX_train post (nI w, f_minHistory, f_capacity, f_agePeriod, nI (2 ^ w), f_newest, f_oldest, f_queueLength, nI b, f_ageClock, f_foundProvider, f_foundAlternate, f_providerDirection, f_alternateDirection, f_foundFresh, a_history, a_lengths, a_widths, a_leavingPlace, a_folds, a_slotPcs, a_slotDirections, a_slotProviders, a_baseCounters, a_entryTags, a_counters, a_usefulValues, a_counts, a_position, a_wantedTag) (b_slotPcs 0) (nI row) pred act) ∧
    (∀ post : SY → Prop, wY_train_174 post act (b_slotPcs 0) (nI p) (nI a) (nI (p * 64 + tg_E w m (b_slotPcs 0) (bk b_bits 0) p)) (nI (a * 64 + tg_E w m (b_slotPcs 0) (bk b_bits 0) a)) (nI w) (nI m) g_q g_period (nI (2 ^ w)) g_size (nI b') g_clock b_bits b_slotPcs b_slotDirs b_slotProvs b_counters b_tags yu b_counts → wpY_train post (nI w, nI m, g_q, g_period, nI (2 ^ w), g_size, nI b, g_clock, b_bits, b_slotPcs, b_slotDirs, b_slotProvs, b_counters, b_tags, b_usefuls, b_counts) act) := by
  have hE := px_E (w := w) (m := m) (pc := b_slotPcs 0) (B := bk b_bits 0) hc.1.2
  have p4 : p ≤ 4 := by rw [ep]; exact lk_le 4
  have a4 : a ≤ 4 := by
    have := lk_le (yt := b_tags) (E := tg_E w m (b_slotPcs 0) (bk b_bits 0)) (T := tg_T m (b_slotPcs 0) (bk b_bits 0)) (p - 1)
    omega
  obtain ⟨pos, wt, hl, X0⟩ := xk_look (f_minHistory := f_minHistory) (f_capacity := f_capacity) (f_agePeriod := f_agePeriod) (f_newest := f_newest) (f_oldest := f_oldest) (f_queueLength := f_queueLength) (f_bias := nI b) (f_ageClock := f_ageClock) (f_foundProvider := f_foundProvider) (f_foundAlternate := f_foundAlternate) (f_providerDirection := f_providerDirection) (f_alternateDirection := f_alternateDirection) (f_foundFresh := f_foundFresh) (a_history := a_history) (a_lengths := a_lengths) (a_widths := a_widths) (a_leavingPlace := a_leavingPlace) (a_folds := a_folds) (a_slotPcs := a_slotPcs) (a_slotDirections := a_slotDirections) (a_slotProviders := a_slotProviders) (a_baseCounters := a_baseCounters) (a_entryTags := a_entryTags) (a_counters := a_counters) (a_usefulValues := a_usefulValues) (a_counts := a_counts) (a_position := a_position) (a_wantedTag := a_wantedTag) hc hr hf ht (b_slotPcs 0) ep ea
  have Y0 : ∀ post : SY → Prop, ((lk_f b_counters b_usefuls (tg_E w m (b_slotPcs 0) (bk b_bits 0)) p = 0 → wY_train_119 post act (b_slotPcs 0) (nI p) (nI a) (lk_d b_counters (tg_E w m (b_slotPcs 0) (bk b_bits 0)) p) (lk_d b_counters (tg_E w m (b_slotPcs 0) (bk b_bits 0)) a) (nI (p * 64 + tg_E w m (b_slotPcs 0) (bk b_bits 0) p)) (nI (a * 64 + tg_E w m (b_slotPcs 0) (bk b_bits 0) a)) (nI w) (nI m) g_q g_period (nI (2 ^ w)) g_size (nI b) g_clock b_bits b_slotPcs b_slotDirs b_slotProvs b_counters b_tags b_usefuls b_counts) ∧ (¬ lk_f b_counters b_usefuls (tg_E w m (b_slotPcs 0) (bk b_bits 0)) p = 0 → ((lk_d b_counters (tg_E w m (b_slotPcs 0) (bk b_bits 0)) p = lk_d b_counters (tg_E w m (b_slotPcs 0) (bk b_bits 0)) a → wY_train_119 post act (b_slotPcs 0) (nI p) (nI a) (lk_d b_counters (tg_E w m (b_slotPcs 0) (bk b_bits 0)) p) (lk_d b_counters (tg_E w m (b_slotPcs 0) (bk b_bits 0)) a) (nI (p * 64 + tg_E w m (b_slotPcs 0) (bk b_bits 0) p)) (nI (a * 64 + tg_E w m (b_slotPcs 0) (bk b_bits 0) a)) (nI w) (nI m) g_q g_period (nI (2 ^ w)) g_size (nI b) g_clock b_bits b_slotPcs b_slotDirs b_slotProvs b_counters b_tags b_usefuls b_counts) ∧ (¬ lk_d b_counters (tg_E w m (b_slotPcs 0) (bk b_bits 0)) p = lk_d b_counters (tg_E w m (b_slotPcs 0) (bk b_bits 0)) a → ((lk_d b_counters (tg_E w m (b_slotPcs 0) (bk b_bits 0)) a = act → wY_train_104 post act (b_slotPcs 0) (nI p) (nI a) (lk_d b_counters (tg_E w m (b_slotPcs 0) (bk b_bits 0)) p) (lk_d b_counters (tg_E w m (b_slotPcs 0) (bk b_bits 0)) a) (nI (p * 64 + tg_E w m (b_slotPcs 0) (bk b_bits 0) p)) (nI (a * 64 + tg_E w m (b_slotPcs 0) (bk b_bits 0) a)) (nI b + 1) (nI w) (nI m) g_q g_period (nI (2 ^ w)) g_size (nI b) g_clock b_bits b_slotPcs b_slotDirs b_slotProvs b_counters b_tags b_usefuls b_counts) ∧ (¬ lk_d b_counters (tg_E w m (b_slotPcs 0) (bk b_bits 0)) a = act → wY_train_104 post act (b_slotPcs 0) (nI p) (nI a) (lk_d b_counters (tg_E w m (b_slotPcs 0) (bk b_bits 0)) p) (lk_d b_counters (tg_E w m (b_slotPcs 0) (bk b_bits 0)) a) (nI (p * 64 + tg_E w m (b_slotPcs 0) (bk b_bits 0) p)) (nI (a * 64 + tg_E w m (b_slotPcs 0) (bk b_bits 0) a)) (nI b - 1) (nI w) (nI m) g_q g_period (nI (2 ^ w)) g_size (nI b) g_clock b_bits b_slotPcs b_slotDirs b_slotProvs b_counters b_tags b_usefuls b_counts)))))) → wpY_train post (nI w, nI m, g_q, g_period, nI (2 ^ w), g_size, nI b, g_clock, b_bits, b_slotPcs, b_slotDirs, b_slotProvs, b_counters, b_tags, b_usefuls, b_counts) act := by
    intro post K
    refine nm_e ?_
    refine yk_mb hc (h := 0) (l := 5) (by omega) (by omega) ?_
    rw [show 5 - 1 = 4 from rfl, ← ep]
    refine yk_mb hc (h := 0) (by omega) (by omega) ?_
    rw [← ea]
    refine yk_dir hc (h := 0) (by omega) p4 ?_
    refine yk_dir hc (h := 0) (by omega) a4 ?_
    refine yk_fr hc (h := 0) (by omega) p4 ?_
    refine yk_cell hc (h := 0) (by omega) p4 ?_
    refine yk_cell hc (h := 0) (by omega) a4 ?_
    exact K
  by_cases heq : lk_d b_counters (tg_E w m (b_slotPcs 0) (bk b_bits 0)) p = lk_d b_counters (tg_E w m (b_slotPcs 0) (bk b_bits 0)) a
  · refine ⟨b, a_usefulValues, b_usefuls, lk_d b_counters (tg_E w m (b_slotPcs 0) (bk b_bits 0)) p, lk_d b_counters (tg_E w m (b_slotPcs 0) (bk b_bits 0)) a, lk_f b_counters b_usefuls (tg_E w m (b_slotPcs 0) (bk b_bits 0)) p, pos, wt, hb, hl, ht, fun post pred K => ?_, fun post K => Y0 post ?_⟩
    · exact X0 _ (br_t heq K)
    · exact br_c (fun _ => br_c (fun _ => K) (fun _ => br_t heq K)) (fun _ => br_t heq (br_c (fun _ => K) (fun _ => br_t heq K)))
  · obtain ⟨b', hb', Xb, Yb⟩ := tr_b (f_logSize := nI w) (f_minHistory := f_minHistory) (f_capacity := f_capacity) (f_agePeriod := f_agePeriod) (f_tableSize := nI (2 ^ w)) (f_newest := f_newest) (f_oldest := f_oldest) (f_queueLength := f_queueLength) (f_ageClock := f_ageClock) (f_foundProvider := nI p) (f_foundAlternate := nI a) (f_providerDirection := lk_d b_counters (tg_E w m (b_slotPcs 0) (bk b_bits 0)) p) (a_history := a_history) (a_lengths := a_lengths) (a_widths := a_widths) (a_leavingPlace := a_leavingPlace) (a_folds := a_folds) (a_slotPcs := a_slotPcs) (a_slotDirections := a_slotDirections) (a_slotProviders := a_slotProviders) (a_baseCounters := a_baseCounters) (a_entryTags := a_entryTags) (a_counters := a_counters) (a_usefulValues := a_usefulValues) (a_counts := a_counts) (a_position := pos) (a_wantedTag := wt) (g_w := nI w) (g_m := nI m) (g_q := g_q) (g_period := g_period) (g_n := nI (2 ^ w)) (g_size := g_size) (g_clock := g_clock) (b_bits := b_bits) (b_slotPcs := b_slotPcs) (b_slotDirs := b_slotDirs) (b_slotProvs := b_slotProvs) (b_counters := b_counters) (b_tags := b_tags) (b_usefuls := b_usefuls) (b_counts := b_counts) (act := act) (dp := lk_d b_counters (tg_E w m (b_slotPcs 0) (bk b_bits 0)) p) (da := lk_d b_counters (tg_E w m (b_slotPcs 0) (bk b_bits 0)) a) (fr := lk_f b_counters b_usefuls (tg_E w m (b_slotPcs 0) (bk b_bits 0)) p) hb
    obtain ⟨xu, yu, t2, Xc, Yc⟩ := tr_c (f_logSize := nI w) (f_minHistory := f_minHistory) (f_capacity := f_capacity) (f_agePeriod := f_agePeriod) (f_tableSize := nI (2 ^ w)) (f_newest := f_newest) (f_oldest := f_oldest) (f_queueLength := f_queueLength) (f_bias := nI b') (f_ageClock := f_ageClock) (f_foundAlternate := nI a) (f_alternateDirection := lk_d b_counters (tg_E w m (b_slotPcs 0) (bk b_bits 0)) a) (f_foundFresh := lk_f b_counters b_usefuls (tg_E w m (b_slotPcs 0) (bk b_bits 0)) p) (a_history := a_history) (a_lengths := a_lengths) (a_widths := a_widths) (a_leavingPlace := a_leavingPlace) (a_folds := a_folds) (a_slotPcs := a_slotPcs) (a_slotDirections := a_slotDirections) (a_slotProviders := a_slotProviders) (a_baseCounters := a_baseCounters) (a_entryTags := a_entryTags) (a_counters := a_counters) (a_usefulValues := a_usefulValues) (a_counts := a_counts) (a_position := pos) (a_wantedTag := wt) (g_w := nI w) (g_m := nI m) (g_q := g_q) (g_period := g_period) (g_n := nI (2 ^ w)) (g_size := g_size) (g_bias := nI b') (g_clock := g_clock) (b_bits := b_bits) (b_slotPcs := b_slotPcs) (b_slotDirs := b_slotDirs) (b_slotProvs := b_slotProvs) (b_counters := b_counters) (b_tags := b_tags) (b_usefuls := b_usefuls) (b_counts := b_counts) (act := act) (dp := lk_d b_counters (tg_E w m (b_slotPcs 0) (bk b_bits 0)) p) (da := lk_d b_counters (tg_E w m (b_slotPcs 0) (bk b_bits 0)) a) hl hE ht p4 heq
    refine ⟨b', xu, yu, lk_d b_counters (tg_E w m (b_slotPcs 0) (bk b_bits 0)) p, lk_d b_counters (tg_E w m (b_slotPcs 0) (bk b_bits 0)) a, lk_f b_counters b_usefuls (tg_E w m (b_slotPcs 0) (bk b_bits 0)) p, pos, wt, hb', hl, t2, fun post pred K => ?_, fun post K => Y0 post ?_⟩
    · exact X0 _ (br_f heq (Xb _ (Xc _ K)))
    · exact Yb post _ _ _ _ _ heq (Yc post _ _ _ K)
theorem tr_all (hc : rl_cfg w m q P) (hr : row ≤ 16) (hf : rl_f w m a_folds row (bk b_bits 0)) (ht : rl_tab a_baseCounters a_entryTags a_counters a_usefulValues b_counters b_tags b_usefuls) (hb : b ≤ 15) (hcl : c < P) (ha : act = 0 ∨ act = 1) :
    ∃ b' c' xb xt xc xu ct yc yt yu fp fa dp da fr pos wt, b' ≤ 15 ∧ c' < P ∧ rl_tab xb xt xc xu yc yt yu ∧
    (∀ post : SX → Prop, post (nI w, f_minHistory, f_capacity, nI P, nI (2 ^ w), f_newest, f_oldest, f_queueLength, nI b', nI c', fp, fa, dp, da, fr, a_history, a_lengths, a_widths, a_leavingPlace, a_folds, a_slotPcs, a_slotDirections, a_slotProviders, xb, xt, xc, xu, ct, pos, wt) → wpX_train post (nI w, f_minHistory, f_capacity, nI P, nI (2 ^ w), f_newest, f_oldest, f_queueLength, nI b, nI c, f_foundProvider, f_foundAlternate, f_providerDirection, f_alternateDirection, f_foundFresh, a_history, a_lengths, a_widths, a_leavingPlace, a_folds, a_slotPcs, a_slotDirections, a_slotProviders, a_baseCounters, a_entryTags, a_counters, a_usefulValues, a_counts, a_position, a_wantedTag) (b_slotPcs 0) (nI row) (b_slotDirs 0) act) ∧
    (∀ post : SY → Prop, post (nI w, nI m, g_q, nI P, nI (2 ^ w), g_size, nI b', nI c', b_bits, b_slotPcs, b_slotDirs, b_slotProvs, yc, yt, yu, ct) → wpY_train post (nI w, nI m, g_q, nI P, nI (2 ^ w), g_size, nI b, nI c, b_bits, b_slotPcs, b_slotDirs, b_slotProvs, b_counters, b_tags, b_usefuls, a_counts) act) := by
  obtain ⟨p, ep⟩ : ∃ p, p = lk_m b_tags (tg_E w m (b_slotPcs 0) (bk b_bits 0)) (tg_T m (b_slotPcs 0) (bk b_bits 0)) 4 := ⟨_, rfl⟩
  obtain ⟨a, ea⟩ : ∃ a, a = lk_m b_tags (tg_E w m (b_slotPcs 0) (bk b_bits 0)) (tg_T m (b_slotPcs 0) (bk b_bits 0)) (p - 1) := ⟨_, rfl⟩
  have hE := px_E (w := w) (m := m) (pc := b_slotPcs 0) (B := bk b_bits 0) hc.1.2
  have p4 : p ≤ 4 := by rw [ep]; exact lk_le 4
  have a4 : a ≤ 4 := by
    have := lk_le (yt := b_tags) (E := tg_E w m (b_slotPcs 0) (bk b_bits 0)) (T := tg_T m (b_slotPcs 0) (bk b_bits 0)) (p - 1)
    omega
  obtain ⟨b', xu, yu, dp, da, fr, pos, wt, hb', hl, t1, X1, Y1⟩ := tr_abc (f_minHistory := f_minHistory) (f_capacity := f_capacity) (f_agePeriod := nI P) (f_newest := f_newest) (f_oldest := f_oldest) (f_queueLength := f_queueLength) (f_ageClock := nI c) (f_foundProvider := f_foundProvider) (f_foundAlternate := f_foundAlternate) (f_providerDirection := f_providerDirection) (f_alternateDirection := f_alternateDirection) (f_foundFresh := f_foundFresh) (a_history := a_history) (a_lengths := a_lengths) (a_widths := a_widths) (a_leavingPlace := a_leavingPlace) (a_folds := a_folds) (a_slotPcs := a_slotPcs) (a_slotDirections := a_slotDirections) (a_slotProviders := a_slotProviders) (a_baseCounters := a_baseCounters) (a_entryTags := a_entryTags) (a_counters := a_counters) (a_usefulValues := a_usefulValues) (a_counts := a_counts) (a_position := a_position) (a_wantedTag := a_wantedTag) (g_q := g_q) (g_period := nI P) (g_size := g_size) (g_clock := nI c) (b_bits := b_bits) (b_slotPcs := b_slotPcs) (b_slotDirs := b_slotDirs) (b_slotProvs := b_slotProvs) (b_counters := b_counters) (b_tags := b_tags) (b_usefuls := b_usefuls) (b_counts := a_counts) (act := act) hc hr hf ht hb ep ea
  obtain ⟨xb, xc, yc, t2, X2, Y2⟩ := tr_d (f_logSize := nI w) (f_minHistory := f_minHistory) (f_capacity := f_capacity) (f_agePeriod := nI P) (f_tableSize := nI (2 ^ w)) (f_newest := f_newest) (f_oldest := f_oldest) (f_queueLength := f_queueLength) (f_bias := nI b') (f_ageClock := nI c) (f_providerDirection := dp) (f_alternateDirection := da) (f_foundFresh := fr) (a_history := a_history) (a_lengths := a_lengths) (a_widths := a_widths) (a_leavingPlace := a_leavingPlace) (a_folds := a_folds) (a_slotPcs := a_slotPcs) (a_slotDirections := a_slotDirections) (a_slotProviders := a_slotProviders) (a_baseCounters := a_baseCounters) (a_entryTags := a_entryTags) (a_counters := a_counters) (a_usefulValues := xu) (a_counts := a_counts) (a_position := pos) (a_wantedTag := wt) (g_w := nI w) (g_m := nI m) (g_q := g_q) (g_period := nI P) (g_n := nI (2 ^ w)) (g_size := g_size) (g_bias := nI b') (g_clock := nI c) (b_bits := b_bits) (b_slotPcs := b_slotPcs) (b_slotDirs := b_slotDirs) (b_slotProvs := b_slotProvs) (b_counters := b_counters) (b_tags := b_tags) (b_usefuls := yu) (b_counts := a_counts) (pred := b_slotDirs 0) (pc := b_slotPcs 0) hl hE t1 p4 a4 ha
  obtain ⟨xt, xc3, xu3, ct, yc3, yt, yu3, t3, X3, Y3⟩ := tr_e (f_logSize := nI w) (f_minHistory := f_minHistory) (f_capacity := f_capacity) (f_agePeriod := nI P) (f_tableSize := nI (2 ^ w)) (f_newest := f_newest) (f_oldest := f_oldest) (f_queueLength := f_queueLength) (f_bias := nI b') (f_ageClock := nI c) (f_foundAlternate := nI a) (f_providerDirection := dp) (f_alternateDirection := da) (f_foundFresh := fr) (a_history := a_history) (a_lengths := a_lengths) (a_widths := a_widths) (a_leavingPlace := a_leavingPlace) (a_folds := a_folds) (a_slotPcs := a_slotPcs) (a_slotDirections := a_slotDirections) (a_slotProviders := a_slotProviders) (a_baseCounters := xb) (a_entryTags := a_entryTags) (a_counters := xc) (a_usefulValues := xu) (a_counts := a_counts) (a_position := pos) (a_wantedTag := wt) (g_q := g_q) (g_period := nI P) (g_size := g_size) (g_bias := nI b') (g_clock := nI c) (b_bits := b_bits) (b_slotPcs := b_slotPcs) (b_slotDirs := b_slotDirs) (b_slotProvs := b_slotProvs) (b_counters := yc) (b_tags := b_tags) (b_usefuls := yu) (act := act) hc hl t2 p4
  obtain ⟨c', xu4, ct4, yu4, hc4, t4, X4, Y4⟩ := tr_f (f_logSize := nI w) (f_minHistory := f_minHistory) (f_capacity := f_capacity) (f_tableSize := nI (2 ^ w)) (f_newest := f_newest) (f_oldest := f_oldest) (f_queueLength := f_queueLength) (f_bias := nI b') (f_foundProvider := nI p) (f_foundAlternate := nI a) (f_providerDirection := dp) (f_alternateDirection := da) (f_foundFresh := fr) (a_history := a_history) (a_lengths := a_lengths) (a_widths := a_widths) (a_leavingPlace := a_leavingPlace) (a_folds := a_folds) (a_slotPcs := a_slotPcs) (a_slotDirections := a_slotDirections) (a_slotProviders := a_slotProviders) (a_baseCounters := xb) (a_entryTags := xt) (a_counters := xc3) (a_usefulValues := xu3) (a_counts := ct) (a_position := pos) (a_wantedTag := wt) (g_w := nI w) (g_m := nI m) (g_q := g_q) (g_n := nI (2 ^ w)) (g_size := g_size) (g_bias := nI b') (b_bits := b_bits) (b_slotPcs := b_slotPcs) (b_slotDirs := b_slotDirs) (b_slotProvs := b_slotProvs) (b_counters := yc3) (b_tags := yt) (b_usefuls := yu3) t3 hc.2.2.2.2 hcl
  exact ⟨b', c', xb, xt, xc3, xu4, ct4, yc3, yt, yu4, nI p, nI a, dp, da, fr, pos, wt, hb', hc4, t4, fun post K => X1 _ _ (X2 _ (X3 _ (X4 _ K))), fun post K => Y1 _ (Y2 _ (Y3 _ (Y4 _ K)))⟩
end
end
section
/-! the relation, and X's small helpers -/
def zz_F (w m q P s o p b c : Nat) (a_history a_lengths a_widths a_leavingPlace a_folds a_slotPcs a_slotDirections a_slotProviders a_baseCounters a_entryTags a_counters a_usefulValues b_bits b_slotPcs b_slotDirs b_slotProvs b_counters b_tags b_usefuls : Nat → Int32) : Prop :=
  rl_cfg w m q P ∧ s ≤ q ∧ o < 16 ∧ p < 128 ∧ b ≤ 15 ∧ c < P ∧ rl_set w m a_lengths a_widths a_leavingPlace ∧ rl_tab a_baseCounters a_entryTags a_counters a_usefulValues b_counters b_tags b_usefuls ∧ rl_que s o a_slotPcs a_slotDirections a_slotProviders b_slotPcs b_slotDirs b_slotProvs ∧ rl_his s p a_history b_bits ∧ rl_fol w m s o a_folds b_bits
def i_Rel (_ : Nat) (u : SX) (v : SY) : Prop := ∀ Q : SX → SY → Prop, (∀ (w m q P s o p b c : Nat) (f_foundProvider f_foundAlternate f_providerDirection f_alternateDirection f_foundFresh : Int32) (a_history a_lengths a_widths a_leavingPlace a_folds a_slotPcs a_slotDirections a_slotProviders a_baseCounters a_entryTags a_counters a_usefulValues a_counts a_position a_wantedTag b_bits b_slotPcs b_slotDirs b_slotProvs b_counters b_tags b_usefuls : Nat → Int32), zz_F w m q P s o p b c a_history a_lengths a_widths a_leavingPlace a_folds a_slotPcs a_slotDirections a_slotProviders a_baseCounters a_entryTags a_counters a_usefulValues b_bits b_slotPcs b_slotDirs b_slotProvs b_counters b_tags b_usefuls → Q (nI w, nI m, nI q, nI P, nI (2 ^ w), nI p, nI o, nI s, nI b, nI c, f_foundProvider, f_foundAlternate, f_providerDirection, f_alternateDirection, f_foundFresh, a_history, a_lengths, a_widths, a_leavingPlace, a_folds, a_slotPcs, a_slotDirections, a_slotProviders, a_baseCounters, a_entryTags, a_counters, a_usefulValues, a_counts, a_position, a_wantedTag) (nI w, nI m, nI q, nI P, nI (2 ^ w), nI s, nI b, nI c, b_bits, b_slotPcs, b_slotDirs, b_slotProvs, b_counters, b_tags, b_usefuls, a_counts)) → Q u v
theorem i_up {k : Nat} {u : SX} {v : SY} (h : i_Rel k u v) : i_Rel (k + 4) u v := h
theorem zz_in {k : Nat} {w m q P s o p b c : Nat} {f_foundProvider f_foundAlternate f_providerDirection f_alternateDirection f_foundFresh : Int32} {a_history a_lengths a_widths a_leavingPlace a_folds a_slotPcs a_slotDirections a_slotProviders a_baseCounters a_entryTags a_counters a_usefulValues a_counts a_position a_wantedTag b_bits b_slotPcs b_slotDirs b_slotProvs b_counters b_tags b_usefuls : Nat → Int32} (F : zz_F w m q P s o p b c a_history a_lengths a_widths a_leavingPlace a_folds a_slotPcs a_slotDirections a_slotProviders a_baseCounters a_entryTags a_counters a_usefulValues b_bits b_slotPcs b_slotDirs b_slotProvs b_counters b_tags b_usefuls) : i_Rel k (nI w, nI m, nI q, nI P, nI (2 ^ w), nI p, nI o, nI s, nI b, nI c, f_foundProvider, f_foundAlternate, f_providerDirection, f_alternateDirection, f_foundFresh, a_history, a_lengths, a_widths, a_leavingPlace, a_folds, a_slotPcs, a_slotDirections, a_slotProviders, a_baseCounters, a_entryTags, a_counters, a_usefulValues, a_counts, a_position, a_wantedTag) (nI w, nI m, nI q, nI P, nI (2 ^ w), nI s, nI b, nI c, b_bits, b_slotPcs, b_slotDirs, b_slotProvs, b_counters, b_tags, b_usefuls, a_counts) := fun _ h => h w m q P s o p b c f_foundProvider f_foundAlternate f_providerDirection f_alternateDirection f_foundFresh a_history a_lengths a_widths a_leavingPlace a_folds a_slotPcs a_slotDirections a_slotProviders a_baseCounters a_entryTags a_counters a_usefulValues a_counts a_position a_wantedTag b_bits b_slotPcs b_slotDirs b_slotProvs b_counters b_tags b_usefuls F
theorem zz_15 {o j : Nat} (ho : o < 16) (hj : j ≤ 16) : (nI o + nI j) &&& 15 = nI ((o + j) % 16) := by
  rw [nI_add]
  exact pk_andN (by omega) 4 (by decide)
theorem zz_ix (x : Int32) {s : Nat} (hs : s < 2 ^ 31) : x < 0 ∨ (¬ x < 0 ∧ nI s ≤ x ∧ ¬ x < nI s) ∨ ∃ j, j < s ∧ x = nI j := by
  by_cases h : x < 0
  · exact Or.inl h
  · obtain ⟨j, hj, rfl⟩ := nI_of h
    by_cases h2 : j < s
    · exact Or.inr (Or.inr ⟨j, h2, rfl⟩)
    · exact Or.inr (Or.inl ⟨h, nI_le (by omega) hj, nI_nlt (by omega) hj⟩)
theorem zz_tx (x : Int32) : x < 1 ∨ (¬ x < 1 ∧ 4 < x ∧ ¬ x ≤ 4) ∨ ∃ t, 1 ≤ t ∧ t ≤ 4 ∧ x = nI t := by
  by_cases h : x < 1
  · exact Or.inl h
  · have h0 : ¬ x < 0 := by
      intro z
      apply h
      rw [Int32.lt_iff_toInt_lt] at z ⊢
      have e0 : (0 : Int32).toInt = 0 := by decide
      have e1 : (1 : Int32).toInt = 1 := by decide
      omega
    obtain ⟨j, hj, rfl⟩ := nI_of h0
    have h1 : 1 ≤ j := by
      rcases Nat.lt_or_ge j 1 with z | z
      · exact absurd (nI_lt (b := 1) z (by omega)) h
      · exact z
    by_cases h2 : j ≤ 4
    · exact Or.inr (Or.inr ⟨j, h1, h2, rfl⟩)
    · exact Or.inr (Or.inl ⟨h, nI_lt (a := 4) (by omega) hj, nI_ge (a := 4) (by omega) hj⟩)
section
variable {f_logSize f_minHistory f_capacity f_agePeriod f_tableSize f_newest f_oldest f_queueLength f_bias f_ageClock f_foundProvider f_foundAlternate f_providerDirection f_alternateDirection f_foundFresh : Int32} {a_history a_lengths a_widths a_leavingPlace a_folds a_slotPcs a_slotDirections a_slotProviders a_baseCounters a_entryTags a_counters a_usefulValues a_counts a_position a_wantedTag : Nat → Int32} {p o s j : Nat} {x : Int32}
theorem xk_hs {post : Int32 → Prop} (hj : j < s) (hs : s ≤ 16) (K : post 1) : wpX_holdsSlot post (f_logSize, f_minHistory, f_capacity, f_agePeriod, f_tableSize, f_newest, f_oldest, nI s, f_bias, f_ageClock, f_foundProvider, f_foundAlternate, f_providerDirection, f_alternateDirection, f_foundFresh, a_history, a_lengths, a_widths, a_leavingPlace, a_folds, a_slotPcs, a_slotDirections, a_slotProviders, a_baseCounters, a_entryTags, a_counters, a_usefulValues, a_counts, a_position, a_wantedTag) (nI j) := br_f (nI_pos (by omega)) (br_f (nI_ge hj (by omega)) K)
theorem xk_h0 {post : Int32 → Prop} (h : x < 0) (K : post 0) : wpX_holdsSlot post (f_logSize, f_minHistory, f_capacity, f_agePeriod, f_tableSize, f_newest, f_oldest, nI s, f_bias, f_ageClock, f_foundProvider, f_foundAlternate, f_providerDirection, f_alternateDirection, f_foundFresh, a_history, a_lengths, a_widths, a_leavingPlace, a_folds, a_slotPcs, a_slotDirections, a_slotProviders, a_baseCounters, a_entryTags, a_counters, a_usefulValues, a_counts, a_position, a_wantedTag) x := br_t h K
theorem xk_h1 {post : Int32 → Prop} (h : ¬ x < 0) (h' : nI s ≤ x) (K : post 0) : wpX_holdsSlot post (f_logSize, f_minHistory, f_capacity, f_agePeriod, f_tableSize, f_newest, f_oldest, nI s, f_bias, f_ageClock, f_foundProvider, f_foundAlternate, f_providerDirection, f_alternateDirection, f_foundFresh, a_history, a_lengths, a_widths, a_leavingPlace, a_folds, a_slotPcs, a_slotDirections, a_slotProviders, a_baseCounters, a_entryTags, a_counters, a_usefulValues, a_counts, a_position, a_wantedTag) x := br_f h (br_t h' K)
theorem xk_ts {post : Int32 → Prop} (h1 : 1 ≤ j) (h4 : j ≤ 4) (K : post 1) : wpX_isTagged post (f_logSize, f_minHistory, f_capacity, f_agePeriod, f_tableSize, f_newest, f_oldest, f_queueLength, f_bias, f_ageClock, f_foundProvider, f_foundAlternate, f_providerDirection, f_alternateDirection, f_foundFresh, a_history, a_lengths, a_widths, a_leavingPlace, a_folds, a_slotPcs, a_slotDirections, a_slotProviders, a_baseCounters, a_entryTags, a_counters, a_usefulValues, a_counts, a_position, a_wantedTag) (nI j) := br_f (nI_nlt (b := 1) h1 (by omega)) (br_f (nI_nlt (a := 4) h4 (by omega)) K)
theorem xk_t0 {post : Int32 → Prop} (h : x < 1) (K : post 0) : wpX_isTagged post (f_logSize, f_minHistory, f_capacity, f_agePeriod, f_tableSize, f_newest, f_oldest, f_queueLength, f_bias, f_ageClock, f_foundProvider, f_foundAlternate, f_providerDirection, f_alternateDirection, f_foundFresh, a_history, a_lengths, a_widths, a_leavingPlace, a_folds, a_slotPcs, a_slotDirections, a_slotProviders, a_baseCounters, a_entryTags, a_counters, a_usefulValues, a_counts, a_position, a_wantedTag) x := br_t h K
theorem xk_t1 {post : Int32 → Prop} (h : ¬ x < 1) (h' : 4 < x) (K : post 0) : wpX_isTagged post (f_logSize, f_minHistory, f_capacity, f_agePeriod, f_tableSize, f_newest, f_oldest, f_queueLength, f_bias, f_ageClock, f_foundProvider, f_foundAlternate, f_providerDirection, f_alternateDirection, f_foundFresh, a_history, a_lengths, a_widths, a_leavingPlace, a_folds, a_slotPcs, a_slotDirections, a_slotProviders, a_baseCounters, a_entryTags, a_counters, a_usefulValues, a_counts, a_position, a_wantedTag) x := br_f h (br_t h' K)
theorem xk_es {post : Int32 → Prop} (hj : j < s) (hs : s ≤ 64) (K : post 1) : wpX_isEntry post (f_logSize, f_minHistory, f_capacity, f_agePeriod, nI s, f_newest, f_oldest, f_queueLength, f_bias, f_ageClock, f_foundProvider, f_foundAlternate, f_providerDirection, f_alternateDirection, f_foundFresh, a_history, a_lengths, a_widths, a_leavingPlace, a_folds, a_slotPcs, a_slotDirections, a_slotProviders, a_baseCounters, a_entryTags, a_counters, a_usefulValues, a_counts, a_position, a_wantedTag) (nI j) := br_f (nI_pos (by omega)) (br_f (nI_ge hj (by omega)) K)
theorem xk_e0 {post : Int32 → Prop} (h : x < 0) (K : post 0) : wpX_isEntry post (f_logSize, f_minHistory, f_capacity, f_agePeriod, nI s, f_newest, f_oldest, f_queueLength, f_bias, f_ageClock, f_foundProvider, f_foundAlternate, f_providerDirection, f_alternateDirection, f_foundFresh, a_history, a_lengths, a_widths, a_leavingPlace, a_folds, a_slotPcs, a_slotDirections, a_slotProviders, a_baseCounters, a_entryTags, a_counters, a_usefulValues, a_counts, a_position, a_wantedTag) x := br_t h K
theorem xk_e1 {post : Int32 → Prop} (h : ¬ x < 0) (h' : nI s ≤ x) (K : post 0) : wpX_isEntry post (f_logSize, f_minHistory, f_capacity, f_agePeriod, nI s, f_newest, f_oldest, f_queueLength, f_bias, f_ageClock, f_foundProvider, f_foundAlternate, f_providerDirection, f_alternateDirection, f_foundFresh, a_history, a_lengths, a_widths, a_leavingPlace, a_folds, a_slotPcs, a_slotDirections, a_slotProviders, a_baseCounters, a_entryTags, a_counters, a_usefulValues, a_counts, a_position, a_wantedTag) x := br_f h (br_t h' K)
theorem xk_rew {post : SX → Prop} (hj : j < s) (hs : s ≤ 16) (hp : p < 128) (ho : o < 16) (K : post (f_logSize, f_minHistory, f_capacity, f_agePeriod, f_tableSize, nI ((p + 256 - (s - j)) % 128), nI o, nI j, f_bias, f_ageClock, f_foundProvider, f_foundAlternate, f_providerDirection, f_alternateDirection, f_foundFresh, a_history, a_lengths, a_widths, a_leavingPlace, cp_A a_folds ((o + j) % 16 * 12) (16 * 12) 12, a_slotPcs, a_slotDirections, a_slotProviders, a_baseCounters, a_entryTags, a_counters, a_usefulValues, a_counts, a_position, a_wantedTag)) : wpX_rewindTo post (f_logSize, f_minHistory, f_capacity, f_agePeriod, f_tableSize, nI p, nI o, nI s, f_bias, f_ageClock, f_foundProvider, f_foundAlternate, f_providerDirection, f_alternateDirection, f_foundFresh, a_history, a_lengths, a_widths, a_leavingPlace, a_folds, a_slotPcs, a_slotDirections, a_slotProviders, a_baseCounters, a_entryTags, a_counters, a_usefulValues, a_counts, a_position, a_wantedTag) (nI j) := by
  have e1 : (nI p - (nI s - nI j)) &&& 127 = nI ((p + 256 - (s - j)) % 128) := by
    rw [pk_sub (by omega)]
    exact ar_mod (by omega) (by omega)
  refine nm_r e1 (nm_r (zz_15 ho (by omega)) ?_)
  exact xk_cf (src := (o + j) % 16) (dst := 16) (by omega) (by omega) (by omega) K
end
section
variable {g_w g_m g_q g_period g_n g_size g_bias g_clock : Int32} {b_bits b_slotPcs b_slotDirs b_slotProvs b_counters b_tags b_usefuls b_counts : Nat → Int32} {S : Nat}
theorem yk_shift {post : Int32 → SY → Prop} (hS : S < 16) (K : post 0 (g_w, g_m, g_q, g_period, g_n, nI S, g_bias, g_clock, bl_A b_bits S, sl_A b_slotPcs S, sl_A b_slotDirs S, sl_A b_slotProvs S, b_counters, b_tags, b_usefuls, b_counts)) : ∀ d i, i + d = S → wY_resolve_48 post (d + 1) (nI i) g_w g_m g_q g_period g_n (nI (S + 1)) g_bias g_clock (bl_A b_bits i) (sl_A b_slotPcs i) (sl_A b_slotDirs i) (sl_A b_slotProvs i) b_counters b_tags b_usefuls b_counts := by
  have eS : nI (S + 1) - 1 = nI S := nI_pred S
  intro d
  induction d with
  | zero =>
    intro i hi
    have e : i = S := by omega
    subst e
    refine br_t (by rw [eS]; exact nI_le (Nat.le_refl i) (by omega)) (nm_r eS K)
  | succ d ih =>
    intro i hi
    have h := ih (i + 1) (by omega)
    have hv : vp_in (nI i) 16 := vp_in_nI (by omega) (by omega)
    have hv1 : vp_in (nI i + 1) 16 := by rw [nI_1 i]; exact vp_in_nI (by omega) (by omega)
    have ec : (nI i).toNatClampNeg = i := nI_clamp (by omega)
    have ec1 : (nI i + 1).toNatClampNeg = i + 1 := by rw [nI_1 i]; exact nI_clamp (by omega)
    refine br_f (by rw [eS]; exact nI_ge (by omega) (by omega)) ?_
    refine ⟨hv1, hv, nm_r (e' := sl_A b_slotPcs (i + 1)) (by rw [ec, ec1]; exact sl_step) ?_⟩
    refine ⟨hv1, hv, nm_r (e' := sl_A b_slotDirs (i + 1)) (by rw [ec, ec1]; exact sl_step) ?_⟩
    refine ⟨hv1, hv, nm_r (e' := sl_A b_slotProvs (i + 1)) (by rw [ec, ec1]; exact sl_step) ?_⟩
    rw [nI_1 i]
    refine yk_cb (src := i + 1) (dst := i) (by omega) (by omega) (by omega) ?_
    rw [bl_step]
    exact nm_e h
end
end
section
/-! the calls that change the state, as outcomes -/
theorem zz_d01 {f d a : Int32} {b : Nat} (hd : d = 0 ∨ d = 1) (ha : a = 0 ∨ a = 1) : lk_u f d a b = 0 ∨ lk_u f d a b = 1 := by
  unfold lk_u
  by_cases hf : f = 0
  · rw [if_pos hf]; exact hd
  · rw [if_neg hf]
    by_cases h8 : b < 8
    · rw [if_pos h8]; exact hd
    · rw [if_neg h8]; exact ha
theorem zz_pred {k : Nat} {u : SX} {v : SY} (I : i_Rel k u v) (pc : Int32) : ∃ r u' v', i_Rel k u' v' ∧ (∀ post : Int32 → SX → Prop, post r u' → wpX_predict post u pc) ∧ (∀ post : Int32 → SY → Prop, post r v' → wpY_predict post v pc) := by
  refine I (fun u v => ∃ r u' v', i_Rel k u' v' ∧ (∀ post : Int32 → SX → Prop, post r u' → wpX_predict post u pc) ∧ (∀ post : Int32 → SY → Prop, post r v' → wpY_predict post v pc)) ?_
  intro w m q P s o p b c f_foundProvider f_foundAlternate f_providerDirection f_alternateDirection f_foundFresh a_history a_lengths a_widths a_leavingPlace a_folds a_slotPcs a_slotDirections a_slotProviders a_baseCounters a_entryTags a_counters a_usefulValues a_counts a_position a_wantedTag b_bits b_slotPcs b_slotDirs b_slotProvs b_counters b_tags b_usefuls F
  obtain ⟨hc, hs, ho, hp, hb, hcl, hset, ht, hq, hh, hf⟩ := id F
  have hq16 := hc.2.2.1.2
  by_cases full : s < q
  · obtain ⟨pr, epr⟩ : ∃ pr, pr = lk_m b_tags (tg_E w m pc (bk b_bits 16)) (tg_T m pc (bk b_bits 16)) 4 := ⟨_, rfl⟩
    obtain ⟨ar, ear⟩ : ∃ ar, ar = lk_m b_tags (tg_E w m pc (bk b_bits 16)) (tg_T m pc (bk b_bits 16)) (pr - 1) := ⟨_, rfl⟩
    obtain ⟨d, ed⟩ : ∃ d, d = lk_u (lk_f b_counters b_usefuls (tg_E w m pc (bk b_bits 16)) pr) (lk_d b_counters (tg_E w m pc (bk b_bits 16)) pr) (lk_d b_counters (tg_E w m pc (bk b_bits 16)) ar) b := ⟨_, rfl⟩
    have hd : d = 0 ∨ d = 1 := by rw [ed]; exact zz_d01 (lk_d01 _ _ _) (lk_d01 _ _ _)
    obtain ⟨pos, wt, hl, X0⟩ := xk_look (f_minHistory := nI m) (f_capacity := nI q) (f_agePeriod := nI P) (f_newest := nI p) (f_oldest := nI o) (f_queueLength := nI s) (f_bias := nI b) (f_ageClock := nI c) (f_foundProvider := f_foundProvider) (f_foundAlternate := f_foundAlternate) (f_providerDirection := f_providerDirection) (f_alternateDirection := f_alternateDirection) (f_foundFresh := f_foundFresh) (a_history := a_history) (a_lengths := a_lengths) (a_widths := a_widths) (a_leavingPlace := a_leavingPlace) (a_folds := a_folds) (a_slotPcs := a_slotPcs) (a_slotDirections := a_slotDirections) (a_slotProviders := a_slotProviders) (a_baseCounters := a_baseCounters) (a_entryTags := a_entryTags) (a_counters := a_counters) (a_usefulValues := a_usefulValues) (a_counts := a_counts) (a_position := a_position) (a_wantedTag := a_wantedTag) hc (row := 16) (by omega) hf.1 ht pc epr ear
    obtain ⟨hh2, hf2⟩ := hf_pred hc (by omega) hp hd hh hf
    refine ⟨d, (nI w, nI m, nI q, nI P, nI (2 ^ w), nI ((p + 1) % 128), nI o, nI (s + 1), nI b, nI c, nI pr, nI ar, lk_d b_counters (tg_E w m pc (bk b_bits 16)) pr, lk_d b_counters (tg_E w m pc (bk b_bits 16)) ar, lk_f b_counters b_usefuls (tg_E w m pc (bk b_bits 16)) pr, upd a_history ((p + 1) % 128) d, a_lengths, a_widths, a_leavingPlace, pu_f w m d (fun t => a_history ((p + 256 - (cf_L m t - 1)) % 128)) (cp_A a_folds (16 * 12) ((o + s) % 16 * 12) 12) 12, upd a_slotPcs ((o + s) % 16) pc, upd a_slotDirections ((o + s) % 16) d, upd a_slotProviders ((o + s) % 16) (nI pr), a_baseCounters, a_entryTags, a_counters, a_usefulValues, upd a_counts 0 ((a_counts 0) + 1), pos, wt),
      (nI w, nI m, nI q, nI P, nI (2 ^ w), nI (s + 1), nI b, nI c, upd (sh_A (cp_A b_bits (16 * 96) (s * 96) 96) 0) 1536 d, upd b_slotPcs s pc, upd b_slotDirs s d, upd b_slotProvs s (nI pr), b_counters, b_tags, b_usefuls, upd a_counts 0 ((a_counts 0) + 1)), ?_, fun post K => ?_, fun post K => ?_⟩
    · exact zz_in ⟨hc, by omega, ho, by omega, hb, hcl, hset, ht, qu_pred (by omega) hq, hh2, hf2⟩
    · have hv : vp_in (nI ((o + s) % 16)) 16 := vp_in_nI (by omega) (by omega)
      have ec : (nI ((o + s) % 16)).toNatClampNeg = (o + s) % 16 := nI_clamp (by omega)
      refine br_t (nI_lt full (by omega)) ?_
      refine X0 _ ?_
      refine xk_lud hb ?_
      rw [← ed]
      refine nm_r (zz_15 ho (by omega)) ?_
      rw [ec]
      refine ⟨hv, nm_e ⟨hv, nm_e ⟨hv, nm_e ?_⟩⟩⟩
      refine xk_cf (src := 16) (dst := (o + s) % 16) (by omega) (by omega) (by omega) ?_
      refine nm_r (nI_1 s) ?_
      refine xk_push hc hset hp hd ?_
      exact nm_e K
    · have hv : vp_in (nI s) 16 := vp_in_nI (by omega) (by omega)
      have ec : (nI s).toNatClampNeg = s := nI_clamp (by omega)
      refine br_t (nI_lt full (by omega)) ?_
      refine yk_lu hc (h := 16) (by omega) hb ?_
      rw [← epr, ← ear, ← ed, ec]
      refine ⟨hv, nm_e ⟨hv, nm_e ?_⟩⟩
      refine yk_mb hc (h := 16) (l := 5) (by omega) (by omega) ?_
      rw [show 5 - 1 = 4 from rfl, ← epr]
      refine ⟨hv, nm_e ?_⟩
      refine yk_cb (src := 16) (dst := s) (by omega) (by omega) (by omega) ?_
      refine nm_r (nI_1 s) ?_
      refine yk_push ?_
      exact nm_e K
  · exact ⟨-3, (nI w, nI m, nI q, nI P, nI (2 ^ w), nI p, nI o, nI s, nI b, nI c, f_foundProvider, f_foundAlternate, f_providerDirection, f_alternateDirection, f_foundFresh, a_history, a_lengths, a_widths, a_leavingPlace, a_folds, a_slotPcs, a_slotDirections, a_slotProviders, a_baseCounters, a_entryTags, a_counters, a_usefulValues, a_counts, a_position, a_wantedTag), (nI w, nI m, nI q, nI P, nI (2 ^ w), nI s, nI b, nI c, b_bits, b_slotPcs, b_slotDirs, b_slotProvs, b_counters, b_tags, b_usefuls, a_counts), zz_in F, fun post K => br_f (nI_nlt (by omega) (by omega)) K, fun post K => br_f (nI_nlt (by omega) (by omega)) K⟩
theorem zz_res {k : Nat} {u : SX} {v : SY} (I : i_Rel k u v) (act : Int32) : ∃ r u' v', i_Rel k u' v' ∧ (∀ post : Int32 → SX → Prop, post r u' → wpX_resolve post u act) ∧ (∀ post : Int32 → SY → Prop, post r v' → wpY_resolve post v act) := by
  refine I (fun u v => ∃ r u' v', i_Rel k u' v' ∧ (∀ post : Int32 → SX → Prop, post r u' → wpX_resolve post u act) ∧ (∀ post : Int32 → SY → Prop, post r v' → wpY_resolve post v act)) ?_
  intro w m q P s o p b c f_foundProvider f_foundAlternate f_providerDirection f_alternateDirection f_foundFresh a_history a_lengths a_widths a_leavingPlace a_folds a_slotPcs a_slotDirections a_slotProviders a_baseCounters a_entryTags a_counters a_usefulValues a_counts a_position a_wantedTag b_bits b_slotPcs b_slotDirs b_slotProvs b_counters b_tags b_usefuls F
  obtain ⟨hc, hs, ho, hp, hb, hcl, hset, ht, hq, hh, hf⟩ := id F
  have hq16 := hc.2.2.1.2
  rcases Nat.eq_zero_or_pos s with s0 | s0
  · subst s0
    exact ⟨-1, (nI w, nI m, nI q, nI P, nI (2 ^ w), nI p, nI o, nI 0, nI b, nI c, f_foundProvider, f_foundAlternate, f_providerDirection, f_alternateDirection, f_foundFresh, a_history, a_lengths, a_widths, a_leavingPlace, a_folds, a_slotPcs, a_slotDirections, a_slotProviders, a_baseCounters, a_entryTags, a_counters, a_usefulValues, a_counts, a_position, a_wantedTag), (nI w, nI m, nI q, nI P, nI (2 ^ w), nI 0, nI b, nI c, b_bits, b_slotPcs, b_slotDirs, b_slotProvs, b_counters, b_tags, b_usefuls, a_counts), zz_in F, fun post K => br_t rfl K, fun post K => br_t rfl K⟩
  · have n0 : ¬ nI s = 0 := nI_ne0 s0 (by omega)
    by_cases ha : act = 0 ∨ act = 1
    · obtain ⟨S, rfl⟩ : ∃ S, s = S + 1 := ⟨s - 1, by omega⟩
      have e0 : (o + 0) % 16 = o := by omega
      obtain ⟨q1, q2, q3⟩ := hq 0 (by omega)
      have hf0 := hf.2 0 (by omega)
      rw [e0] at q1 q2 q3 hf0
      obtain ⟨b', c', xb, xt, xc, xu, ct, yc, yt, yu, fp, fa, dp, da, fr, pos, wt, hb', hc', ht', X0, Y0⟩ := tr_all (f_minHistory := nI m) (f_capacity := nI q) (f_newest := nI p) (f_oldest := nI o) (f_queueLength := nI (S + 1)) (f_foundProvider := f_foundProvider) (f_foundAlternate := f_foundAlternate) (f_providerDirection := f_providerDirection) (f_alternateDirection := f_alternateDirection) (f_foundFresh := f_foundFresh) (a_history := a_history) (a_lengths := a_lengths) (a_widths := a_widths) (a_leavingPlace := a_leavingPlace) (a_folds := a_folds) (a_slotPcs := a_slotPcs) (a_slotDirections := a_slotDirections) (a_slotProviders := a_slotProviders) (a_baseCounters := a_baseCounters) (a_entryTags := a_entryTags) (a_counters := a_counters) (a_usefulValues := a_usefulValues) (a_counts := a_counts) (a_position := a_position) (a_wantedTag := a_wantedTag) (g_q := nI q) (g_size := nI (S + 1)) (b_bits := b_bits) (b_slotPcs := b_slotPcs) (b_slotDirs := b_slotDirs) (b_slotProvs := b_slotProvs) (b_counters := b_counters) (b_tags := b_tags) (b_usefuls := b_usefuls) hc (row := o) (by omega) hf0 ht hb hcl ha
      have hv : vp_in (nI o) 16 := vp_in_nI ho (by omega)
      have ec : (nI o).toNatClampNeg = o := nI_clamp (by omega)
      have eo : nI o &&& 15 = nI o := by
        rw [pk_andN (by omega) (m := 15) 4 (by decide)]
        exact congrArg nI (by omega)
      have eS : nI (S + 1) - 1 = nI S := nI_pred S
      -- the two walks up to the training's end
      have X1 : ∀ post : Int32 → SX → Prop, wX_resolve_21 post act (nI w) (nI m) (nI q) (nI P) (nI (2 ^ w)) (nI p) (nI o) (nI (S + 1)) (nI b) (nI c) f_foundProvider f_foundAlternate f_providerDirection f_alternateDirection f_foundFresh a_history a_lengths a_widths a_leavingPlace a_folds a_slotPcs a_slotDirections a_slotProviders a_baseCounters a_entryTags a_counters a_usefulValues a_counts a_position a_wantedTag → wpX_resolve post (nI w, nI m, nI q, nI P, nI (2 ^ w), nI p, nI o, nI (S + 1), nI b, nI c, f_foundProvider, f_foundAlternate, f_providerDirection, f_alternateDirection, f_foundFresh, a_history, a_lengths, a_widths, a_leavingPlace, a_folds, a_slotPcs, a_slotDirections, a_slotProviders, a_baseCounters, a_entryTags, a_counters, a_usefulValues, a_counts, a_position, a_wantedTag) act := fun post K => br_f n0 (br_c (fun _ => K) (fun z => br_t (ha.resolve_left z) K))
      have Y1 : ∀ post : Int32 → SY → Prop, wY_resolve_21 post act (nI w) (nI m) (nI q) (nI P) (nI (2 ^ w)) (nI (S + 1)) (nI b) (nI c) b_bits b_slotPcs b_slotDirs b_slotProvs b_counters b_tags b_usefuls a_counts → wpY_resolve post (nI w, nI m, nI q, nI P, nI (2 ^ w), nI (S + 1), nI b, nI c, b_bits, b_slotPcs, b_slotDirs, b_slotProvs, b_counters, b_tags, b_usefuls, a_counts) act := fun post K => br_f n0 (br_c (fun _ => K) (fun z => br_t (ha.resolve_left z) K))
      by_cases hd : b_slotDirs 0 = act
      · obtain ⟨hh2, hf2⟩ := hf_shift hc (by omega) hh hf
        refine ⟨0, (nI w, nI m, nI q, nI P, nI (2 ^ w), nI p, nI ((o + 1) % 16), nI S, nI b', nI c', fp, fa, dp, da, fr, a_history, a_lengths, a_widths, a_leavingPlace, a_folds, a_slotPcs, a_slotDirections, a_slotProviders, xb, xt, xc, xu, upd ct 1 ((ct 1) + 1), pos, wt),
          (nI w, nI m, nI q, nI P, nI (2 ^ w), nI S, nI b', nI c', bl_A b_bits S, sl_A b_slotPcs S, sl_A b_slotDirs S, sl_A b_slotProvs S, yc, yt, yu, upd ct 1 ((ct 1) + 1)), ?_, fun post K => X1 post ?_, fun post K => Y1 post ?_⟩
        · exact zz_in ⟨hc, by omega, by omega, hp, hb', hc', hset, ht', qu_shift hq, hh2, hf2⟩
        · refine nm_r eo ⟨hv, ?_⟩
          rw [ec, q1, q2]
          refine nm_e ⟨hv, ?_⟩
          refine X0 _ ?_
          refine nm_e (br_t hd ?_)
          exact nm_r (zz_15 (j := 1) ho (by omega)) (nm_r eS K)
        · refine Y0 _ ?_
          refine nm_e (br_t hd ?_)
          have h := yk_shift (post := post) (g_w := nI w) (g_m := nI m) (g_q := nI q) (g_period := nI P) (g_n := nI (2 ^ w)) (g_bias := nI b') (g_clock := nI c') (b_bits := b_bits) (b_slotPcs := b_slotPcs) (b_slotDirs := b_slotDirs) (b_slotProvs := b_slotProvs) (b_counters := yc) (b_tags := yt) (b_usefuls := yu) (b_counts := upd ct 1 ((ct 1) + 1)) (S := S) (by omega) K S 0 (by omega)
          rw [bl_0, sl_0, sl_0, sl_0] at h
          exact ⟨S + 1, h⟩
      · obtain ⟨hh1, hf1⟩ := hf_rew hc (j := 0) s0 (by omega) hp hh hf
        obtain ⟨hh2, hf2⟩ := hf_push (s := 0) (o := o) hc (by omega) (Nat.mod_lt _ (by omega)) ha hh1.1 hh1.2.1 (fun j hj => by omega) hf1.1 (fun j hj => by omega)
        refine ⟨1 + nI S, (nI w, nI m, nI q, nI P, nI (2 ^ w), nI (((p + 256 - (S + 1 - 0)) % 128 + 1) % 128), nI o, nI 0, nI b', nI c', fp, fa, dp, da, fr, upd a_history (((p + 256 - (S + 1 - 0)) % 128 + 1) % 128) act, a_lengths, a_widths, a_leavingPlace, pu_f w m act (fun t => a_history (((p + 256 - (S + 1 - 0)) % 128 + 256 - (cf_L m t - 1)) % 128)) (cp_A a_folds ((o + 0) % 16 * 12) (16 * 12) 12) 12, a_slotPcs, a_slotDirections, a_slotProviders, xb, xt, xc, xu, upd (upd (upd ct 1 ((ct 1) + 1)) 2 ((upd ct 1 ((ct 1) + 1) 2) + 1)) 3 ((upd (upd ct 1 ((ct 1) + 1)) 2 ((upd ct 1 ((ct 1) + 1) 2) + 1) 3) + nI S), pos, wt),
          (nI w, nI m, nI q, nI P, nI (2 ^ w), nI 0, nI b', nI c', upd (sh_A (cp_A b_bits (0 * 96) (16 * 96) 96) 0) 1536 act, b_slotPcs, b_slotDirs, b_slotProvs, yc, yt, yu, upd (upd (upd ct 1 ((ct 1) + 1)) 2 ((upd ct 1 ((ct 1) + 1) 2) + 1)) 3 ((upd (upd ct 1 ((ct 1) + 1)) 2 ((upd ct 1 ((ct 1) + 1) 2) + 1) 3) + nI S)), ?_, fun post K => X1 post ?_, fun post K => Y1 post ?_⟩
        · exact zz_in ⟨hc, by omega, ho, by omega, hb', hc', hset, ht', (fun i hi => by omega), hh2, hf2⟩
        · refine nm_r eo ⟨hv, ?_⟩
          rw [ec, q1, q2]
          refine nm_e ⟨hv, ?_⟩
          refine X0 _ ?_
          refine nm_e (br_f hd (nm_r eS ?_))
          refine xk_rew (j := 0) s0 (by omega) hp ho ?_
          refine xk_push hc hset (Nat.mod_lt _ (by omega)) ha ?_
          exact nm_e (nm_e K)
        · refine Y0 _ ?_
          refine nm_e (br_f hd (nm_r eS ?_))
          refine yk_cb (src := 0) (dst := 16) (by omega) (by omega) (by omega) ?_
          refine yk_push ?_
          exact nm_e (nm_e K)
    · have a0 : ¬ act = 0 := fun z => ha (Or.inl z)
      have a1 : ¬ act = 1 := fun z => ha (Or.inr z)
      exact ⟨-2, (nI w, nI m, nI q, nI P, nI (2 ^ w), nI p, nI o, nI s, nI b, nI c, f_foundProvider, f_foundAlternate, f_providerDirection, f_alternateDirection, f_foundFresh, a_history, a_lengths, a_widths, a_leavingPlace, a_folds, a_slotPcs, a_slotDirections, a_slotProviders, a_baseCounters, a_entryTags, a_counters, a_usefulValues, a_counts, a_position, a_wantedTag), (nI w, nI m, nI q, nI P, nI (2 ^ w), nI s, nI b, nI c, b_bits, b_slotPcs, b_slotDirs, b_slotProvs, b_counters, b_tags, b_usefuls, a_counts), zz_in F, fun post K => br_f n0 (br_f a0 (br_f a1 K)), fun post K => br_f n0 (br_f a0 (br_f a1 K))⟩
theorem zz_can {k : Nat} {u : SX} {v : SY} (I : i_Rel k u v) (x : Int32) : ∃ r u' v', i_Rel k u' v' ∧ (∀ post : Int32 → SX → Prop, post r u' → wpX_cancel post u x) ∧ (∀ post : Int32 → SY → Prop, post r v' → wpY_cancel post v x) := by
  refine I (fun u v => ∃ r u' v', i_Rel k u' v' ∧ (∀ post : Int32 → SX → Prop, post r u' → wpX_cancel post u x) ∧ (∀ post : Int32 → SY → Prop, post r v' → wpY_cancel post v x)) ?_
  intro w m q P s o p b c f_foundProvider f_foundAlternate f_providerDirection f_alternateDirection f_foundFresh a_history a_lengths a_widths a_leavingPlace a_folds a_slotPcs a_slotDirections a_slotProviders a_baseCounters a_entryTags a_counters a_usefulValues a_counts a_position a_wantedTag b_bits b_slotPcs b_slotDirs b_slotProvs b_counters b_tags b_usefuls F
  obtain ⟨hc, hs, ho, hp, hb, hcl, hset, ht, hq, hh, hf⟩ := id F
  have hq16 := hc.2.2.1.2
  rcases zz_ix x (s := s) (by omega) with h | ⟨h0, h1, h2⟩ | ⟨j, hj, rfl⟩
  · refine ⟨-2, (nI w, nI m, nI q, nI P, nI (2 ^ w), nI p, nI o, nI s, nI b, nI c, f_foundProvider, f_foundAlternate, f_providerDirection, f_alternateDirection, f_foundFresh, a_history, a_lengths, a_widths, a_leavingPlace, a_folds, a_slotPcs, a_slotDirections, a_slotProviders, a_baseCounters, a_entryTags, a_counters, a_usefulValues, a_counts, a_position, a_wantedTag), (nI w, nI m, nI q, nI P, nI (2 ^ w), nI s, nI b, nI c, b_bits, b_slotPcs, b_slotDirs, b_slotProvs, b_counters, b_tags, b_usefuls, a_counts), zz_in F, fun post K => ?_, fun post K => br_t h K⟩
    unfold wpX_cancel
    exact xk_h0 h (br_t rfl K)
  · refine ⟨-2, (nI w, nI m, nI q, nI P, nI (2 ^ w), nI p, nI o, nI s, nI b, nI c, f_foundProvider, f_foundAlternate, f_providerDirection, f_alternateDirection, f_foundFresh, a_history, a_lengths, a_widths, a_leavingPlace, a_folds, a_slotPcs, a_slotDirections, a_slotProviders, a_baseCounters, a_entryTags, a_counters, a_usefulValues, a_counts, a_position, a_wantedTag), (nI w, nI m, nI q, nI P, nI (2 ^ w), nI s, nI b, nI c, b_bits, b_slotPcs, b_slotDirs, b_slotProvs, b_counters, b_tags, b_usefuls, a_counts), zz_in F, fun post K => ?_, fun post K => br_f h0 (br_f h2 K)⟩
    unfold wpX_cancel
    exact xk_h1 h0 h1 (br_t rfl K)
  · obtain ⟨hh1, hf1⟩ := hf_rew hc hj (by omega) hp hh hf
    have ej : nI s - nI j = nI (s - j) := pk_sub (by omega)
    refine ⟨nI (s - j), (nI w, nI m, nI q, nI P, nI (2 ^ w), nI ((p + 256 - (s - j)) % 128), nI o, nI j, nI b, nI c, f_foundProvider, f_foundAlternate, f_providerDirection, f_alternateDirection, f_foundFresh, a_history, a_lengths, a_widths, a_leavingPlace, cp_A a_folds ((o + j) % 16 * 12) (16 * 12) 12, a_slotPcs, a_slotDirections, a_slotProviders, a_baseCounters, a_entryTags, a_counters, a_usefulValues, upd a_counts 3 ((a_counts 3) + nI (s - j)), a_position, a_wantedTag),
      (nI w, nI m, nI q, nI P, nI (2 ^ w), nI j, nI b, nI c, cp_A b_bits (j * 96) (16 * 96) 96, b_slotPcs, b_slotDirs, b_slotProvs, b_counters, b_tags, b_usefuls, upd a_counts 3 ((a_counts 3) + nI (s - j))), ?_, fun post K => ?_, fun post K => ?_⟩
    · exact zz_in ⟨hc, by omega, ho, by omega, hb, hcl, hset, ht, qu_le (by omega) hq, hh1, hf1⟩
    · unfold wpX_cancel
      refine xk_hs hj (by omega) (br_f (by decide) (nm_r ej ?_))
      refine xk_rew hj (by omega) hp ho ?_
      exact nm_e K
    · refine br_f (nI_pos (by omega)) (br_t (nI_lt hj (by omega)) (nm_r ej ?_))
      refine yk_cb (src := j) (dst := 16) (by omega) (by omega) (by omega) ?_
      exact nm_e K
theorem zz_rl {k : Nat} {pc pat : Int32} {n : Nat} (hn : n ≤ 16) : ∀ d i (wr : Int32) (f_logSize f_minHistory f_capacity f_agePeriod f_tableSize f_newest f_oldest f_queueLength f_bias f_ageClock f_foundProvider f_foundAlternate f_providerDirection f_alternateDirection f_foundFresh : Int32) (a_history a_lengths a_widths a_leavingPlace a_folds a_slotPcs a_slotDirections a_slotProviders a_baseCounters a_entryTags a_counters a_usefulValues a_counts a_position a_wantedTag : Nat → Int32) (g_w g_m g_q g_period g_n g_size g_bias g_clock : Int32) (b_bits b_slotPcs b_slotDirs b_slotProvs b_counters b_tags b_usefuls b_counts : Nat → Int32), i + d = n → i_Rel k (f_logSize, f_minHistory, f_capacity, f_agePeriod, f_tableSize, f_newest, f_oldest, f_queueLength, f_bias, f_ageClock, f_foundProvider, f_foundAlternate, f_providerDirection, f_alternateDirection, f_foundFresh, a_history, a_lengths, a_widths, a_leavingPlace, a_folds, a_slotPcs, a_slotDirections, a_slotProviders, a_baseCounters, a_entryTags, a_counters, a_usefulValues, a_counts, a_position, a_wantedTag) (g_w, g_m, g_q, g_period, g_n, g_size, g_bias, g_clock, b_bits, b_slotPcs, b_slotDirs, b_slotProvs, b_counters, b_tags, b_usefuls, b_counts) → ∃ r u' v', i_Rel k u' v' ∧ (∀ post : Int32 → SX → Prop, post r u' → wX_run_30 post pc pat (nI n) (d + 1) wr (nI i) f_logSize f_minHistory f_capacity f_agePeriod f_tableSize f_newest f_oldest f_queueLength f_bias f_ageClock f_foundProvider f_foundAlternate f_providerDirection f_alternateDirection f_foundFresh a_history a_lengths a_widths a_leavingPlace a_folds a_slotPcs a_slotDirections a_slotProviders a_baseCounters a_entryTags a_counters a_usefulValues a_counts a_position a_wantedTag) ∧ (∀ post : Int32 → SY → Prop, post r v' → wY_run_30 post pc pat (nI n) (d + 1) wr (nI i) g_w g_m g_q g_period g_n g_size g_bias g_clock b_bits b_slotPcs b_slotDirs b_slotProvs b_counters b_tags b_usefuls b_counts) := by
  intro d
  induction d with
  | zero =>
    intro i wr f_logSize f_minHistory f_capacity f_agePeriod f_tableSize f_newest f_oldest f_queueLength f_bias f_ageClock f_foundProvider f_foundAlternate f_providerDirection f_alternateDirection f_foundFresh a_history a_lengths a_widths a_leavingPlace a_folds a_slotPcs a_slotDirections a_slotProviders a_baseCounters a_entryTags a_counters a_usefulValues a_counts a_position a_wantedTag g_w g_m g_q g_period g_n g_size g_bias g_clock b_bits b_slotPcs b_slotDirs b_slotProvs b_counters b_tags b_usefuls b_counts hi I
    have hle : nI n ≤ nI i := nI_le (by omega) (by omega)
    exact ⟨wr, (f_logSize, f_minHistory, f_capacity, f_agePeriod, f_tableSize, f_newest, f_oldest, f_queueLength, f_bias, f_ageClock, f_foundProvider, f_foundAlternate, f_providerDirection, f_alternateDirection, f_foundFresh, a_history, a_lengths, a_widths, a_leavingPlace, a_folds, a_slotPcs, a_slotDirections, a_slotProviders, a_baseCounters, a_entryTags, a_counters, a_usefulValues, a_counts, a_position, a_wantedTag), (g_w, g_m, g_q, g_period, g_n, g_size, g_bias, g_clock, b_bits, b_slotPcs, b_slotDirs, b_slotProvs, b_counters, b_tags, b_usefuls, b_counts), I, fun post K => br_t hle K, fun post K => br_t hle K⟩
  | succ d ih =>
    intro i wr f_logSize f_minHistory f_capacity f_agePeriod f_tableSize f_newest f_oldest f_queueLength f_bias f_ageClock f_foundProvider f_foundAlternate f_providerDirection f_alternateDirection f_foundFresh a_history a_lengths a_widths a_leavingPlace a_folds a_slotPcs a_slotDirections a_slotProviders a_baseCounters a_entryTags a_counters a_usefulValues a_counts a_position a_wantedTag g_w g_m g_q g_period g_n g_size g_bias g_clock b_bits b_slotPcs b_slotDirs b_slotProvs b_counters b_tags b_usefuls b_counts hi I
    have hge : ¬ nI n ≤ nI i := nI_ge (by omega) (by omega)
    obtain ⟨r1, u1, v1, I1, X1, Y1⟩ := zz_pred I pc
    obtain ⟨r2, u2, v2, I2, X2, Y2⟩ := zz_res I1 (((pat.toUInt32 >>> ((nI i).toUInt32 &&& Int32.toUInt32 31)).toInt32) &&& 1)
    obtain ⟨hf_logSize, hf_minHistory, hf_capacity, hf_agePeriod, hf_tableSize, hf_newest, hf_oldest, hf_queueLength, hf_bias, hf_ageClock, hf_foundProvider, hf_foundAlternate, hf_providerDirection, hf_alternateDirection, hf_foundFresh, ha_history, ha_lengths, ha_widths, ha_leavingPlace, ha_folds, ha_slotPcs, ha_slotDirections, ha_slotProviders, ha_baseCounters, ha_entryTags, ha_counters, ha_usefulValues, ha_counts, ha_position, ha_wantedTag⟩ := u1
    obtain ⟨hg_w, hg_m, hg_q, hg_period, hg_n, hg_size, hg_bias, hg_clock, hb_bits, hb_slotPcs, hb_slotDirs, hb_slotProvs, hb_counters, hb_tags, hb_usefuls, hb_counts⟩ := v1
    obtain ⟨z_f_logSize, z_f_minHistory, z_f_capacity, z_f_agePeriod, z_f_tableSize, z_f_newest, z_f_oldest, z_f_queueLength, z_f_bias, z_f_ageClock, z_f_foundProvider, z_f_foundAlternate, z_f_providerDirection, z_f_alternateDirection, z_f_foundFresh, z_a_history, z_a_lengths, z_a_widths, z_a_leavingPlace, z_a_folds, z_a_slotPcs, z_a_slotDirections, z_a_slotProviders, z_a_baseCounters, z_a_entryTags, z_a_counters, z_a_usefulValues, z_a_counts, z_a_position, z_a_wantedTag⟩ := u2
    obtain ⟨z_g_w, z_g_m, z_g_q, z_g_period, z_g_n, z_g_size, z_g_bias, z_g_clock, z_b_bits, z_b_slotPcs, z_b_slotDirs, z_b_slotProvs, z_b_counters, z_b_tags, z_b_usefuls, z_b_counts⟩ := v2
    by_cases hr : r1 = ((pat.toUInt32 >>> ((nI i).toUInt32 &&& Int32.toUInt32 31)).toInt32) &&& 1
    · obtain ⟨r3, u3, v3, I3, X3, Y3⟩ := ih (i + 1) wr _ _ _ _ _ _ _ _ _ _ _ _ _ _ _ _ _ _ _ _ _ _ _ _ _ _ _ _ _ _ _ _ _ _ _ _ _ _ _ _ _ _ _ _ _ _ (by omega) I2
      refine ⟨r3, u3, v3, I3, fun post K => ?_, fun post K => ?_⟩
      · exact br_f hge (nm_e (X1 _ (X2 _ (br_t hr (nm_r (nI_1 i) (X3 post K))))))
      · exact br_f hge (nm_e (Y1 _ (Y2 _ (br_t hr (nm_r (nI_1 i) (Y3 post K))))))
    · obtain ⟨r3, u3, v3, I3, X3, Y3⟩ := ih (i + 1) (wr + 1) _ _ _ _ _ _ _ _ _ _ _ _ _ _ _ _ _ _ _ _ _ _ _ _ _ _ _ _ _ _ _ _ _ _ _ _ _ _ _ _ _ _ _ _ _ _ (by omega) I2
      refine ⟨r3, u3, v3, I3, fun post K => ?_, fun post K => ?_⟩
      · exact br_f hge (nm_e (X1 _ (X2 _ (br_f hr (nm_e (nm_r (nI_1 i) (X3 post K)))))))
      · exact br_f hge (nm_e (Y1 _ (Y2 _ (br_f hr (nm_e (nm_r (nI_1 i) (Y3 post K)))))))
theorem zz_run {k : Nat} {u : SX} {v : SY} (I : i_Rel k u v) (pc pat x : Int32) : ∃ r u' v', i_Rel k u' v' ∧ (∀ post : Int32 → SX → Prop, post r u' → wpX_run post u pc pat x) ∧ (∀ post : Int32 → SY → Prop, post r v' → wpY_run post v pc pat x) := by
  refine I (fun u v => ∃ r u' v', i_Rel k u' v' ∧ (∀ post : Int32 → SX → Prop, post r u' → wpX_run post u pc pat x) ∧ (∀ post : Int32 → SY → Prop, post r v' → wpY_run post v pc pat x)) ?_
  intro w m q P s o p b c f_foundProvider f_foundAlternate f_providerDirection f_alternateDirection f_foundFresh a_history a_lengths a_widths a_leavingPlace a_folds a_slotPcs a_slotDirections a_slotProviders a_baseCounters a_entryTags a_counters a_usefulValues a_counts a_position a_wantedTag b_bits b_slotPcs b_slotDirs b_slotProvs b_counters b_tags b_usefuls F
  by_cases s0 : nI s = 0
  · by_cases h1 : x < 1
    · exact ⟨-2, (nI w, nI m, nI q, nI P, nI (2 ^ w), nI p, nI o, nI s, nI b, nI c, f_foundProvider, f_foundAlternate, f_providerDirection, f_alternateDirection, f_foundFresh, a_history, a_lengths, a_widths, a_leavingPlace, a_folds, a_slotPcs, a_slotDirections, a_slotProviders, a_baseCounters, a_entryTags, a_counters, a_usefulValues, a_counts, a_position, a_wantedTag), (nI w, nI m, nI q, nI P, nI (2 ^ w), nI s, nI b, nI c, b_bits, b_slotPcs, b_slotDirs, b_slotProvs, b_counters, b_tags, b_usefuls, a_counts), zz_in F, fun post K => br_t s0 (br_t h1 K), fun post K => br_t s0 (br_t h1 K)⟩
    · by_cases h16 : x ≤ 16
      · have h0 : ¬ x < 0 := by
          intro z
          apply h1
          rw [Int32.lt_iff_toInt_lt] at z ⊢
          have e0 : (0 : Int32).toInt = 0 := by decide
          have e1 : (1 : Int32).toInt = 1 := by decide
          omega
        obtain ⟨n, hn, rfl⟩ := nI_of2 (M := 16) (n := 16) (by decide) h0 h16
        obtain ⟨r, u', v', I', X', Y'⟩ := zz_rl (k := k) (pc := pc) (pat := pat) hn n 0 0 _ _ _ _ _ _ _ _ _ _ _ _ _ _ _ _ _ _ _ _ _ _ _ _ _ _ _ _ _ _ _ _ _ _ _ _ _ _ _ _ _ _ _ _ _ _ (by omega) (zz_in F)
        exact ⟨r, u', v', I', fun post K => br_t s0 (br_f h1 (br_t h16 ⟨n + 1, X' post K⟩)), fun post K => br_t s0 (br_f h1 (br_t h16 ⟨n + 1, Y' post K⟩))⟩
      · exact ⟨-2, (nI w, nI m, nI q, nI P, nI (2 ^ w), nI p, nI o, nI s, nI b, nI c, f_foundProvider, f_foundAlternate, f_providerDirection, f_alternateDirection, f_foundFresh, a_history, a_lengths, a_widths, a_leavingPlace, a_folds, a_slotPcs, a_slotDirections, a_slotProviders, a_baseCounters, a_entryTags, a_counters, a_usefulValues, a_counts, a_position, a_wantedTag), (nI w, nI m, nI q, nI P, nI (2 ^ w), nI s, nI b, nI c, b_bits, b_slotPcs, b_slotDirs, b_slotProvs, b_counters, b_tags, b_usefuls, a_counts), zz_in F, fun post K => br_t s0 (br_f h1 (br_f h16 K)), fun post K => br_t s0 (br_f h1 (br_f h16 K))⟩
  · exact ⟨-4, (nI w, nI m, nI q, nI P, nI (2 ^ w), nI p, nI o, nI s, nI b, nI c, f_foundProvider, f_foundAlternate, f_providerDirection, f_alternateDirection, f_foundFresh, a_history, a_lengths, a_widths, a_leavingPlace, a_folds, a_slotPcs, a_slotDirections, a_slotProviders, a_baseCounters, a_entryTags, a_counters, a_usefulValues, a_counts, a_position, a_wantedTag), (nI w, nI m, nI q, nI P, nI (2 ^ w), nI s, nI b, nI c, b_bits, b_slotPcs, b_slotDirs, b_slotProvs, b_counters, b_tags, b_usefuls, a_counts), zz_in F, fun post K => br_f s0 K, fun post K => br_f s0 K⟩
end
section
/-! the calls that only read (or store into the scratch fields alone) -/
theorem zz_le (x : Int32) (M : Nat) (hM : M < 2 ^ 30) : x < 0 ∨ (¬ x < 0 ∧ ¬ x ≤ nI M ∧ nI M < x) ∨ ∃ j, j ≤ M ∧ x = nI j := by
  by_cases h : x < 0
  · exact Or.inl h
  · obtain ⟨j, hj, rfl⟩ := nI_of h
    by_cases h2 : j ≤ M
    · exact Or.inr (Or.inr ⟨j, h2, rfl⟩)
    · exact Or.inr (Or.inl ⟨h, nI_ge (by omega) hj, nI_lt (by omega) hj⟩)
theorem i_vc_direction {k : Nat} {u : SX} {v : SY} (I : i_Rel k u v) (hk : k + 4 ≤ 2052) (v1 : Int32) : wpX_direction (fun r u' => wpY_direction (fun r' => r' = r ∧ i_Rel (k + 4) u' v) v v1) u v1 := by
  refine I (fun u v => wpX_direction (fun r u' => wpY_direction (fun r' => r' = r ∧ i_Rel (k + 4) u' v) v v1) u v1) ?_
  intro w m q P s o p b c f_foundProvider f_foundAlternate f_providerDirection f_alternateDirection f_foundFresh a_history a_lengths a_widths a_leavingPlace a_folds a_slotPcs a_slotDirections a_slotProviders a_baseCounters a_entryTags a_counters a_usefulValues a_counts a_position a_wantedTag b_bits b_slotPcs b_slotDirs b_slotProvs b_counters b_tags b_usefuls F
  obtain ⟨hc, hs, ho, hp, hb, hcl, hset, ht, hq, hh, hf⟩ := id F
  obtain ⟨pos, wt, hl, X0⟩ := xk_look (f_minHistory := nI m) (f_capacity := nI q) (f_agePeriod := nI P) (f_newest := nI p) (f_oldest := nI o) (f_queueLength := nI s) (f_bias := nI b) (f_ageClock := nI c) (f_foundProvider := f_foundProvider) (f_foundAlternate := f_foundAlternate) (f_providerDirection := f_providerDirection) (f_alternateDirection := f_alternateDirection) (f_foundFresh := f_foundFresh) (a_history := a_history) (a_lengths := a_lengths) (a_widths := a_widths) (a_leavingPlace := a_leavingPlace) (a_folds := a_folds) (a_slotPcs := a_slotPcs) (a_slotDirections := a_slotDirections) (a_slotProviders := a_slotProviders) (a_baseCounters := a_baseCounters) (a_entryTags := a_entryTags) (a_counters := a_counters) (a_usefulValues := a_usefulValues) (a_counts := a_counts) (a_position := a_position) (a_wantedTag := a_wantedTag) hc (row := 16) (by omega) hf.1 ht v1 rfl rfl
  unfold wpX_direction
  refine X0 _ ?_
  refine xk_lud hb ?_
  unfold wpY_direction
  refine yk_lu hc (h := 16) (by omega) hb ?_
  exact ⟨rfl, zz_in F⟩
theorem i_vc_provider {k : Nat} {u : SX} {v : SY} (I : i_Rel k u v) (hk : k + 4 ≤ 2052) (v1 : Int32) : wpX_provider (fun r u' => wpY_provider (fun r' => r' = r ∧ i_Rel (k + 4) u' v) v v1) u v1 := by
  refine I (fun u v => wpX_provider (fun r u' => wpY_provider (fun r' => r' = r ∧ i_Rel (k + 4) u' v) v v1) u v1) ?_
  intro w m q P s o p b c f_foundProvider f_foundAlternate f_providerDirection f_alternateDirection f_foundFresh a_history a_lengths a_widths a_leavingPlace a_folds a_slotPcs a_slotDirections a_slotProviders a_baseCounters a_entryTags a_counters a_usefulValues a_counts a_position a_wantedTag b_bits b_slotPcs b_slotDirs b_slotProvs b_counters b_tags b_usefuls F
  obtain ⟨hc, hs, ho, hp, hb, hcl, hset, ht, hq, hh, hf⟩ := id F
  obtain ⟨pos, wt, hl, X0⟩ := xk_look (f_minHistory := nI m) (f_capacity := nI q) (f_agePeriod := nI P) (f_newest := nI p) (f_oldest := nI o) (f_queueLength := nI s) (f_bias := nI b) (f_ageClock := nI c) (f_foundProvider := f_foundProvider) (f_foundAlternate := f_foundAlternate) (f_providerDirection := f_providerDirection) (f_alternateDirection := f_alternateDirection) (f_foundFresh := f_foundFresh) (a_history := a_history) (a_lengths := a_lengths) (a_widths := a_widths) (a_leavingPlace := a_leavingPlace) (a_folds := a_folds) (a_slotPcs := a_slotPcs) (a_slotDirections := a_slotDirections) (a_slotProviders := a_slotProviders) (a_baseCounters := a_baseCounters) (a_entryTags := a_entryTags) (a_counters := a_counters) (a_usefulValues := a_usefulValues) (a_counts := a_counts) (a_position := a_position) (a_wantedTag := a_wantedTag) hc (row := 16) (by omega) hf.1 ht v1 rfl rfl
  unfold wpX_provider
  refine X0 _ ?_
  dsimp only
  unfold wpY_provider
  refine yk_mb hc (h := 16) (l := 5) (by omega) (by omega) ?_
  exact ⟨rfl, zz_in F⟩
theorem i_vc_alternate {k : Nat} {u : SX} {v : SY} (I : i_Rel k u v) (hk : k + 4 ≤ 2052) (v1 : Int32) : wpX_alternate (fun r u' => wpY_alternate (fun r' => r' = r ∧ i_Rel (k + 4) u' v) v v1) u v1 := by
  refine I (fun u v => wpX_alternate (fun r u' => wpY_alternate (fun r' => r' = r ∧ i_Rel (k + 4) u' v) v v1) u v1) ?_
  intro w m q P s o p b c f_foundProvider f_foundAlternate f_providerDirection f_alternateDirection f_foundFresh a_history a_lengths a_widths a_leavingPlace a_folds a_slotPcs a_slotDirections a_slotProviders a_baseCounters a_entryTags a_counters a_usefulValues a_counts a_position a_wantedTag b_bits b_slotPcs b_slotDirs b_slotProvs b_counters b_tags b_usefuls F
  obtain ⟨hc, hs, ho, hp, hb, hcl, hset, ht, hq, hh, hf⟩ := id F
  have h4 := lk_le (yt := b_tags) (E := tg_E w m v1 (bk b_bits 16)) (T := tg_T m v1 (bk b_bits 16)) 4
  obtain ⟨pos, wt, hl, X0⟩ := xk_look (f_minHistory := nI m) (f_capacity := nI q) (f_agePeriod := nI P) (f_newest := nI p) (f_oldest := nI o) (f_queueLength := nI s) (f_bias := nI b) (f_ageClock := nI c) (f_foundProvider := f_foundProvider) (f_foundAlternate := f_foundAlternate) (f_providerDirection := f_providerDirection) (f_alternateDirection := f_alternateDirection) (f_foundFresh := f_foundFresh) (a_history := a_history) (a_lengths := a_lengths) (a_widths := a_widths) (a_leavingPlace := a_leavingPlace) (a_folds := a_folds) (a_slotPcs := a_slotPcs) (a_slotDirections := a_slotDirections) (a_slotProviders := a_slotProviders) (a_baseCounters := a_baseCounters) (a_entryTags := a_entryTags) (a_counters := a_counters) (a_usefulValues := a_usefulValues) (a_counts := a_counts) (a_position := a_position) (a_wantedTag := a_wantedTag) hc (row := 16) (by omega) hf.1 ht v1 rfl rfl
  unfold wpX_alternate
  refine X0 _ ?_
  dsimp only
  unfold wpY_alternate
  refine yk_mb hc (h := 16) (l := 5) (by omega) (by omega) ?_
  rw [show 5 - 1 = 4 from rfl]
  refine yk_mb hc (h := 16) (by omega) (by omega) ?_
  exact ⟨rfl, zz_in F⟩
theorem i_vc_index {k : Nat} {u : SX} {v : SY} (I : i_Rel k u v) (hk : k + 4 ≤ 2052) (v1 : Int32) (v2 : Int32) : wpX_index (fun r => wpY_index (fun r' => r' = r ∧ i_Rel (k + 4) u v) v v1 v2) u v1 v2 := by
  refine I (fun u v => wpX_index (fun r => wpY_index (fun r' => r' = r ∧ i_Rel (k + 4) u v) v v1 v2) u v1 v2) ?_
  intro w m q P s o p b c f_foundProvider f_foundAlternate f_providerDirection f_alternateDirection f_foundFresh a_history a_lengths a_widths a_leavingPlace a_folds a_slotPcs a_slotDirections a_slotProviders a_baseCounters a_entryTags a_counters a_usefulValues a_counts a_position a_wantedTag b_bits b_slotPcs b_slotDirs b_slotProvs b_counters b_tags b_usefuls F
  obtain ⟨hc, hs, ho, hp, hb, hcl, hset, ht, hq, hh, hf⟩ := id F
  rcases zz_le v1 4 (by omega) with h | ⟨h0, h1, h2⟩ | ⟨t, t4, rfl⟩
  · exact br_t h (br_t h ⟨rfl, zz_in F⟩)
  · exact br_f h0 (br_f h1 (br_f h0 (br_f h1 ⟨rfl, zz_in F⟩)))
  · have a0 := nI_pos (n := t) (by omega)
    have a4 : nI t ≤ 4 := nI_le (b := 4) t4 (by omega)
    have Y : ∀ r, r = nI (tg_E w m v2 (bk b_bits 16) t) → wpY_index (fun r' => r' = r ∧ i_Rel (k + 4) (nI w, nI m, nI q, nI P, nI (2 ^ w), nI p, nI o, nI s, nI b, nI c, f_foundProvider, f_foundAlternate, f_providerDirection, f_alternateDirection, f_foundFresh, a_history, a_lengths, a_widths, a_leavingPlace, a_folds, a_slotPcs, a_slotDirections, a_slotProviders, a_baseCounters, a_entryTags, a_counters, a_usefulValues, a_counts, a_position, a_wantedTag) (nI w, nI m, nI q, nI P, nI (2 ^ w), nI s, nI b, nI c, b_bits, b_slotPcs, b_slotDirs, b_slotProvs, b_counters, b_tags, b_usefuls, a_counts)) (nI w, nI m, nI q, nI P, nI (2 ^ w), nI s, nI b, nI c, b_bits, b_slotPcs, b_slotDirs, b_slotProvs, b_counters, b_tags, b_usefuls, a_counts) (nI t) v2 := fun r e => br_f a0 (br_t a4 (yk_ix hc (h := 16) (by omega) t4 ⟨e.symm, zz_in F⟩))
    refine br_f a0 (br_t a4 ?_)
    rcases Nat.eq_zero_or_pos t with t0 | t0
    · subst t0
      exact br_t rfl (Y _ (tg_E0 m v2 (bk b_bits 16) hc.1.2).1)
    · exact br_f (nI_ne0 t0 (by omega)) (xk_ti hc (row := 16) (by omega) hf.1 t0 t4 (Y _ rfl))
theorem i_vc_tag {k : Nat} {u : SX} {v : SY} (I : i_Rel k u v) (hk : k + 4 ≤ 2052) (v1 : Int32) (v2 : Int32) : wpX_tag (fun r => wpY_tag (fun r' => r' = r ∧ i_Rel (k + 4) u v) v v1 v2) u v1 v2 := by
  refine I (fun u v => wpX_tag (fun r => wpY_tag (fun r' => r' = r ∧ i_Rel (k + 4) u v) v v1 v2) u v1 v2) ?_
  intro w m q P s o p b c f_foundProvider f_foundAlternate f_providerDirection f_alternateDirection f_foundFresh a_history a_lengths a_widths a_leavingPlace a_folds a_slotPcs a_slotDirections a_slotProviders a_baseCounters a_entryTags a_counters a_usefulValues a_counts a_position a_wantedTag b_bits b_slotPcs b_slotDirs b_slotProvs b_counters b_tags b_usefuls F
  obtain ⟨hc, hs, ho, hp, hb, hcl, hset, ht, hq, hh, hf⟩ := id F
  unfold wpX_tag
  rcases zz_tx v1 with h | ⟨h0, h1, h2⟩ | ⟨t, t1, t4, rfl⟩
  · exact xk_t0 h (br_t rfl (br_t h ⟨rfl, zz_in F⟩))
  · exact xk_t1 h0 h1 (br_t rfl (br_f h0 (br_f h2 ⟨rfl, zz_in F⟩)))
  · refine xk_ts t1 t4 (br_f (by decide) ?_)
    refine xk_to (row := 16) (by omega) hf.1 t1 t4 ?_
    refine br_f (nI_nlt (b := 1) t1 (by omega)) (br_t (nI_le (b := 4) t4 (by omega)) ?_)
    exact yk_tag hc (h := 16) (by omega) t1 t4 ⟨rfl, zz_in F⟩
theorem i_vc_fold {k : Nat} {u : SX} {v : SY} (I : i_Rel k u v) (hk : k + 4 ≤ 2052) (v1 : Int32) (v2 : Int32) : wpX_fold (fun r => wpY_fold (fun r' => r' = r ∧ i_Rel (k + 4) u v) v v1 v2) u v1 v2 := by
  refine I (fun u v => wpX_fold (fun r => wpY_fold (fun r' => r' = r ∧ i_Rel (k + 4) u v) v v1 v2) u v1 v2) ?_
  intro w m q P s o p b c f_foundProvider f_foundAlternate f_providerDirection f_alternateDirection f_foundFresh a_history a_lengths a_widths a_leavingPlace a_folds a_slotPcs a_slotDirections a_slotProviders a_baseCounters a_entryTags a_counters a_usefulValues a_counts a_position a_wantedTag b_bits b_slotPcs b_slotDirs b_slotProvs b_counters b_tags b_usefuls F
  obtain ⟨hc, hs, ho, hp, hb, hcl, hset, ht, hq, hh, hf⟩ := id F
  unfold wpX_fold
  rcases zz_tx v1 with h | ⟨h0, h1, h2⟩ | ⟨t, t1, t4, rfl⟩
  · exact xk_t0 h (br_t rfl (br_t h ⟨rfl, zz_in F⟩))
  · exact xk_t1 h0 h1 (br_t rfl (br_f h0 (br_t h1 ⟨rfl, zz_in F⟩)))
  · have b1 : ¬ nI t < 1 := nI_nlt (b := 1) t1 (by omega)
    have b4 : ¬ (4 : Int32) < nI t := nI_nlt (a := 4) t4 (by omega)
    refine xk_ts t1 t4 (br_f (by decide) ?_)
    rcases zz_le v2 2 (by omega) with g | ⟨g0, g1, g2⟩ | ⟨d, d2, rfl⟩
    · exact br_t g (br_f b1 (br_f b4 (br_t g ⟨rfl, zz_in F⟩)))
    · exact br_f g0 (br_f g1 (br_f b1 (br_f b4 (br_f g0 (br_f g1 ⟨rfl, zz_in F⟩)))))
    · have c0 := nI_pos (n := d) (by omega)
      have c2 : nI d ≤ 2 := nI_le (b := 2) d2 (by omega)
      refine br_f c0 (br_t c2 ?_)
      refine xk_fa (row := 16) (by omega) t1 t4 (by omega) ?_
      refine br_f b1 (br_f b4 (br_f c0 (br_t c2 ?_)))
      exact yk_fold hc (h := 16) (by omega) t1 t4 (by omega) ⟨(hf.1 t d t1 t4 (by omega)).symm, zz_in F⟩
theorem i_vc_historyBit {k : Nat} {u : SX} {v : SY} (I : i_Rel k u v) (hk : k + 4 ≤ 2052) (v1 : Int32) : wpX_historyBit (fun r => wpY_historyBit (fun r' => r' = r ∧ i_Rel (k + 4) u v) v v1) u v1 := by
  refine I (fun u v => wpX_historyBit (fun r => wpY_historyBit (fun r' => r' = r ∧ i_Rel (k + 4) u v) v v1) u v1) ?_
  intro w m q P s o p b c f_foundProvider f_foundAlternate f_providerDirection f_alternateDirection f_foundFresh a_history a_lengths a_widths a_leavingPlace a_folds a_slotPcs a_slotDirections a_slotProviders a_baseCounters a_entryTags a_counters a_usefulValues a_counts a_position a_wantedTag b_bits b_slotPcs b_slotDirs b_slotProvs b_counters b_tags b_usefuls F
  obtain ⟨hc, hs, ho, hp, hb, hcl, hset, ht, hq, hh, hf⟩ := id F
  have hq16 := hc.2.2.1.2
  have hL := cf_L2 hc.2.1.1 hc.2.1.2 (t := 4) (by omega)
  have e1 : a_lengths 4 + nI s = nI (cf_L m 4 + s) := by rw [hset.1 4 (by omega) (by omega), nI_add]
  have e2 : 8 * nI m + nI s = nI (cf_L m 4 + s) := by
    show nI 8 * nI m + nI s = _
    rw [pk_mul, nI_add]
    have : 8 * m = cf_L m 4 := Nat.mul_comm 8 m
    rw [this]
  have X : ∀ post : Int32 → Prop, ((v1 < 0 → (post (-2))) ∧ (¬ v1 < 0 → (((v1 < nI (cf_L m 4 + s) → (vp_in ((nI p - v1) &&& 127) 128 ∧ (post (a_history ((nI p - v1) &&& 127).toNatClampNeg)))) ∧ (¬ v1 < nI (cf_L m 4 + s) → (post (-2))))))) → wpX_historyBit post (nI w, nI m, nI q, nI P, nI (2 ^ w), nI p, nI o, nI s, nI b, nI c, f_foundProvider, f_foundAlternate, f_providerDirection, f_alternateDirection, f_foundFresh, a_history, a_lengths, a_widths, a_leavingPlace, a_folds, a_slotPcs, a_slotDirections, a_slotProviders, a_baseCounters, a_entryTags, a_counters, a_usefulValues, a_counts, a_position, a_wantedTag) v1 := by
    intro post K
    rw [← e1] at K
    exact K
  have Y : ∀ post : Int32 → Prop, ((v1 < 0 → (post (-2))) ∧ (¬ v1 < 0 → (((v1 < nI (cf_L m 4 + s) → (vp_in (1536 + v1) 1632 ∧ (post (b_bits (1536 + v1).toNatClampNeg)))) ∧ (¬ v1 < nI (cf_L m 4 + s) → (post (-2))))))) → wpY_historyBit post (nI w, nI m, nI q, nI P, nI (2 ^ w), nI s, nI b, nI c, b_bits, b_slotPcs, b_slotDirs, b_slotProvs, b_counters, b_tags, b_usefuls, a_counts) v1 := by
    intro post K
    rw [← e2] at K
    exact K
  refine X _ ?_
  rcases zz_ix v1 (s := cf_L m 4 + s) (by omega) with h | ⟨h0, h1, h2⟩ | ⟨j, hj, rfl⟩
  · exact br_t h (Y _ (br_t h ⟨rfl, zz_in F⟩))
  · exact br_f h0 (br_f h2 (Y _ (br_f h0 (br_f h2 ⟨rfl, zz_in F⟩))))
  · have c0 := nI_pos (n := j) (by omega)
    have c1 : nI j < nI (cf_L m 4 + s) := nI_lt hj (by omega)
    have ex : (nI p - nI j) &&& 127 = nI ((p + 256 - j) % 128) := ar_mod (by omega) (by omega)
    have ey : (1536 : Int32) + nI j = nI (16 * 96 + j) := nI_add 1536 j
    rw [ex, nI_clamp (by omega)]
    refine br_f c0 (br_t c1 ⟨vp_in_nI (by omega) (by omega), Y _ ?_⟩)
    rw [ey, nI_clamp (by omega)]
    refine br_f c0 (br_t c1 ⟨vp_in_nI (by omega) (by omega), ?_⟩)
    exact ⟨hh.2.1 j (by omega), zz_in F⟩
theorem i_vc_queued {k : Nat} {u : SX} {v : SY} (I : i_Rel k u v) (hk : k + 4 ≤ 2052) : wpX_queued (fun r => wpY_queued (fun r' => r' = r ∧ i_Rel (k + 4) u v) v) u := by
  refine I (fun u v => wpX_queued (fun r => wpY_queued (fun r' => r' = r ∧ i_Rel (k + 4) u v) v) u) ?_
  intro w m q P s o p b c f_foundProvider f_foundAlternate f_providerDirection f_alternateDirection f_foundFresh a_history a_lengths a_widths a_leavingPlace a_folds a_slotPcs a_slotDirections a_slotProviders a_baseCounters a_entryTags a_counters a_usefulValues a_counts a_position a_wantedTag b_bits b_slotPcs b_slotDirs b_slotProvs b_counters b_tags b_usefuls F
  exact And.intro rfl (zz_in F)
theorem i_vc_slotPc {k : Nat} {u : SX} {v : SY} (I : i_Rel k u v) (hk : k + 4 ≤ 2052) (v1 : Int32) : wpX_slotPc (fun r => wpY_slotPc (fun r' => r' = r ∧ i_Rel (k + 4) u v) v v1) u v1 := by
  refine I (fun u v => wpX_slotPc (fun r => wpY_slotPc (fun r' => r' = r ∧ i_Rel (k + 4) u v) v v1) u v1) ?_
  intro w m q P s o p b c f_foundProvider f_foundAlternate f_providerDirection f_alternateDirection f_foundFresh a_history a_lengths a_widths a_leavingPlace a_folds a_slotPcs a_slotDirections a_slotProviders a_baseCounters a_entryTags a_counters a_usefulValues a_counts a_position a_wantedTag b_bits b_slotPcs b_slotDirs b_slotProvs b_counters b_tags b_usefuls F
  obtain ⟨hc, hs, ho, hp, hb, hcl, hset, ht, hq, hh, hf⟩ := id F
  have hq16 := hc.2.2.1.2
  unfold wpX_slotPc
  rcases zz_ix v1 (s := s) (by omega) with z | ⟨z0, z1, z2⟩ | ⟨j, hj, rfl⟩
  · exact xk_h0 z (br_t rfl (br_t z ⟨rfl, zz_in F⟩))
  · exact xk_h1 z0 z1 (br_t rfl (br_f z0 (br_f z2 ⟨rfl, zz_in F⟩)))
  · refine xk_hs hj (by omega) (br_f (by decide) ?_)
    rw [zz_15 ho (by omega), nI_clamp (by omega)]
    refine ⟨vp_in_nI (by omega) (by omega), br_f (nI_pos (by omega)) (br_t (nI_lt hj (by omega)) ⟨vp_in_nI (by omega) (by omega), ?_, zz_in F⟩)⟩
    rw [nI_clamp (by omega)]
    exact (hq j hj).1.symm
theorem i_vc_slotDirection {k : Nat} {u : SX} {v : SY} (I : i_Rel k u v) (hk : k + 4 ≤ 2052) (v1 : Int32) : wpX_slotDirection (fun r => wpY_slotDirection (fun r' => r' = r ∧ i_Rel (k + 4) u v) v v1) u v1 := by
  refine I (fun u v => wpX_slotDirection (fun r => wpY_slotDirection (fun r' => r' = r ∧ i_Rel (k + 4) u v) v v1) u v1) ?_
  intro w m q P s o p b c f_foundProvider f_foundAlternate f_providerDirection f_alternateDirection f_foundFresh a_history a_lengths a_widths a_leavingPlace a_folds a_slotPcs a_slotDirections a_slotProviders a_baseCounters a_entryTags a_counters a_usefulValues a_counts a_position a_wantedTag b_bits b_slotPcs b_slotDirs b_slotProvs b_counters b_tags b_usefuls F
  obtain ⟨hc, hs, ho, hp, hb, hcl, hset, ht, hq, hh, hf⟩ := id F
  have hq16 := hc.2.2.1.2
  unfold wpX_slotDirection
  rcases zz_ix v1 (s := s) (by omega) with z | ⟨z0, z1, z2⟩ | ⟨j, hj, rfl⟩
  · exact xk_h0 z (br_t rfl (br_t z ⟨rfl, zz_in F⟩))
  · exact xk_h1 z0 z1 (br_t rfl (br_f z0 (br_f z2 ⟨rfl, zz_in F⟩)))
  · refine xk_hs hj (by omega) (br_f (by decide) ?_)
    rw [zz_15 ho (by omega), nI_clamp (by omega)]
    refine ⟨vp_in_nI (by omega) (by omega), br_f (nI_pos (by omega)) (br_t (nI_lt hj (by omega)) ⟨vp_in_nI (by omega) (by omega), ?_, zz_in F⟩)⟩
    rw [nI_clamp (by omega)]
    exact (hq j hj).2.1.symm
theorem i_vc_slotProvider {k : Nat} {u : SX} {v : SY} (I : i_Rel k u v) (hk : k + 4 ≤ 2052) (v1 : Int32) : wpX_slotProvider (fun r => wpY_slotProvider (fun r' => r' = r ∧ i_Rel (k + 4) u v) v v1) u v1 := by
  refine I (fun u v => wpX_slotProvider (fun r => wpY_slotProvider (fun r' => r' = r ∧ i_Rel (k + 4) u v) v v1) u v1) ?_
  intro w m q P s o p b c f_foundProvider f_foundAlternate f_providerDirection f_alternateDirection f_foundFresh a_history a_lengths a_widths a_leavingPlace a_folds a_slotPcs a_slotDirections a_slotProviders a_baseCounters a_entryTags a_counters a_usefulValues a_counts a_position a_wantedTag b_bits b_slotPcs b_slotDirs b_slotProvs b_counters b_tags b_usefuls F
  obtain ⟨hc, hs, ho, hp, hb, hcl, hset, ht, hq, hh, hf⟩ := id F
  have hq16 := hc.2.2.1.2
  unfold wpX_slotProvider
  rcases zz_ix v1 (s := s) (by omega) with z | ⟨z0, z1, z2⟩ | ⟨j, hj, rfl⟩
  · exact xk_h0 z (br_t rfl (br_t z ⟨rfl, zz_in F⟩))
  · exact xk_h1 z0 z1 (br_t rfl (br_f z0 (br_f z2 ⟨rfl, zz_in F⟩)))
  · refine xk_hs hj (by omega) (br_f (by decide) ?_)
    rw [zz_15 ho (by omega), nI_clamp (by omega)]
    refine ⟨vp_in_nI (by omega) (by omega), br_f (nI_pos (by omega)) (br_t (nI_lt hj (by omega)) ⟨vp_in_nI (by omega) (by omega), ?_, zz_in F⟩)⟩
    rw [nI_clamp (by omega)]
    exact (hq j hj).2.2.symm
theorem i_vc_slotFold {k : Nat} {u : SX} {v : SY} (I : i_Rel k u v) (hk : k + 4 ≤ 2052) (v1 : Int32) (v2 : Int32) (v3 : Int32) : wpX_slotFold (fun r => wpY_slotFold (fun r' => r' = r ∧ i_Rel (k + 4) u v) v v1 v2 v3) u v1 v2 v3 := by
  refine I (fun u v => wpX_slotFold (fun r => wpY_slotFold (fun r' => r' = r ∧ i_Rel (k + 4) u v) v v1 v2 v3) u v1 v2 v3) ?_
  intro w m q P s o p b c f_foundProvider f_foundAlternate f_providerDirection f_alternateDirection f_foundFresh a_history a_lengths a_widths a_leavingPlace a_folds a_slotPcs a_slotDirections a_slotProviders a_baseCounters a_entryTags a_counters a_usefulValues a_counts a_position a_wantedTag b_bits b_slotPcs b_slotDirs b_slotProvs b_counters b_tags b_usefuls F
  obtain ⟨hc, hs, ho, hp, hb, hcl, hset, ht, hq, hh, hf⟩ := id F
  have hq16 := hc.2.2.1.2
  unfold wpX_slotFold
  rcases zz_ix v1 (s := s) (by omega) with z | ⟨z0, z1, z2⟩ | ⟨j, hj, rfl⟩
  · exact xk_h0 z (br_t rfl (br_t z ⟨rfl, zz_in F⟩))
  · exact xk_h1 z0 z1 (br_t rfl (br_f z0 (br_t z1 ⟨rfl, zz_in F⟩)))
  · have a0 := nI_pos (n := j) (by omega)
    have a1 : ¬ nI s ≤ nI j := nI_ge hj (by omega)
    refine xk_hs hj (by omega) (br_f (by decide) ?_)
    rcases zz_tx v2 with h | ⟨h0, h1, h2⟩ | ⟨t, t1, t4, rfl⟩
    · exact xk_t0 h (br_t rfl (br_f a0 (br_f a1 (br_t h ⟨rfl, zz_in F⟩))))
    · exact xk_t1 h0 h1 (br_t rfl (br_f a0 (br_f a1 (br_f h0 (br_t h1 ⟨rfl, zz_in F⟩)))))
    · have b1 : ¬ nI t < 1 := nI_nlt (b := 1) t1 (by omega)
      have b4 : ¬ (4 : Int32) < nI t := nI_nlt (a := 4) t4 (by omega)
      refine xk_ts t1 t4 (br_f (by decide) ?_)
      rcases zz_le v3 2 (by omega) with g | ⟨g0, g1, g2⟩ | ⟨d, d2, rfl⟩
      · exact br_t g (br_f a0 (br_f a1 (br_f b1 (br_f b4 (br_t g ⟨rfl, zz_in F⟩)))))
      · exact br_f g0 (br_f g1 (br_f a0 (br_f a1 (br_f b1 (br_f b4 (br_f g0 (br_f g1 ⟨rfl, zz_in F⟩)))))))
      · have c0 := nI_pos (n := d) (by omega)
        have c2 : nI d ≤ 2 := nI_le (b := 2) d2 (by omega)
        refine br_f c0 (br_t c2 (nm_r (zz_15 ho (by omega)) ?_))
        refine xk_fa (row := (o + j) % 16) (by omega) t1 t4 (by omega) ?_
        refine br_f a0 (br_f a1 (br_f b1 (br_f b4 (br_f c0 (br_t c2 ?_)))))
        exact yk_fold hc (h := j) (by omega) t1 t4 (by omega) ⟨(hf.2 j hj t d t1 t4 (by omega)).symm, zz_in F⟩
theorem zz_x5 {t e : Nat} (t1 : 1 ≤ t) (t4 : t ≤ 4) (he : e < 32) : ((nI t - 1) <<< ((5 : Int32) &&& 31)) + nI e = nI ((t - 1) * 32 + e) := by
  rw [show nI t - 1 = nI (t - 1) from pk_sub (a := t) (b := 1) t1, pk_shlN ((5 : Int32) &&& 31) 5 (by decide) (by omega), nI_add]
theorem zz_y6 {t e : Nat} : nI t * 64 + nI e = nI (t * 64 + e) := by
  show nI t * nI 64 + nI e = _
  rw [pk_mul, nI_add]
theorem i_vc_entryTag {k : Nat} {u : SX} {v : SY} (I : i_Rel k u v) (hk : k + 4 ≤ 2052) (v1 : Int32) (v2 : Int32) : wpX_entryTag (fun r => wpY_entryTag (fun r' => r' = r ∧ i_Rel (k + 4) u v) v v1 v2) u v1 v2 := by
  refine I (fun u v => wpX_entryTag (fun r => wpY_entryTag (fun r' => r' = r ∧ i_Rel (k + 4) u v) v v1 v2) u v1 v2) ?_
  intro w m q P s o p b c f_foundProvider f_foundAlternate f_providerDirection f_alternateDirection f_foundFresh a_history a_lengths a_widths a_leavingPlace a_folds a_slotPcs a_slotDirections a_slotProviders a_baseCounters a_entryTags a_counters a_usefulValues a_counts a_position a_wantedTag b_bits b_slotPcs b_slotDirs b_slotProvs b_counters b_tags b_usefuls F
  obtain ⟨hc, hs, ho, hp, hb, hcl, hset, ht, hq, hh, hf⟩ := id F
  have h32 := cf_p2 hc.1.2
  unfold wpX_entryTag
  rcases zz_tx v1 with h | ⟨h0, h1, h2⟩ | ⟨t, t1, t4, rfl⟩
  · exact xk_t0 h (br_t rfl (br_t h ⟨rfl, zz_in F⟩))
  · exact xk_t1 h0 h1 (br_t rfl (br_f h0 (br_t h1 ⟨rfl, zz_in F⟩)))
  · have b1 : ¬ nI t < 1 := nI_nlt (b := 1) t1 (by omega)
    have b4 : ¬ (4 : Int32) < nI t := nI_nlt (a := 4) t4 (by omega)
    refine xk_ts t1 t4 (br_f (by decide) ?_)
    rcases zz_ix v2 (s := 2 ^ w) (by omega) with g | ⟨g0, g1, g2⟩ | ⟨e, he, rfl⟩
    · exact xk_e0 g (br_t rfl (br_f b1 (br_f b4 (br_t g ⟨rfl, zz_in F⟩))))
    · exact xk_e1 g0 g1 (br_t rfl (br_f b1 (br_f b4 (br_f g0 (br_f g2 ⟨rfl, zz_in F⟩)))))
    · have c0 := nI_pos (n := e) (by omega)
      have c1 : nI e < nI (2 ^ w) := nI_lt he (by omega)
      refine xk_es he (by omega) (br_f (by decide) ?_)
      rw [zz_x5 t1 t4 (by omega), nI_clamp (by omega)]
      refine ⟨vp_in_nI (by omega) (by omega), br_f b1 (br_f b4 (br_f c0 (br_t c1 ?_)))⟩
      rw [zz_y6, nI_clamp (by omega)]
      exact ⟨vp_in_nI (by omega) (by omega), (ht.2.1 t e t1 t4 (by omega)).1.symm, zz_in F⟩
theorem i_vc_useful {k : Nat} {u : SX} {v : SY} (I : i_Rel k u v) (hk : k + 4 ≤ 2052) (v1 : Int32) (v2 : Int32) : wpX_useful (fun r => wpY_useful (fun r' => r' = r ∧ i_Rel (k + 4) u v) v v1 v2) u v1 v2 := by
  refine I (fun u v => wpX_useful (fun r => wpY_useful (fun r' => r' = r ∧ i_Rel (k + 4) u v) v v1 v2) u v1 v2) ?_
  intro w m q P s o p b c f_foundProvider f_foundAlternate f_providerDirection f_alternateDirection f_foundFresh a_history a_lengths a_widths a_leavingPlace a_folds a_slotPcs a_slotDirections a_slotProviders a_baseCounters a_entryTags a_counters a_usefulValues a_counts a_position a_wantedTag b_bits b_slotPcs b_slotDirs b_slotProvs b_counters b_tags b_usefuls F
  obtain ⟨hc, hs, ho, hp, hb, hcl, hset, ht, hq, hh, hf⟩ := id F
  have h32 := cf_p2 hc.1.2
  unfold wpX_useful
  rcases zz_tx v1 with h | ⟨h0, h1, h2⟩ | ⟨t, t1, t4, rfl⟩
  · exact xk_t0 h (br_t rfl (br_t h ⟨rfl, zz_in F⟩))
  · exact xk_t1 h0 h1 (br_t rfl (br_f h0 (br_t h1 ⟨rfl, zz_in F⟩)))
  · have b1 : ¬ nI t < 1 := nI_nlt (b := 1) t1 (by omega)
    have b4 : ¬ (4 : Int32) < nI t := nI_nlt (a := 4) t4 (by omega)
    refine xk_ts t1 t4 (br_f (by decide) ?_)
    rcases zz_ix v2 (s := 2 ^ w) (by omega) with g | ⟨g0, g1, g2⟩ | ⟨e, he, rfl⟩
    · exact xk_e0 g (br_t rfl (br_f b1 (br_f b4 (br_t g ⟨rfl, zz_in F⟩))))
    · exact xk_e1 g0 g1 (br_t rfl (br_f b1 (br_f b4 (br_f g0 (br_f g2 ⟨rfl, zz_in F⟩)))))
    · have c0 := nI_pos (n := e) (by omega)
      have c1 : nI e < nI (2 ^ w) := nI_lt he (by omega)
      refine xk_es he (by omega) (br_f (by decide) ?_)
      rw [zz_x5 t1 t4 (by omega), nI_clamp (by omega)]
      refine ⟨vp_in_nI (by omega) (by omega), br_f b1 (br_f b4 (br_f c0 (br_t c1 ?_)))⟩
      rw [zz_y6, nI_clamp (by omega)]
      exact ⟨vp_in_nI (by omega) (by omega), (ht.2.1 t e t1 t4 (by omega)).2.2.symm, zz_in F⟩
theorem i_vc_counter {k : Nat} {u : SX} {v : SY} (I : i_Rel k u v) (hk : k + 4 ≤ 2052) (v1 : Int32) (v2 : Int32) : wpX_counter (fun r => wpY_counter (fun r' => r' = r ∧ i_Rel (k + 4) u v) v v1 v2) u v1 v2 := by
  refine I (fun u v => wpX_counter (fun r => wpY_counter (fun r' => r' = r ∧ i_Rel (k + 4) u v) v v1 v2) u v1 v2) ?_
  intro w m q P s o p b c f_foundProvider f_foundAlternate f_providerDirection f_alternateDirection f_foundFresh a_history a_lengths a_widths a_leavingPlace a_folds a_slotPcs a_slotDirections a_slotProviders a_baseCounters a_entryTags a_counters a_usefulValues a_counts a_position a_wantedTag b_bits b_slotPcs b_slotDirs b_slotProvs b_counters b_tags b_usefuls F
  obtain ⟨hc, hs, ho, hp, hb, hcl, hset, ht, hq, hh, hf⟩ := id F
  have h32 := cf_p2 hc.1.2
  rcases zz_le v1 4 (by omega) with h | ⟨h0, h1, h2⟩ | ⟨t, t4, rfl⟩
  · exact br_t h (br_t h ⟨rfl, zz_in F⟩)
  · exact br_f h0 (br_f h1 (br_f h0 (br_f h1 ⟨rfl, zz_in F⟩)))
  · have a0 := nI_pos (n := t) (by omega)
    have a4 : nI t ≤ 4 := nI_le (b := 4) t4 (by omega)
    refine br_f a0 (br_t a4 ?_)
    rcases Nat.eq_zero_or_pos t with t0 | t0
    · subst t0
      have e2 : 2 * nI (2 ^ w) = nI (2 * 2 ^ w) := pk_mul 2 (2 ^ w)
      rw [e2]
      refine br_t rfl ?_
      have Y : ∀ post : Int32 → Prop, wY_counter_29 post (nI 0) v2 (nI (2 * 2 ^ w)) (nI w) (nI m) (nI q) (nI P) (nI (2 ^ w)) (nI s) (nI b) (nI c) b_bits b_slotPcs b_slotDirs b_slotProvs b_counters b_tags b_usefuls a_counts → wpY_counter post (nI w, nI m, nI q, nI P, nI (2 ^ w), nI s, nI b, nI c, b_bits, b_slotPcs, b_slotDirs, b_slotProvs, b_counters, b_tags, b_usefuls, a_counts) (nI 0) v2 := by
        intro post K
        rw [← e2] at K
        exact br_f a0 (br_t a4 (br_t rfl K))
      rcases zz_ix v2 (s := 2 * 2 ^ w) (by omega) with g | ⟨g0, g1, g2⟩ | ⟨e, he, rfl⟩
      · exact br_t g (Y _ (br_t g ⟨rfl, zz_in F⟩))
      · exact br_f g0 (br_f g2 (Y _ (br_f g0 (br_f g2 ⟨rfl, zz_in F⟩))))
      · have c0 := nI_pos (n := e) (by omega)
        have c1 : nI e < nI (2 * 2 ^ w) := nI_lt he (by omega)
        refine br_f c0 (br_t c1 ⟨vp_in_nI (by omega) (by omega), Y _ ?_⟩)
        unfold wY_counter_29
        rw [zz_y6, nI_clamp (by omega), nI_clamp (by omega)]
        refine br_f c0 (br_t c1 ⟨vp_in_nI (by omega) (by omega), ?_, zz_in F⟩)
        rw [Nat.zero_mul, Nat.zero_add]
        exact (ht.1 e (by omega)).symm
    · have n0 : ¬ nI t = 0 := nI_ne0 t0 (by omega)
      refine br_f n0 ?_
      have Y : ∀ post : Int32 → Prop, wY_counter_29 post (nI t) v2 (nI (2 ^ w)) (nI w) (nI m) (nI q) (nI P) (nI (2 ^ w)) (nI s) (nI b) (nI c) b_bits b_slotPcs b_slotDirs b_slotProvs b_counters b_tags b_usefuls a_counts → wpY_counter post (nI w, nI m, nI q, nI P, nI (2 ^ w), nI s, nI b, nI c, b_bits, b_slotPcs, b_slotDirs, b_slotProvs, b_counters, b_tags, b_usefuls, a_counts) (nI t) v2 := fun post K => br_f a0 (br_t a4 (br_f n0 K))
      rcases zz_ix v2 (s := 2 ^ w) (by omega) with g | ⟨g0, g1, g2⟩ | ⟨e, he, rfl⟩
      · exact xk_e0 g (br_t rfl (Y _ (br_t g ⟨rfl, zz_in F⟩)))
      · exact xk_e1 g0 g1 (br_t rfl (Y _ (br_f g0 (br_f g2 ⟨rfl, zz_in F⟩))))
      · have c0 := nI_pos (n := e) (by omega)
        have c1 : nI e < nI (2 ^ w) := nI_lt he (by omega)
        refine xk_es he (by omega) (br_f (by decide) ?_)
        rw [zz_x5 t0 t4 (by omega), nI_clamp (by omega)]
        refine ⟨vp_in_nI (by omega) (by omega), Y _ ?_⟩
        unfold wY_counter_29
        rw [zz_y6, nI_clamp (by omega)]
        exact br_f c0 (br_t c1 ⟨vp_in_nI (by omega) (by omega), (ht.2.1 t e t0 t4 (by omega)).2.1.symm, zz_in F⟩)
theorem i_vc_figure {k : Nat} {u : SX} {v : SY} (I : i_Rel k u v) (hk : k + 4 ≤ 2052) (v1 : Int32) : wpX_figure (fun r => wpY_figure (fun r' => r' = r ∧ i_Rel (k + 4) u v) v v1) u v1 := by
  refine I (fun u v => wpX_figure (fun r => wpY_figure (fun r' => r' = r ∧ i_Rel (k + 4) u v) v v1) u v1) ?_
  intro w m q P s o p b c f_foundProvider f_foundAlternate f_providerDirection f_alternateDirection f_foundFresh a_history a_lengths a_widths a_leavingPlace a_folds a_slotPcs a_slotDirections a_slotProviders a_baseCounters a_entryTags a_counters a_usefulValues a_counts a_position a_wantedTag b_bits b_slotPcs b_slotDirs b_slotProvs b_counters b_tags b_usefuls F
  rcases zz_le v1 6 (by omega) with h | ⟨h0, h1, h2⟩ | ⟨t, t6, rfl⟩
  · have h7 : v1 < 7 := by
      rw [Int32.lt_iff_toInt_lt] at h ⊢
      have e0 : (0 : Int32).toInt = 0 := by decide
      have e1 : (7 : Int32).toInt = 7 := by decide
      omega
    have ne : ∀ x : Int32, ¬ x < 0 → ¬ v1 = x := fun x hx e => hx (e ▸ h)
    exact br_t h (br_f (ne 7 (by decide)) (br_f (ne 8 (by decide)) (br_f (ne 9 (by decide)) (br_f (ne 10 (by decide)) (br_f (ne 11 (by decide)) (br_f (ne 12 (by decide)) (br_t h (br_t h7 ⟨rfl, zz_in F⟩))))))))
  · rcases zz_le v1 12 (by omega) with g | ⟨g0, g1, g2⟩ | ⟨t, t12, rfl⟩
    · exact absurd g h0
    · have h7 : ¬ v1 < 7 := by
        rw [Int32.lt_iff_toInt_lt] at h2 ⊢
        have e0 : (nI 6).toInt = 6 := by decide
        have e1 : (7 : Int32).toInt = 7 := by decide
        omega
      have ne : ∀ x : Int32, x ≤ nI 12 → ¬ v1 = x := fun x hx e => g1 (e ▸ hx)
      exact br_f h0 (br_t h2 (br_f (ne 7 (by decide)) (br_f (ne 8 (by decide)) (br_f (ne 9 (by decide)) (br_f (ne 10 (by decide)) (br_f (ne 11 (by decide)) (br_f (ne 12 (by decide)) (br_f h0 (br_t h2 (br_f h7 (br_t g2 ⟨rfl, zz_in F⟩)))))))))))
    · have t7 : 7 ≤ t := by
        rcases Nat.lt_or_ge 6 t with z | z
        · exact z
        · exact absurd (nI_nlt (a := 6) z (by omega)) (fun q => q h2)
      rcases (show t = 7 ∨ t = 8 ∨ t = 9 ∨ t = 10 ∨ t = 11 ∨ t = 12 by omega) with rfl | rfl | rfl | rfl | rfl | rfl
      · exact br_f (by decide) (br_t (by decide) (br_t rfl (br_f (by decide) (br_t (by decide) (br_f (by decide) (br_f (by decide) (br_t rfl ⟨rfl, zz_in F⟩)))))))
      · exact br_f (by decide) (br_t (by decide) (br_f (by decide) (br_t rfl (br_f (by decide) (br_t (by decide) (br_f (by decide) (br_f (by decide) (br_f (by decide) (br_t rfl ⟨rfl, zz_in F⟩)))))))))
      · exact br_f (by decide) (br_t (by decide) (br_f (by decide) (br_f (by decide) (br_t rfl (br_f (by decide) (br_t (by decide) (br_f (by decide) (br_f (by decide) (br_f (by decide) (br_f (by decide) (br_t rfl ⟨rfl, zz_in F⟩)))))))))))
      · exact br_f (by decide) (br_t (by decide) (br_f (by decide) (br_f (by decide) (br_f (by decide) (br_t rfl (br_f (by decide) (br_t (by decide) (br_f (by decide) (br_f (by decide) (br_f (by decide) (br_f (by decide) (br_f (by decide) (br_t rfl ⟨rfl, zz_in F⟩)))))))))))))
      · exact br_f (by decide) (br_t (by decide) (br_f (by decide) (br_f (by decide) (br_f (by decide) (br_f (by decide) (br_t rfl (br_f (by decide) (br_t (by decide) (br_f (by decide) (br_f (by decide) (br_f (by decide) (br_f (by decide) (br_f (by decide) (br_f (by decide) (br_t rfl ⟨rfl, zz_in F⟩)))))))))))))))
      · exact br_f (by decide) (br_t (by decide) (br_f (by decide) (br_f (by decide) (br_f (by decide) (br_f (by decide) (br_f (by decide) (br_t rfl (br_f (by decide) (br_t (by decide) (br_f (by decide) (br_f (by decide) (br_f (by decide) (br_f (by decide) (br_f (by decide) (br_f (by decide) (br_f (by decide) (br_t rfl ⟨rfl, zz_in F⟩)))))))))))))))))
  · have a0 := nI_pos (n := t) (by omega)
    have a6 : ¬ (6 : Int32) < nI t := nI_nlt (a := 6) t6 (by omega)
    have hv : vp_in (nI t) 7 := vp_in_nI (by omega) (by omega)
    exact br_f a0 (br_f a6 ⟨hv, br_f a0 (br_f a6 ⟨hv, rfl, zz_in F⟩)⟩)
end
section
/-! the constructors -/
theorem cl_ex (x : Int32) (l g : Nat) (hlg : l ≤ g) (hg : g < 2 ^ 30) : ∃ n, l ≤ n ∧ n ≤ g ∧ cl_v x (nI l) (nI g) = nI n := by
  unfold cl_v
  by_cases h1 : nI l ≤ x
  · rw [if_pos h1]
    by_cases h2 : x ≤ nI g
    · rw [if_pos h2]
      rw [Int32.le_iff_toInt_le, nI_toInt (by omega)] at h1 h2
      refine ⟨x.toInt.toNat, by omega, by omega, ?_⟩
      apply Int32.toInt_inj.mp
      rw [nI_toInt (by omega)]
      omega
    · rw [if_neg h2]
      exact ⟨g, hlg, Nat.le_refl g, rfl⟩
  · rw [if_neg h1]
    exact ⟨l, Nat.le_refl l, hlg, rfl⟩
def fl_A (v : Int32) (n : Nat) : Nat → Int32 := fun j => if j < n then v else 0
theorem fl_0 {v : Int32} : fl_A v 0 = fun _ => 0 := by
  funext j
  unfold fl_A
  rw [if_neg (by omega)]
theorem fl_step {v : Int32} {n : Nat} : upd (fl_A v n) n v = fl_A v (n + 1) := by
  funext j
  by_cases z : j = n
  · rw [z, pk_us]
    unfold fl_A
    rw [if_pos (by omega)]
  · rw [pk_un z]
    unfold fl_A
    by_cases y : j < n
    · rw [if_pos y, if_pos (by omega)]
    · rw [if_neg y, if_neg (by omega)]
def ln_A (m t : Nat) : Nat → Int32 := fun j => if 1 ≤ j ∧ j < t then nI (cf_L m j) else 0
theorem ln_1 {m : Nat} : ln_A m 1 = fun _ => 0 := by
  funext j
  unfold ln_A
  rw [if_neg (by omega)]
theorem ln_step {m t : Nat} (t1 : 1 ≤ t) : upd (ln_A m t) t (nI (cf_L m t)) = ln_A m (t + 1) := by
  funext j
  by_cases z : j = t
  · rw [z, pk_us]
    unfold ln_A
    rw [if_pos (by omega)]
  · rw [pk_un z]
    unfold ln_A
    by_cases y : 1 ≤ j ∧ j < t
    · rw [if_pos y, if_pos (by omega)]
    · rw [if_neg y, if_neg (by omega)]
def il_A (w m r : Nat) : Nat → Int32 := fun j => if j < r then nI (cf_L m (j / 3 + 1) % cf_W w (j % 3)) else 0
theorem il_0 {w m : Nat} : il_A w m 0 = fun _ => 0 := by
  funext j
  unfold il_A
  rw [if_neg (by omega)]
theorem il_step {w m t k : Nat} (t1 : 1 ≤ t) (hk : k < 3) : upd (il_A w m ((t - 1) * 3 + k)) ((t - 1) * 3 + k) (nI (cf_L m t % cf_W w k)) = il_A w m ((t - 1) * 3 + (k + 1)) := by
  have e1 : ((t - 1) * 3 + k) % 3 = k := by omega
  have e2 : ((t - 1) * 3 + k) / 3 + 1 = t := by omega
  funext j
  by_cases z : j = (t - 1) * 3 + k
  · rw [z, pk_us]
    unfold il_A
    rw [if_pos (by omega), e1, e2]
  · rw [pk_un z]
    unfold il_A
    by_cases y : j < (t - 1) * 3 + k
    · rw [if_pos y, if_pos (by omega)]
    · rw [if_neg y, if_neg (by omega)]
def wd_A (w : Nat) : Nat → Int32 := upd (upd (upd (fun _ => 0) 0 (nI w)) 1 7) 2 6
theorem wd_ok {w k : Nat} (hk : k < 3) : wd_A w k = nI (cf_W w k) := by
  rcases (show k = 0 ∨ k = 1 ∨ k = 2 by omega) with rfl | rfl | rfl
  · rfl
  · rfl
  · rfl
theorem il_set {w m : Nat} : rl_set w m (ln_A m 5) (wd_A w) (il_A w m 12) := by
  refine ⟨fun t t1 t4 => if_pos (by omega), fun k hk => wd_ok hk, fun t k t1 t4 hk => ?_⟩
  have e1 : ((t - 1) * 3 + k) % 3 = k := by omega
  have e2 : ((t - 1) * 3 + k) / 3 + 1 = t := by omega
  unfold il_A
  rw [if_pos (by omega), e1, e2]
theorem rm_step {i W : Nat} (hW : 2 ≤ W) : (i % W + 1 < W → (i + 1) % W = i % W + 1) ∧ (W ≤ i % W + 1 → (i + 1) % W = 0) := by
  have e : (i % W + 1) % W = (i + 1) % W := Nat.mod_add_mod i W 1
  have h : i % W < W := Nat.mod_lt _ (by omega)
  refine ⟨fun z => ?_, fun z => ?_⟩
  · rw [← e, Nat.mod_eq_of_lt z]
  · rw [← e, show i % W + 1 = W by omega, Nat.mod_self]
section
variable {f_logSize f_minHistory f_capacity f_agePeriod f_tableSize f_newest f_oldest f_queueLength f_bias f_ageClock f_foundProvider f_foundAlternate f_providerDirection f_alternateDirection f_foundFresh : Int32} {a_history a_lengths a_widths a_leavingPlace a_folds a_slotPcs a_slotDirections a_slotProviders a_baseCounters a_entryTags a_counters a_usefulValues a_counts a_position a_wantedTag : Nat → Int32} {w m q P : Nat}
theorem xi_rl {post : Int32 → Prop} {L W : Nat} (hL : L ≤ 64) (h2 : 2 ≤ W) (h8 : W < 8) (K : post (nI (L % W))) : ∀ n i, i ≤ L → L - i < n → wX_remainder_5 post (nI L) (nI W) f_logSize f_minHistory f_capacity f_agePeriod f_tableSize f_newest f_oldest f_queueLength f_bias f_ageClock f_foundProvider f_foundAlternate f_providerDirection f_alternateDirection f_foundFresh a_history a_lengths a_widths a_leavingPlace a_folds a_slotPcs a_slotDirections a_slotProviders a_baseCounters a_entryTags a_counters a_usefulValues a_counts a_position a_wantedTag n (nI (i % W)) (nI i) := by
  intro n
  induction n with
  | zero => intro i _ hn; omega
  | succ n ih =>
    intro i hi hn
    have hm : i % W < W := Nat.mod_lt _ (by omega)
    have hr := rm_step (i := i) h2
    rcases Nat.lt_or_ge i L with z | z
    · have h := ih (i + 1) (by omega) (by omega)
      refine br_f (nI_ge z (by omega)) (nm_r (nI_1 (i % W)) ?_)
      rcases Nat.lt_or_ge (i % W + 1) W with y | y
      · rw [hr.1 y] at h
        exact br_t (nI_lt y (by omega)) (nm_r (nI_1 i) h)
      · rw [hr.2 y] at h
        exact br_f (nI_nlt y (by omega)) (nm_r (nI_1 i) h)
    · have e : i = L := by omega
      subst e
      exact br_t (nI_le (Nat.le_refl i) (by omega)) K
theorem xi_rem {post : Int32 → Prop} {L W : Nat} (hL : L ≤ 64) (h2 : 2 ≤ W) (h8 : W < 8) (K : post (nI (L % W))) : wpX_remainder post (f_logSize, f_minHistory, f_capacity, f_agePeriod, f_tableSize, f_newest, f_oldest, f_queueLength, f_bias, f_ageClock, f_foundProvider, f_foundAlternate, f_providerDirection, f_alternateDirection, f_foundFresh, a_history, a_lengths, a_widths, a_leavingPlace, a_folds, a_slotPcs, a_slotDirections, a_slotProviders, a_baseCounters, a_entryTags, a_counters, a_usefulValues, a_counts, a_position, a_wantedTag) (nI L) (nI W) := by
  have h := xi_rl (f_logSize := f_logSize) (f_minHistory := f_minHistory) (f_capacity := f_capacity) (f_agePeriod := f_agePeriod) (f_tableSize := f_tableSize) (f_newest := f_newest) (f_oldest := f_oldest) (f_queueLength := f_queueLength) (f_bias := f_bias) (f_ageClock := f_ageClock) (f_foundProvider := f_foundProvider) (f_foundAlternate := f_foundAlternate) (f_providerDirection := f_providerDirection) (f_alternateDirection := f_alternateDirection) (f_foundFresh := f_foundFresh) (a_history := a_history) (a_lengths := a_lengths) (a_widths := a_widths) (a_leavingPlace := a_leavingPlace) (a_folds := a_folds) (a_slotPcs := a_slotPcs) (a_slotDirections := a_slotDirections) (a_slotProviders := a_slotProviders) (a_baseCounters := a_baseCounters) (a_entryTags := a_entryTags) (a_counters := a_counters) (a_usefulValues := a_usefulValues) (a_counts := a_counts) (a_position := a_position) (a_wantedTag := a_wantedTag) hL h2 h8 K (L + 1) 0 (by omega) (by omega)
  rw [Nat.zero_mod] at h
  exact ⟨L + 1, h⟩
theorem xi_243 {post : SX → Prop} {J : Int32 → (Nat → Int32) → (Nat → Int32) → (Nat → Int32) → (Nat → Int32) → (Nat → Int32) → (Nat → Int32) → (Nat → Int32) → (Nat → Int32) → (Nat → Int32) → (Nat → Int32) → (Nat → Int32) → (Nat → Int32) → (Nat → Int32) → (Nat → Int32) → (Nat → Int32) → Prop} {t : Nat} (hc : rl_cfg w m q P) (t1 : 1 ≤ t) (t4 : t ≤ 4) (K : J (nI (t + 1)) a_history (ln_A m (t + 1)) (wd_A w) (il_A w m (t * 3)) a_folds a_slotPcs a_slotDirections a_slotProviders a_baseCounters a_entryTags a_counters a_usefulValues a_counts a_position a_wantedTag) : ∀ d k, k + d = 3 → wX_init_243 post J (nI t) f_logSize f_minHistory f_capacity f_agePeriod f_tableSize f_newest f_oldest f_queueLength f_bias f_ageClock f_foundProvider f_foundAlternate f_providerDirection f_alternateDirection f_foundFresh (d + 1) (nI k) a_history (ln_A m (t + 1)) (wd_A w) (il_A w m ((t - 1) * 3 + k)) a_folds a_slotPcs a_slotDirections a_slotProviders a_baseCounters a_entryTags a_counters a_usefulValues a_counts a_position a_wantedTag := by
  intro d
  induction d with
  | zero =>
    intro k hk
    have e : k = 3 := by omega
    subst e
    have e3 : (t - 1) * 3 + 3 = t * 3 := by omega
    rw [e3]
    exact br_t (nI_le (a := 3) (b := 3) (by omega) (by omega)) (nm_r (nI_1 t) K)
  | succ d ih =>
    intro k hk
    have hL := cf_L2 hc.2.1.1 hc.2.1.2 t4
    have hW := cf_W2 k hc.1.1 hc.1.2
    have er : ((nI t - 1) * 3) + nI k = nI ((t - 1) * 3 + k) := by
      show ((nI t - nI 1) * nI 3) + nI k = _
      rw [pk_sub t1, pk_mul, nI_add]
    have el : ln_A m (t + 1) (nI t).toNatClampNeg = nI (cf_L m t) := by rw [nI_clamp (by omega)]; exact if_pos (by omega)
    have ew : wd_A w (nI k).toNatClampNeg = nI (cf_W w k) := by rw [nI_clamp (by omega)]; exact wd_ok (by omega)
    refine br_f (nI_ge (b := 3) (by omega) (by omega)) ⟨vp_in_nI (by omega) (by omega), vp_in_nI (by omega) (by omega), ?_⟩
    rw [el, ew, er]
    refine xi_rem hL.2 hW.1 hW.2 ⟨vp_in_nI (by omega) (by omega), nm_r (e' := il_A w m ((t - 1) * 3 + (k + 1))) ?_ (nm_r (nI_1 k) (ih (k + 1) (by omega)))⟩
    rw [nI_clamp (by omega)]
    exact il_step t1 (by omega)
theorem xi_320 {post : SX → Prop} (K : post (f_logSize, f_minHistory, f_capacity, f_agePeriod, f_tableSize, f_newest, f_oldest, f_queueLength, f_bias, f_ageClock, f_foundProvider, f_foundAlternate, f_providerDirection, f_alternateDirection, f_foundFresh, a_history, a_lengths, a_widths, a_leavingPlace, a_folds, a_slotPcs, a_slotDirections, a_slotProviders, a_baseCounters, fl_A (-1) 128, a_counters, a_usefulValues, a_counts, a_position, a_wantedTag)) : ∀ n i, i ≤ 128 → 128 - i < n → wX_init_320 post f_logSize f_minHistory f_capacity f_agePeriod f_tableSize f_newest f_oldest f_queueLength f_bias f_ageClock f_foundProvider f_foundAlternate f_providerDirection f_alternateDirection f_foundFresh n (nI i) a_history a_lengths a_widths a_leavingPlace a_folds a_slotPcs a_slotDirections a_slotProviders a_baseCounters (fl_A (-1) i) a_counters a_usefulValues a_counts a_position a_wantedTag := by
  intro n
  induction n with
  | zero => intro i _ hn; omega
  | succ n ih =>
    intro i hi hn
    rcases Nat.lt_or_ge i 128 with z | z
    · refine br_f (nI_ge (b := 128) z (by omega)) ⟨vp_in_nI z (by omega), nm_r (e' := fl_A (-1) (i + 1)) ?_ (nm_r (nI_1 i) (ih (i + 1) (by omega) (by omega)))⟩
      rw [nI_clamp (by omega)]
      exact fl_step
    · have e : i = 128 := by omega
      subst e
      exact br_t (nI_le (a := 128) (by omega) (by omega)) K
theorem xi_296 {post : SX → Prop} (K : post (f_logSize, f_minHistory, f_capacity, f_agePeriod, f_tableSize, f_newest, f_oldest, f_queueLength, f_bias, f_ageClock, f_foundProvider, f_foundAlternate, f_providerDirection, f_alternateDirection, f_foundFresh, a_history, a_lengths, a_widths, a_leavingPlace, a_folds, a_slotPcs, a_slotDirections, a_slotProviders, fl_A 1 64, fl_A (-1) 128, a_counters, a_usefulValues, a_counts, a_position, a_wantedTag)) : ∀ n i, i ≤ 64 → 64 - i < n → wX_init_296 post f_logSize f_minHistory f_capacity f_agePeriod f_tableSize f_newest f_oldest f_queueLength f_bias f_ageClock f_foundProvider f_foundAlternate f_providerDirection f_alternateDirection f_foundFresh n (nI i) a_history a_lengths a_widths a_leavingPlace a_folds a_slotPcs a_slotDirections a_slotProviders (fl_A 1 i) (fun _ => 0) a_counters a_usefulValues a_counts a_position a_wantedTag := by
  intro n
  induction n with
  | zero => intro i _ hn; omega
  | succ n ih =>
    intro i hi hn
    rcases Nat.lt_or_ge i 64 with z | z
    · refine br_f (nI_ge (b := 64) z (by omega)) ⟨vp_in_nI z (by omega), nm_r (e' := fl_A 1 (i + 1)) ?_ (nm_r (nI_1 i) (ih (i + 1) (by omega) (by omega)))⟩
      rw [nI_clamp (by omega)]
      exact fl_step
    · have e : i = 64 := by omega
      subst e
      have h := xi_320 (f_logSize := f_logSize) (f_minHistory := f_minHistory) (f_capacity := f_capacity) (f_agePeriod := f_agePeriod) (f_tableSize := f_tableSize) (f_newest := f_newest) (f_oldest := f_oldest) (f_queueLength := f_queueLength) (f_bias := f_bias) (f_ageClock := f_ageClock) (f_foundProvider := f_foundProvider) (f_foundAlternate := f_foundAlternate) (f_providerDirection := f_providerDirection) (f_alternateDirection := f_alternateDirection) (f_foundFresh := f_foundFresh) (a_history := a_history) (a_lengths := a_lengths) (a_widths := a_widths) (a_leavingPlace := a_leavingPlace) (a_folds := a_folds) (a_slotPcs := a_slotPcs) (a_slotDirections := a_slotDirections) (a_slotProviders := a_slotProviders) (a_baseCounters := fl_A 1 64) (a_counters := a_counters) (a_usefulValues := a_usefulValues) (a_counts := a_counts) (a_position := a_position) (a_wantedTag := a_wantedTag) K 129 0 (by omega) (by omega)
      rw [fl_0] at h
      exact br_t (nI_le (a := 64) (by omega) (by omega)) ⟨129, h⟩
theorem xi_218 {post : SX → Prop} (hc : rl_cfg w m q P) (K : post (f_logSize, nI m, f_capacity, f_agePeriod, f_tableSize, f_newest, f_oldest, f_queueLength, f_bias, f_ageClock, f_foundProvider, f_foundAlternate, f_providerDirection, f_alternateDirection, f_foundFresh, a_history, ln_A m 5, wd_A w, il_A w m 12, a_folds, a_slotPcs, a_slotDirections, a_slotProviders, fl_A 1 64, fl_A (-1) 128, a_counters, a_usefulValues, a_counts, a_position, a_wantedTag)) : ∀ d t, 1 ≤ t → t + d = 5 → wX_init_218 post f_logSize (nI m) f_capacity f_agePeriod f_tableSize f_newest f_oldest f_queueLength f_bias f_ageClock f_foundProvider f_foundAlternate f_providerDirection f_alternateDirection f_foundFresh (d + 1) (nI t) a_history (ln_A m t) (wd_A w) (il_A w m ((t - 1) * 3)) a_folds a_slotPcs a_slotDirections a_slotProviders (fun _ => 0) (fun _ => 0) a_counters a_usefulValues a_counts a_position a_wantedTag := by
  intro d
  induction d with
  | zero =>
    intro t t1 ht
    have e : t = 5 := by omega
    subst e
    have h := xi_296 (f_logSize := f_logSize) (f_minHistory := nI m) (f_capacity := f_capacity) (f_agePeriod := f_agePeriod) (f_tableSize := f_tableSize) (f_newest := f_newest) (f_oldest := f_oldest) (f_queueLength := f_queueLength) (f_bias := f_bias) (f_ageClock := f_ageClock) (f_foundProvider := f_foundProvider) (f_foundAlternate := f_foundAlternate) (f_providerDirection := f_providerDirection) (f_alternateDirection := f_alternateDirection) (f_foundFresh := f_foundFresh) (a_history := a_history) (a_lengths := ln_A m 5) (a_widths := wd_A w) (a_leavingPlace := il_A w m 12) (a_folds := a_folds) (a_slotPcs := a_slotPcs) (a_slotDirections := a_slotDirections) (a_slotProviders := a_slotProviders) (a_counters := a_counters) (a_usefulValues := a_usefulValues) (a_counts := a_counts) (a_position := a_position) (a_wantedTag := a_wantedTag) K 65 0 (by omega) (by omega)
    rw [fl_0] at h
    exact br_t (nI_lt (a := 4) (b := 5) (by omega) (by omega)) ⟨65, h⟩
  | succ d ih =>
    intro t t1 ht
    have h := ih (t + 1) (by omega) (by omega)
    rw [Nat.add_sub_cancel] at h
    refine br_f (nI_nlt (a := 4) (b := t) (by omega) (by omega)) ⟨vp_in_nI (by omega) (by omega), nm_r (e' := ln_A m (t + 1)) ?_ ⟨4, ?_⟩⟩
    · rw [nI_clamp (by omega), cf_sh hc.2.1.1 hc.2.1.2 t1 (by omega)]
      exact ln_step t1
    · exact xi_243 hc t1 (by omega) h 3 0 (by omega)
theorem xi_init {post : SX → Prop} {k0 k1 k2 k3 : Int32} (hc : rl_cfg w m q P) (e0 : cl_v k0 2 5 = nI w) (e1 : cl_v k1 1 8 = nI m) (e2 : cl_v k2 1 16 = nI q) (e3 : cl_v k3 4 64 = nI P)
    (K : post (nI w, nI m, nI q, nI P, nI (2 ^ w), 0, 0, 0, 8, 0, 0, 0, 0, 0, 0, (fun _ => 0), ln_A m 5, wd_A w, il_A w m 12, (fun _ => 0), (fun _ => 0), (fun _ => 0), (fun _ => 0), fl_A 1 64, fl_A (-1) 128, (fun _ => 0), (fun _ => 0), (fun _ => 0), (fun _ => 0), (fun _ => 0))) : wpX_init post k0 k1 k2 k3 := by
  unfold wpX_init
  refine xk_clamp ?_
  refine xk_clamp ?_
  refine xk_clamp ?_
  refine xk_clamp ?_
  rw [e0, e1, e2, e3]
  refine nm_r (cf_n w (by have := hc.1.2; omega)) (nm_e (nm_e (nm_e ?_)))
  have h := xi_218 (f_logSize := nI w) (f_capacity := nI q) (f_agePeriod := nI P) (f_tableSize := nI (2 ^ w)) (f_newest := 0) (f_oldest := 0) (f_queueLength := 0) (f_bias := 8) (f_ageClock := 0) (f_foundProvider := 0) (f_foundAlternate := 0) (f_providerDirection := 0) (f_alternateDirection := 0) (f_foundFresh := 0) (a_history := fun _ => 0) (a_folds := fun _ => 0) (a_slotPcs := fun _ => 0) (a_slotDirections := fun _ => 0) (a_slotProviders := fun _ => 0) (a_counters := fun _ => 0) (a_usefulValues := fun _ => 0) (a_counts := fun _ => 0) (a_position := fun _ => 0) (a_wantedTag := fun _ => 0) hc K 4 1 (by omega) (by omega)
  rw [ln_1, show (1 - 1) * 3 = 0 from rfl, il_0] at h
  exact ⟨5, h⟩
end
section
variable {g_w g_m g_q g_period g_n g_size g_bias g_clock : Int32} {b_bits b_slotPcs b_slotDirs b_slotProvs b_counters b_tags b_usefuls b_counts : Nat → Int32}
theorem yi_149 {post : SY → Prop} (K : post (g_w, g_m, g_q, g_period, g_n, g_size, g_bias, g_clock, b_bits, b_slotPcs, b_slotDirs, b_slotProvs, fl_A 1 64, fl_A (-1) 320, b_usefuls, b_counts)) : ∀ n i, i ≤ 320 → 320 - i < n → wY_init_149 post g_w g_m g_q g_period g_n g_size g_bias g_clock n (nI i) b_bits b_slotPcs b_slotDirs b_slotProvs (fl_A 1 (min i 64)) (fl_A (-1) i) b_usefuls b_counts := by
  intro n
  induction n with
  | zero => intro i _ hn; omega
  | succ n ih =>
    intro i hi hn
    rcases Nat.lt_or_ge i 320 with z | z
    · have hv : vp_in (nI i) 320 := vp_in_nI z (by omega)
      have h := ih (i + 1) (by omega) (by omega)
      refine br_f (nI_ge (b := 320) z (by omega)) ⟨hv, nm_r (e' := fl_A (-1) (i + 1)) ?_ ?_⟩
      · rw [nI_clamp (by omega)]
        exact fl_step
      · rcases Nat.lt_or_ge i 64 with y | y
        · rw [show min (i + 1) 64 = i + 1 by omega] at h
          rw [show min i 64 = i by omega]
          refine br_f (nI_ge (b := 64) y (by omega)) ⟨hv, nm_r (e' := fl_A 1 (i + 1)) ?_ (nm_r (nI_1 i) h)⟩
          rw [nI_clamp (by omega)]
          exact fl_step
        · rw [show min (i + 1) 64 = 64 by omega] at h
          rw [show min i 64 = 64 by omega]
          exact br_t (nI_le (a := 64) y (by omega)) (nm_r (nI_1 i) h)
    · have e : i = 320 := by omega
      subst e
      exact br_t (nI_le (a := 320) (by omega) (by omega)) K
theorem yi_init {post : SY → Prop} {w m q P : Nat} {k0 k1 k2 k3 : Int32} (hc : rl_cfg w m q P) (e0 : cl_v k0 2 5 = nI w) (e1 : cl_v k1 1 8 = nI m) (e2 : cl_v k2 1 16 = nI q) (e3 : cl_v k3 4 64 = nI P)
    (K : post (nI w, nI m, nI q, nI P, nI (2 ^ w), 0, 8, 0, (fun _ => 0), (fun _ => 0), (fun _ => 0), (fun _ => 0), fl_A 1 64, fl_A (-1) 320, (fun _ => 0), (fun _ => 0))) : wpY_init post k0 k1 k2 k3 := by
  unfold wpY_init
  refine yk_clamp ?_
  refine yk_clamp ?_
  refine yk_clamp ?_
  refine yk_clamp ?_
  rw [e0, e1, e2, e3]
  refine nm_r (cf_n w (by have := hc.1.2; omega)) ?_
  have h := yi_149 (g_w := nI w) (g_m := nI m) (g_q := nI q) (g_period := nI P) (g_n := nI (2 ^ w)) (g_size := 0) (g_bias := 8) (g_clock := 0) (b_bits := fun _ => 0) (b_slotPcs := fun _ => 0) (b_slotDirs := fun _ => 0) (b_slotProvs := fun _ => 0) (b_usefuls := fun _ => 0) (b_counts := fun _ => 0) K 321 0 (by omega) (by omega)
  rw [show min 0 64 = 0 from rfl, fl_0, fl_0] at h
  exact ⟨321, h⟩
end
theorem fd_z : ∀ r, r < 8 → (0 : Int32) <<< (nI r &&& 31) = 0 := by decide +kernel
theorem fd_0 {W : Nat} (h2 : 2 ≤ W) (h8 : W < 8) : ∀ L, fd_F (fun _ => 0) W L = 0
  | 0 => rfl
  | L + 1 => by
    have hr : L % W < W := Nat.mod_lt _ (by omega)
    show fd_F (fun _ => 0) W L ^^^ ((0 : Int32) <<< (nI (L % W) &&& 31)) = 0
    rw [fd_0 h2 h8 L, fd_z _ (by omega)]
    rfl
theorem i_vc0 (k0 : Int32) (k1 : Int32) (k2 : Int32) (k3 : Int32) : wpX_init (fun u => wpY_init (fun v => i_Rel 4 u v) k0 k1 k2 k3) k0 k1 k2 k3 := by
  obtain ⟨w, w1, w2, e0⟩ := cl_ex k0 2 5 (by omega) (by omega)
  obtain ⟨m, m1, m2, e1⟩ := cl_ex k1 1 8 (by omega) (by omega)
  obtain ⟨q, q1, q2, e2⟩ := cl_ex k2 1 16 (by omega) (by omega)
  obtain ⟨P, p1, p2, e3⟩ := cl_ex k3 4 64 (by omega) (by omega)
  have hc : rl_cfg w m q P := ⟨⟨w1, w2⟩, ⟨m1, m2⟩, ⟨q1, q2⟩, p1, p2⟩
  refine xi_init hc e0 e1 e2 e3 ?_
  refine yi_init hc e0 e1 e2 e3 ?_
  refine zz_in (s := 0) (o := 0) (p := 0) (b := 8) (c := 0) ⟨hc, by omega, by omega, by omega, by omega, by omega, il_set, ?_, (fun i hi => by omega), ?_, ?_⟩
  · refine ⟨fun e he => rfl, fun t e t1 t4 he => ⟨?_, ?_, rfl⟩, fun t e t1 t4 he => ⟨0, by omega, rfl⟩⟩
    · unfold fl_A
      rw [if_pos (by omega), if_pos (by omega)]
    · unfold fl_A
      rw [if_neg (by omega)]
  · exact ⟨fun i hi => Or.inl rfl, fun i hi => rfl, fun j hj => by omega⟩
  · refine ⟨fun t k t1 t4 hk => ?_, fun j hj => by omega⟩
    have hW := cf_W2 k w1 w2
    exact (fd_0 hW.1 hW.2 _).symm
end
section
/-! the owed calls -/
theorem i_vc_predict {k : Nat} {u : SX} {v : SY} (I : i_Rel k u v) (hk : k + 4 ≤ 2052) (v1 : Int32) : wpX_predict (fun r u' => wpY_predict (fun r' v' => r' = r ∧ i_Rel (k + 4) u' v') v v1) u v1 := by
  obtain ⟨r, u', v', I', X', Y'⟩ := zz_pred I v1
  exact X' _ (Y' _ ⟨rfl, I'⟩)
theorem i_vc_resolve {k : Nat} {u : SX} {v : SY} (I : i_Rel k u v) (hk : k + 4 ≤ 2052) (v1 : Int32) : wpX_resolve (fun r u' => wpY_resolve (fun r' v' => r' = r ∧ i_Rel (k + 4) u' v') v v1) u v1 := by
  obtain ⟨r, u', v', I', X', Y'⟩ := zz_res I v1
  exact X' _ (Y' _ ⟨rfl, I'⟩)
theorem i_vc_cancel {k : Nat} {u : SX} {v : SY} (I : i_Rel k u v) (hk : k + 4 ≤ 2052) (v1 : Int32) : wpX_cancel (fun r u' => wpY_cancel (fun r' v' => r' = r ∧ i_Rel (k + 4) u' v') v v1) u v1 := by
  obtain ⟨r, u', v', I', X', Y'⟩ := zz_can I v1
  exact X' _ (Y' _ ⟨rfl, I'⟩)
theorem i_vc_run {k : Nat} {u : SX} {v : SY} (I : i_Rel k u v) (hk : k + 4 ≤ 2052) (v1 : Int32) (v2 : Int32) (v3 : Int32) : wpX_run (fun r u' => wpY_run (fun r' v' => r' = r ∧ i_Rel (k + 4) u' v') v v1 v2 v3) u v1 v2 v3 := by
  obtain ⟨r, u', v', I', X', Y'⟩ := zz_run I v1 v2 v3
  exact X' _ (Y' _ ⟨rfl, I'⟩)
end
