section
/-! rows of the kit (kit/rows), pasted -/
theorem pk_us {f : Nat → Int32} {k : Nat} {x : Int32} : upd f k x k = x := if_pos rfl
theorem pk_un {f : Nat → Int32} {k j : Nat} {x : Int32} (h : j ≠ k) : upd f k x j = f j := if_neg h
theorem pk_uLs {f : Nat → Int64} {k : Nat} {x : Int64} : vp_updL f k x k = x := if_pos rfl
theorem pk_uLn {f : Nat → Int64} {k j : Nat} {x : Int64} (h : j ≠ k) : vp_updL f k x j = f j := if_neg h
theorem pk_sub {a b : Nat} (h : b ≤ a) : nI a - nI b = nI (a - b) := by
  obtain ⟨c, rfl⟩ : ∃ c, a = c + b := ⟨a - b, by omega⟩
  rw [← nI_add, Int32.add_sub_cancel, Nat.add_sub_cancel]
theorem pk_m1 (n : Nat) : nI (n + 1) + (-1) = nI n := by
  rw [← nI_1, Int32.add_assoc, show (1 : Int32) + (-1) = 0 from rfl, Int32.add_zero]
theorem pk_mul (a b : Nat) : nI a * nI b = nI (a * b) := (Int32.ofNat_mul a b).symm
theorem pk_div {a d : Nat} (ha : a < 2 ^ 31) (h0 : 0 < d) (hd : d < 2 ^ 31) : nI a / nI d = nI (a / d) := by
  apply Int32.toInt_inj.mp
  rw [lg_idiv_nonneg (by rw [nI_toInt ha]; omega) (by rw [nI_toInt hd]; omega), nI_toInt ha, nI_toInt hd, nI_toInt (Nat.lt_of_le_of_lt (Nat.div_le_self a d) ha)]
  first | rfl | exact (Int.natCast_ediv _ _).symm
theorem pk_rem {a d : Nat} (ha : a < 2 ^ 31) (h0 : 0 < d) (hd : d < 2 ^ 31) : nI a - nI a / nI d * nI d = nI (a % d) := by
  rw [pk_div ha h0 hd, pk_mul, pk_sub (Nat.div_mul_le_self a d)]
  exact congrArg nI (by have := Nat.div_add_mod' a d; omega)
theorem pk_sub_toInt {a b : Nat} (ha : a < 2 ^ 30) (hb : b < 2 ^ 30) : (nI a - nI b).toInt = (a : Int) - b := by
  rw [Int32.toInt_sub, nI_toInt (by omega), nI_toInt (by omega)]
  exact Int.bmod_eq_of_le (by omega) (by omega)
theorem pk_sneg {a b : Nat} (hb : b < 2 ^ 30) (h : a < b) : nI a - nI b < 0 := by
  rw [Int32.lt_iff_toInt_lt, pk_sub_toInt (by omega) hb, show (0 : Int32).toInt = 0 from by decide]
  omega
theorem pk_ix (x : Int32) {n : Nat} (hn : n < 2 ^ 31) : x < 0 ∨ nI n ≤ x ∨ ∃ j : Nat, j < n ∧ x = nI j := by
  by_cases h : x < 0
  · exact Or.inl h
  · obtain ⟨j, hj, rfl⟩ := nI_of h
    by_cases h2 : j < n
    · exact Or.inr (Or.inr ⟨j, h2, rfl⟩)
    · exact Or.inr (Or.inl (nI_le (by omega) hj))
theorem pk_le {x y : Int32} {A B : Prop} (a b : Nat) (f : a ≤ b → A) (g : b < a → B) (hx : x = nI a := by rfl) (hy : y = nI b := by rfl) (ha : a < 2 ^ 31 := by omega) (hb : b < 2 ^ 31 := by omega) : (x ≤ y → A) ∧ (¬ x ≤ y → B) := by
  subst hx hy
  rw [nI_leI ha hb]
  exact ⟨f, fun z => g (by omega)⟩
theorem pk_lt {x y : Int32} {A B : Prop} (a b : Nat) (f : a < b → A) (g : b ≤ a → B) (hx : x = nI a := by rfl) (hy : y = nI b := by rfl) (ha : a < 2 ^ 31 := by omega) (hb : b < 2 ^ 31 := by omega) : (x < y → A) ∧ (¬ x < y → B) := by
  subst hx hy
  rw [nI_ltI ha hb]
  exact ⟨f, fun z => g (by omega)⟩
theorem pk_eq {x y : Int32} {A B : Prop} (a b : Nat) (f : a = b → A) (g : a ≠ b → B) (hx : x = nI a := by rfl) (hy : y = nI b := by rfl) (ha : a < 2 ^ 31 := by omega) (hb : b < 2 ^ 31 := by omega) : (x = y → A) ∧ (¬ x = y → B) := by
  subst hx hy
  rw [nI_eq ha hb]
  exact ⟨f, g⟩
theorem pk_in {x : Int32} (n N : Nat) (h : n < N) (hx : x = nI n := by rfl) (hN : N < 2 ^ 31 := by omega) : vp_in x N := by
  subst hx
  exact vp_in_nI h hN
theorem pk_cl {x : Int32} (n : Nat) (hx : x = nI n := by rfl) (h : n < 2 ^ 31 := by omega) : x.toNatClampNeg = n := by
  subst hx
  exact nI_clamp h
theorem pk_tn {n : Nat} (h : n < 2 ^ 32) : (nI n).toBitVec.toNat = n := Nat.mod_eq_of_lt h
theorem pk_and (x : Int32) {m : Int32} (k : Nat) (hm : m.toBitVec.toNat = 2 ^ k - 1) : x &&& m = nI (x.toBitVec.toNat % 2 ^ k) := by
  apply Int32.toBitVec_inj.mp
  apply BitVec.eq_of_toNat_eq
  rw [Int32.toBitVec_and, BitVec.toNat_and, hm, Nat.and_two_pow_sub_one_eq_mod]
  show _ = (BitVec.ofNat 32 _).toNat
  rw [BitVec.toNat_ofNat]
  exact (Nat.mod_eq_of_lt (Nat.lt_of_le_of_lt (Nat.mod_le _ _) x.toBitVec.isLt)).symm
theorem pk_andN {n : Nat} (h : n < 2 ^ 32) {m : Int32} (k : Nat) (hm : m.toBitVec.toNat = 2 ^ k - 1) : nI n &&& m = nI (n % 2 ^ k) := by
  rw [pk_and _ k hm, pk_tn h]
theorem pk_andE (x : Int32) {m : Int32} (k : Nat) (hm : m.toBitVec.toNat = 2 ^ k - 1) : ∃ j : Nat, j < 2 ^ k ∧ x &&& m = nI j := ⟨_, Nat.mod_lt _ (Nat.two_pow_pos k), pk_and x k hm⟩
theorem pk_andIn (x : Int32) {m : Int32} (k : Nat) (hm : m.toBitVec.toNat = 2 ^ k - 1) (hk : k ≤ 30) : vp_in (x &&& m) (2 ^ k) := by
  obtain ⟨j, hj, e⟩ := pk_andE x k hm
  rw [e]
  exact vp_in_nI hj (Nat.lt_of_le_of_lt (Nat.pow_le_pow_right (by decide) hk) (by decide))
theorem pk_shl (a s : Int32) (k : Nat) (hs : (s.toBitVec.smod 32).toNat = k) : (a <<< s).toBitVec.toNat = a.toBitVec.toNat * 2 ^ k % 2 ^ 32 := by
  show (a.toBitVec <<< (s.toBitVec.smod 32).toNat).toNat = _
  rw [hs, BitVec.toNat_shiftLeft, Nat.shiftLeft_eq]
theorem pk_shr (a s : Int32) (k : Nat) (hs : (s.toBitVec.smod 32).toNat = k) : (a >>> s).toInt = a.toInt >>> k := by
  show (a.toBitVec.sshiftRight (s.toBitVec.smod 32).toNat).toInt = _
  rw [hs, BitVec.toInt_sshiftRight]
  rfl
theorem pk_shrN {n : Nat} (h : n < 2 ^ 31) (s : Int32) (k : Nat) (hs : (s.toBitVec.smod 32).toNat = k) : nI n >>> s = nI (n / 2 ^ k) := by
  apply Int32.toInt_inj.mp
  have h2 : n / 2 ^ k ≤ n := Nat.div_le_self _ _
  rw [pk_shr _ _ k hs, nI_toInt h, nI_toInt (by omega), Int.shiftRight_eq_div_pow]
  rfl
theorem pk_least (P : Nat → Prop) (h : ∃ k, P k) : ∃ k, P k ∧ ∀ j, j < k → ¬ P j := by
  obtain ⟨k, hk⟩ := h
  induction k using Nat.strongRecOn with
  | ind k ih =>
    by_cases e : ∃ j, j < k ∧ P j
    · obtain ⟨j, hj, pj⟩ := e
      exact ih j hj pj
    · exact ⟨k, hk, fun j hj pj => e ⟨j, hj, pj⟩⟩
theorem ek_if {c d A B : Prop} (e : c ↔ d) (f : d → A) (g : ¬ d → B) : (c → A) ∧ (¬ c → B) :=
  ⟨fun z => f (e.mp z), fun z => g (fun y => z (e.mpr y))⟩
def bt (x : Int32) (i : Nat) : Bool := x.toBitVec.getLsbD i
theorem b_ext {x y : Int32} (h : ∀ i, i < 32 → bt x i = bt y i) : x = y := Int32.toBitVec_inj.mp (BitVec.eq_of_getLsbD_eq (fun i hi => h i hi))
theorem b_or (x y : Int32) (i : Nat) : bt (x ||| y) i = (bt x i || bt y i) := by unfold bt; rw [Int32.toBitVec_or, BitVec.getLsbD_or]
theorem b_and (x y : Int32) (i : Nat) : bt (x &&& y) i = (bt x i && bt y i) := by unfold bt; rw [Int32.toBitVec_and, BitVec.getLsbD_and]
theorem b_xor (x y : Int32) (i : Nat) : bt (x ^^^ y) i = (bt x i ^^ bt y i) := by unfold bt; rw [Int32.toBitVec_xor, BitVec.getLsbD_xor]
theorem b_big {x : Int32} {i : Nat} (h : 32 ≤ i) : bt x i = false := BitVec.getLsbD_of_ge _ _ h
theorem b_m1 : ∀ i, i < 32 → bt (-1) i = true := by decide +kernel
theorem b_0 (i : Nat) : bt 0 i = false := BitVec.getLsbD_zero
theorem s_l : ∀ n, n < 32 → ((nI n &&& 31).toBitVec.smod 32).toNat = n := by decide +kernel
theorem s_u : ∀ n, n < 32 → (((nI n).toUInt32 &&& Int32.toUInt32 31).toBitVec % 32).toNat = n := by decide +kernel
theorem b_shl (n : Nat) (hn : n < 32) (x : Int32) {i : Nat} (hi : i < 32) : bt (x <<< (nI n &&& 31)) i = (decide (n ≤ i) && bt x (i - n)) := by
  unfold bt
  rw [Int32.toBitVec_shiftLeft]
  show (x.toBitVec <<< ((nI n &&& 31).toBitVec.smod 32).toNat).getLsbD i = _
  rw [s_l n hn, BitVec.getLsbD_shiftLeft]
  rcases Nat.lt_or_ge i n with h | h
  · simp [h, Nat.not_le.mpr h]
  · simp [hi, h, Nat.not_lt.mpr h]
theorem b_ushr (n : Nat) (hn : n < 32) (x : Int32) (i : Nat) : bt ((x.toUInt32 >>> ((nI n).toUInt32 &&& Int32.toUInt32 31)).toInt32) i = bt x (n + i) := by
  show (x.toUInt32 >>> ((nI n).toUInt32 &&& Int32.toUInt32 31)).toBitVec.getLsbD i = x.toUInt32.toBitVec.getLsbD (n + i)
  rw [UInt32.toBitVec_shiftRight]
  show (x.toUInt32.toBitVec >>> (((nI n).toUInt32 &&& Int32.toUInt32 31).toBitVec % 32).toNat).getLsbD i = _
  rw [s_u n hn, BitVec.getLsbD_ushiftRight]
theorem b_sshr (n : Nat) (hn : n < 32) (x : Int32) {i : Nat} (hi : i < 32) : bt (x >>> (nI n &&& 31)) i = if n + i < 32 then bt x (n + i) else bt x 31 := by
  unfold bt
  rw [Int32.toBitVec_shiftRight]
  show (x.toBitVec.sshiftRight ((nI n &&& 31).toBitVec.smod 32).toNat).getLsbD i = _
  rw [s_l n hn, BitVec.getLsbD_sshiftRight, BitVec.msb_eq_getLsbD_last]
  simp [hi]
theorem ts_nf {x : Bool} (h : ¬ x = false) : x = true := by cases x <;> first | rfl | exact absurd rfl h
theorem ts_nt {x : Bool} (h : ¬ x = true) : x = false := by cases x <;> first | rfl | exact absurd rfl h
theorem wb_inj {a b : Int64} (h : a.toBitVec = b.toBitVec) : a = b := Int64.toBitVec_inj.mp h
theorem wb_c : ∀ k, k < 64 → ((nI k).toInt64 &&& 63) = lN k := by decide +kernel
theorem wb_cu : ∀ k, k < 64 → ((nI k).toInt64.toUInt64 &&& Int64.toUInt64 63) = UInt64.ofNat k := by decide +kernel
end
section
/-! numbers, booleans, counting, bits -/
def zb_i (b : Bool) : Int32 := if b = true then 1 else 0
theorem zb_0 (b : Bool) : zb_i b = 0 ↔ b = false := by cases b <;> decide
theorem zb_1 (b : Bool) : zb_i b = 1 ↔ b = true := by cases b <;> decide
theorem zb_nar (b : Bool) : vp_nar .boolean (zb_i b) = zb_i b := by cases b <;> rfl
theorem zb_now (b : Bool) : narrow .boolean (.int (zb_i b)) = .int (zb_i b) := by cases b <;> rfl
theorem zb_b0 {x : Int32} {A B : Prop} (b : Bool) (hx : x = zb_i b) (f : b = false → A) (g : b = true → B) : (x = 0 → A) ∧ (¬ x = 0 → B) := by
  subst hx
  rw [zb_0]
  exact ⟨f, fun h => g (ts_nf h)⟩
theorem zb_b1 {x : Int32} {A B : Prop} (b : Bool) (hx : x = zb_i b) (f : b = true → A) (g : b = false → B) : (x = 1 → A) ∧ (¬ x = 1 → B) := by
  subst hx
  rw [zb_1]
  exact ⟨f, fun h => g (ts_nt h)⟩
theorem zb_d {p : Prop} [Decidable p] (h : p) : zb_i (decide p) = 1 := by rw [decide_eq_true h]; rfl
theorem zb_dn {p : Prop} [Decidable p] (h : ¬ p) : zb_i (decide p) = 0 := by rw [decide_eq_false h]; rfl
def zc_n (f : Nat → Bool) : Nat → Nat
  | 0 => 0
  | n + 1 => zc_n f n + (if f n = true then 1 else 0)
theorem zc_s (f : Nat → Bool) (n : Nat) : zc_n f (n + 1) = zc_n f n + (if f n = true then 1 else 0) := rfl
theorem zc_st {f : Nat → Bool} {n : Nat} (h : f n = true) : zc_n f (n + 1) = zc_n f n + 1 := by rw [zc_s, if_pos h]
theorem zc_sf {f : Nat → Bool} {n : Nat} (h : f n = false) : zc_n f (n + 1) = zc_n f n := by rw [zc_s, h]; rfl
theorem zc_le (f : Nat → Bool) : ∀ n, zc_n f n ≤ n := by
  intro n
  induction n with
  | zero => exact Nat.le_refl 0
  | succ n ih => rw [zc_s]; split <;> omega
theorem zc_cg {f g : Nat → Bool} : ∀ n, (∀ i, i < n → f i = g i) → zc_n f n = zc_n g n := by
  intro n
  induction n with
  | zero => intro _; rfl
  | succ n ih => intro h; rw [zc_s, zc_s, ih (fun i hi => h i (by omega)), h n (by omega)]
theorem zc_ad (f : Nat → Bool) (a : Nat) : ∀ b, zc_n f (a + b) = zc_n f a + zc_n (fun i => f (a + i)) b := by
  intro b
  induction b with
  | zero => rfl
  | succ b ih => rw [← Nat.add_assoc, zc_s, zc_s, ih]; exact Nat.add_assoc _ _ _
theorem zc_fl {f : Nat → Bool} {a : Nat} : ∀ b, a ≤ b → (∀ i, a ≤ i → i < b → f i = false) → zc_n f b = zc_n f a := by
  intro b
  induction b with
  | zero => intro h _; rw [show a = 0 by omega]
  | succ b ih =>
    intro h hf
    by_cases e : a = b + 1
    · rw [e]
    · rw [zc_sf (hf b (by omega) (by omega)), ih (by omega) (fun i h1 h2 => hf i h1 (by omega))]
theorem zc_mo {f : Nat → Bool} {a b : Nat} (h : a ≤ b) : zc_n f a ≤ zc_n f b := by
  obtain ⟨c, rfl⟩ := Nat.le.dest h
  rw [zc_ad]; omega
theorem zc_z {f : Nat → Bool} (n : Nat) (h : ∀ i, i < n → f i = false) : zc_n f n = 0 := zc_fl (a := 0) n (Nat.zero_le _) (fun i _ hi => h i hi)
theorem zc_i (f : Nat → Bool) (n : Nat) : nI (zc_n f n) + zb_i (f n) = nI (zc_n f (n + 1)) := by
  cases h : f n
  · rw [zc_sf h]; exact Int32.add_zero _
  · rw [zc_st h]; exact nI_1 _
/-! ints of any sign -/
theorem zi_add {x y : Int32} (h1 : -1073741824 ≤ x.toInt) (h2 : x.toInt < 1073741824) (h3 : -1073741824 ≤ y.toInt) (h4 : y.toInt < 1073741824) : (x + y).toInt = x.toInt + y.toInt := by
  rw [Int32.toInt_add]
  exact Int.bmod_eq_of_le (by omega) (by omega)
theorem zi_sub {x y : Int32} (h1 : -1073741824 ≤ x.toInt) (h2 : x.toInt < 1073741824) (h3 : -1073741824 ≤ y.toInt) (h4 : y.toInt < 1073741824) : (x - y).toInt = x.toInt - y.toInt := by
  rw [Int32.toInt_sub]
  exact Int.bmod_eq_of_le (by omega) (by omega)
theorem zi_mul {x y : Int32} (h1 : -1073741824 ≤ x.toInt * y.toInt) (h2 : x.toInt * y.toInt < 1073741824) : (x * y).toInt = x.toInt * y.toInt := by
  rw [Int32.toInt_mul]
  exact Int.bmod_eq_of_le (by omega) (by omega)
theorem zi_neg {x : Int32} (h1 : -1073741824 ≤ x.toInt) (h2 : x.toInt < 1073741824) : (-x).toInt = -x.toInt := by
  rw [Int32.toInt_neg]
  exact Int.bmod_eq_of_le (by omega) (by omega)
theorem zi_n {n : Nat} (h : n < 2 ^ 31) : (nI n).toInt = (n : Int) := nI_toInt h
theorem zi_eq {x : Int32} {n : Nat} (h : n < 2 ^ 31) (hx : x.toInt = (n : Int)) : x = nI n := Int32.toInt_inj.mp (by rw [hx, nI_toInt h])
/-! Int32 by bits -/
theorem ba_1 : ∀ i, i < 32 → bt 1 i = decide (i = 0) := by decide +kernel
theorem ba_zb (b : Bool) : ∀ i, i < 32 → bt (zb_i b) i = (decide (i = 0) && b) := by cases b <;> decide +kernel
theorem ba_u (n : Nat) (hn : n < 32) (x : Int32) : ((x.toUInt32 >>> ((nI n).toUInt32 &&& Int32.toUInt32 31)).toInt32 &&& 1) = zb_i (bt x n) := by
  apply b_ext
  intro i hi
  rw [b_and, b_ushr n hn, ba_1 i hi, ba_zb _ i hi]
  by_cases h : i = 0
  · subst h; simp
  · simp [h]
theorem ba_s (n : Nat) (hn : n < 32) (x : Int32) : ((x >>> (nI n &&& 31)) &&& 1) = zb_i (bt x n) := by
  apply b_ext
  intro i hi
  rw [b_and, b_sshr n hn x hi, ba_1 i hi, ba_zb _ i hi]
  by_cases h : i = 0
  · subst h; simp [hn]
  · simp [h]
theorem ba_sh (n : Nat) (hn : n < 32) {i : Nat} (hi : i < 32) : bt ((1 : Int32) <<< (nI n &&& 31)) i = decide (i = n) := by
  rw [b_shl n hn 1 hi, ba_1 (i - n) (by omega)]
  by_cases h : i = n
  · subst h; simp
  · by_cases h2 : n ≤ i
    · simp [h, show ¬ i - n = 0 by omega]
    · simp [h, h2]
theorem ba_z {x : Int32} : x = 0 ↔ ∀ i, i < 32 → bt x i = false :=
  ⟨fun h i _ => by rw [h, b_0], fun h => b_ext (fun i hi => by rw [h i hi, b_0])⟩
/-- the number of bits -/
def bp_c (x : Int32) : Nat := zc_n (bt x) 32
theorem bp_le (x : Int32) : bp_c x ≤ 32 := zc_le _ _
theorem xw_bits4 {post : Int32 → Prop} (x : Int32) (h : post (nI (bp_c x))) : ∀ n j : Nat, j ≤ 32 → 32 - j < n → wX_bits_4 post x n (nI (zc_n (bt x) j)) (nI j) := by
  intro n
  induction n with
  | zero => intro j h1 h2; omega
  | succ n ih =>
    intro j h1 h2
    unfold wX_bits_4
    refine pk_le 32 j (fun h3 => ?_) (fun h3 => ?_)
    · have e : j = 32 := by omega
      subst e; exact h
    · refine nm_r (e' := nI (zc_n (bt x) (j + 1))) ?_ (nm_r (nI_1 j) (ih (j + 1) (by omega) (by omega)))
      rw [ba_u j h3]
      exact zc_i _ _
theorem xw_bits {post : Int32 → Prop} (x : Int32) (h : post (nI (bp_c x))) : wpX_bits post x := ⟨33, xw_bits4 x h 33 0 (by omega) (by omega)⟩
/-! Int64 by bits -/
def bl (x : Int64) (i : Nat) : Bool := x.toBitVec.getLsbD i
theorem bl_ext {x y : Int64} (h : ∀ i, i < 64 → bl x i = bl y i) : x = y := Int64.toBitVec_inj.mp (BitVec.eq_of_getLsbD_eq (fun i hi => h i hi))
theorem bl_or (x y : Int64) (i : Nat) : bl (x ||| y) i = (bl x i || bl y i) := by unfold bl; rw [Int64.toBitVec_or, BitVec.getLsbD_or]
theorem bl_and (x y : Int64) (i : Nat) : bl (x &&& y) i = (bl x i && bl y i) := by unfold bl; rw [Int64.toBitVec_and, BitVec.getLsbD_and]
theorem bl_xor (x y : Int64) (i : Nat) : bl (x ^^^ y) i = (bl x i ^^ bl y i) := by unfold bl; rw [Int64.toBitVec_xor, BitVec.getLsbD_xor]
theorem bl_0 (i : Nat) : bl 0 i = false := BitVec.getLsbD_zero
theorem bl_m1 : ∀ i, i < 64 → bl (-1) i = true := by decide +kernel
theorem bl_1 : ∀ i, i < 64 → bl 1 i = decide (i = 0) := by decide +kernel
theorem bl_su : ∀ n, n < 64 → (((nI n).toInt64.toUInt64 &&& Int64.toUInt64 63).toBitVec % 64).toNat = n := by decide +kernel
theorem bl_sl : ∀ n, n < 64 → (((nI n).toInt64 &&& 63).toBitVec.smod 64).toNat = n := by decide +kernel
theorem bl_ushr (n : Nat) (hn : n < 64) (x : Int64) (i : Nat) : bl ((x.toUInt64 >>> ((nI n).toInt64.toUInt64 &&& Int64.toUInt64 63)).toInt64) i = bl x (n + i) := by
  show (x.toUInt64 >>> ((nI n).toInt64.toUInt64 &&& Int64.toUInt64 63)).toBitVec.getLsbD i = x.toUInt64.toBitVec.getLsbD (n + i)
  rw [UInt64.toBitVec_shiftRight]
  show (x.toUInt64.toBitVec >>> (((nI n).toInt64.toUInt64 &&& Int64.toUInt64 63).toBitVec % 64).toNat).getLsbD i = _
  rw [bl_su n hn, BitVec.getLsbD_ushiftRight]
theorem bl_shl (n : Nat) (hn : n < 64) (x : Int64) {i : Nat} (hi : i < 64) : bl (x <<< ((nI n).toInt64 &&& 63)) i = (decide (n ≤ i) && bl x (i - n)) := by
  unfold bl
  rw [Int64.toBitVec_shiftLeft]
  show (x.toBitVec <<< (((nI n).toInt64 &&& 63).toBitVec.smod 64).toNat).getLsbD i = _
  rw [bl_sl n hn, BitVec.getLsbD_shiftLeft]
  rcases Nat.lt_or_ge i n with h | h
  · simp [h, Nat.not_le.mpr h]
  · simp [hi, h, Nat.not_lt.mpr h]
theorem bl_sh (n : Nat) (hn : n < 64) {i : Nat} (hi : i < 64) : bl ((1 : Int64) <<< ((nI n).toInt64 &&& 63)) i = decide (i = n) := by
  rw [bl_shl n hn 1 hi, bl_1 (i - n) (by omega)]
  by_cases h : i = n
  · subst h; simp
  · by_cases h2 : n ≤ i
    · simp [h, show ¬ i - n = 0 by omega]
    · simp [h, h2]
/-- a bit as 0 or 1 -/
theorem bl_tst (n : Nat) (hn : n < 64) (x : Int64) : ((x.toUInt64 >>> ((nI n).toInt64.toUInt64 &&& Int64.toUInt64 63)).toInt64 &&& 1) = (if bl x n = true then 1 else 0) := by
  apply bl_ext
  intro i hi
  rw [bl_and, bl_ushr n hn, bl_1 i hi]
  by_cases h : i = 0
  · subst h
    cases hb : bl x n
    · simp [hb, bl_0]
    · simp [hb, bl_1]
  · cases hb : bl x n
    · simp [h, bl_0]
    · simp [h, bl_1 i hi]
theorem bl_br {A B : Prop} {w : Int64} (n : Nat) (hn : n < 64) (x : Int64) (hw : w = ((x.toUInt64 >>> ((nI n).toInt64.toUInt64 &&& Int64.toUInt64 63)).toInt64 &&& 1)) (f : bl x n = true → A) (g : bl x n = false → B) : (w = 1 → A) ∧ (¬ w = 1 → B) := by
  rw [hw, bl_tst n hn]
  cases hb : bl x n
  · exact ⟨fun h => absurd h (by decide), fun _ => g hb⟩
  · exact ⟨fun _ => f hb, fun h => absurd rfl h⟩
theorem bl_i32 (x : Int64) {i : Nat} (hi : i < 32) : bt x.toInt32 i = bl x i := by
  unfold bt bl
  rw [Int64.toBitVec_toInt32, BitVec.getLsbD_signExtend]
  simp [hi, show i < 64 by omega]
theorem bl_u (n : Nat) (hn : n < 64) (x : Int64) : (((x.toUInt64 >>> ((nI n).toInt64.toUInt64 &&& Int64.toUInt64 63)).toInt64).toInt32 &&& 1) = zb_i (bl x n) := by
  apply b_ext
  intro i hi
  rw [b_and, bl_i32 _ hi, bl_ushr n hn, ba_1 i hi, ba_zb _ i hi]
  by_cases h : i = 0
  · subst h; simp
  · simp [h]
theorem bl_mk : ∀ n, n < 64 → ∀ i, i < 64 → bl ((1 : Int64) <<< ((nI n).toInt64 &&& 63) - 1) i = decide (i < n) := by decide +kernel
/-- the number of bits of a long -/
def bq_c (x : Int64) : Nat := zc_n (bl x) 64
theorem bq_le (x : Int64) : bq_c x ≤ 64 := zc_le _ _
theorem xw_longBits4 {post : Int32 → Prop} (x : Int64) (h : post (nI (bq_c x))) : ∀ n j : Nat, j ≤ 64 → 64 - j < n → wX_longBits_4 post x n (nI (zc_n (bl x) j)) (nI j) := by
  intro n
  induction n with
  | zero => intro j h1 h2; omega
  | succ n ih =>
    intro j h1 h2
    unfold wX_longBits_4
    refine pk_le 64 j (fun h3 => ?_) (fun h3 => ?_)
    · have e : j = 64 := by omega
      subst e; exact h
    · refine nm_r (e' := nI (zc_n (bl x) (j + 1))) ?_ (nm_r (nI_1 j) (ih (j + 1) (by omega) (by omega)))
      rw [bl_u j h3]
      exact zc_i _ _
theorem xw_longBits {post : Int32 → Prop} (x : Int64) (h : post (nI (bq_c x))) : wpX_longBits post x := ⟨65, xw_longBits4 x h 65 0 (by omega) (by omega)⟩
/-! a day's word and bit -/
theorem zd_w {d : Nat} (h : d < 2 ^ 30) : nI d >>> ((6 : Int32) &&& 31) = nI (d / 64) := pk_shrN (by omega) _ 6 (by decide)
theorem zd_b {d : Nat} (h : d < 2 ^ 30) : nI d &&& 63 = nI (d % 64) := pk_andN (by omega) 6 (by decide)
/-- the bit of a day -/
def dw_b (f : Nat → Int64) (d : Nat) : Bool := bl (f (d / 64)) (d % 64)
end
section
/-! the calendar, pure: years from 0, months from 0, days of the month from 0 -/
def zy_s (y : Nat) : Nat := 365 * y + (y + 3) / 4
def zm_l (y m : Nat) : Nat := if m = 1 then (if y % 4 = 0 then 29 else 28) else if m = 3 ∨ m = 5 ∨ m = 8 ∨ m = 10 then 30 else 31
def zm_s (y : Nat) : Nat → Nat
  | 0 => zy_s y
  | m + 1 => zm_s y m + zm_l y m
theorem zm_s1 (y m : Nat) : zm_s y (m + 1) = zm_s y m + zm_l y m := rfl
theorem zm_lr (y m : Nat) : 28 ≤ zm_l y m ∧ zm_l y m ≤ 31 := by
  unfold zm_l
  split
  · split <;> omega
  · split <;> omega
theorem zm_12 (y : Nat) : zm_s y 12 = zy_s (y + 1) := by
  show zy_s y + zm_l y 0 + zm_l y 1 + zm_l y 2 + zm_l y 3 + zm_l y 4 + zm_l y 5 + zm_l y 6 + zm_l y 7 + zm_l y 8 + zm_l y 9 + zm_l y 10 + zm_l y 11 = zy_s (y + 1)
  have e1 : zm_l y 1 = if y % 4 = 0 then 29 else 28 := rfl
  rw [show zm_l y 0 = 31 from rfl, e1, show zm_l y 2 = 31 from rfl, show zm_l y 3 = 30 from rfl, show zm_l y 4 = 31 from rfl, show zm_l y 5 = 30 from rfl, show zm_l y 6 = 31 from rfl, show zm_l y 7 = 31 from rfl, show zm_l y 8 = 30 from rfl, show zm_l y 9 = 31 from rfl, show zm_l y 10 = 30 from rfl, show zm_l y 11 = 31 from rfl]
  unfold zy_s
  split <;> omega
theorem zy_mo {a b : Nat} (h : a ≤ b) : zy_s a ≤ zy_s b := by unfold zy_s; omega
theorem zy_st {a b : Nat} (h : a < b) : zy_s a + 365 ≤ zy_s b := by unfold zy_s; omega
theorem zy_20 : zy_s 20 = 7305 := by decide
theorem zy_b {y : Nat} (h : y ≤ 20) : zy_s y ≤ 7305 := zy_20 ▸ zy_mo h
theorem zm_mo (y : Nat) {a : Nat} : ∀ b, a ≤ b → zm_s y a ≤ zm_s y b := by
  intro b
  induction b with
  | zero => intro h; rw [show a = 0 by omega]; exact Nat.le_refl _
  | succ b ih =>
    intro h
    by_cases e : a = b + 1
    · rw [e]; exact Nat.le_refl _
    · have := ih (by omega)
      rw [zm_s1]; omega
theorem zm_ge (y m : Nat) : zy_s y ≤ zm_s y m := zm_mo y (a := 0) m (Nat.zero_le _)
theorem zm_up (y : Nat) {m : Nat} (h : m ≤ 12) : zm_s y m ≤ zy_s (y + 1) := zm_12 y ▸ zm_mo y 12 h
theorem zm_b {y m : Nat} (h : y < 20) (hm : m ≤ 12) : zm_s y m ≤ 7305 := Nat.le_trans (zm_up y hm) (zy_b (by omega))
theorem zm_ba (y : Nat) : ∀ m, zm_s y m ≤ zy_s y + 31 * m := by
  intro m
  induction m with
  | zero => exact Nat.le_refl _
  | succ m ih => have := (zm_lr y m).2; rw [zm_s1]; omega
/-- d is day t of month m of year y -/
def zk_d (d y m t : Nat) : Prop := y < 20 ∧ m < 12 ∧ t < zm_l y m ∧ d = zm_s y m + t
theorem zk_b {d y m t : Nat} (h : zk_d d y m t) : zy_s y ≤ d ∧ d < zy_s (y + 1) ∧ zm_s y m ≤ d ∧ d < zm_s y (m + 1) ∧ d < 7305 := by
  obtain ⟨h1, h2, h3, h4⟩ := h
  have a := zm_ge y m
  have b := zm_up y (show m + 1 ≤ 12 by omega)
  have c := zy_b (show y + 1 ≤ 20 by omega)
  rw [zm_s1] at *
  omega
theorem zk_uq {d y m t y' m' t' : Nat} (h : zk_d d y m t) (h' : zk_d d y' m' t') : y = y' ∧ m = m' ∧ t = t' := by
  have ⟨a1, a2, a3, a4, _⟩ := zk_b h
  have ⟨b1, b2, b3, b4, _⟩ := zk_b h'
  have ey : y = y' := by
    rcases Nat.lt_trichotomy y y' with g | g | g
    · have := zy_mo (show y + 1 ≤ y' by omega); omega
    · exact g
    · have := zy_mo (show y' + 1 ≤ y by omega); omega
  subst ey
  have em : m = m' := by
    rcases Nat.lt_trichotomy m m' with g | g | g
    · have := zm_mo y (a := m + 1) m' (by omega); omega
    · exact g
    · have := zm_mo y (a := m' + 1) m (by omega); omega
  subst em
  refine ⟨rfl, rfl, ?_⟩
  have := h.2.2.2
  have := h'.2.2.2
  omega
def zy_f (d : Nat) : Nat → Nat
  | 0 => 0
  | k + 1 => if zy_s (k + 1) ≤ d then k + 1 else zy_f d k
def zm_f (y d : Nat) : Nat → Nat
  | 0 => 0
  | k + 1 => if zm_s y (k + 1) ≤ d then k + 1 else zm_f y d k
/-- a day's year, month, day of the month -/
def zy_o (d : Nat) : Nat := zy_f d 19
def zm_o (d : Nat) : Nat := zm_f (zy_o d) d 11
def zd_o (d : Nat) : Nat := d - zm_s (zy_o d) (zm_o d)
theorem zy_fp (d : Nat) : ∀ k, zy_f d k ≤ k ∧ zy_s (zy_f d k) ≤ d ∧ (zy_f d k = k ∨ d < zy_s (zy_f d k + 1)) := by
  intro k
  induction k with
  | zero => exact ⟨Nat.le_refl _, by rw [show zy_f d 0 = 0 from rfl, show zy_s 0 = 0 from by decide]; exact Nat.zero_le _, Or.inl rfl⟩
  | succ k ih =>
    unfold zy_f
    by_cases h : zy_s (k + 1) ≤ d
    · rw [if_pos h]; exact ⟨Nat.le_refl _, h, Or.inl rfl⟩
    · rw [if_neg h]
      refine ⟨by omega, ih.2.1, Or.inr ?_⟩
      rcases ih.2.2 with e | e
      · rw [e]; omega
      · exact e
theorem zm_fp (y d : Nat) (h0 : zy_s y ≤ d) : ∀ k, zm_f y d k ≤ k ∧ zm_s y (zm_f y d k) ≤ d ∧ (zm_f y d k = k ∨ d < zm_s y (zm_f y d k + 1)) := by
  intro k
  induction k with
  | zero => exact ⟨Nat.le_refl _, h0, Or.inl rfl⟩
  | succ k ih =>
    unfold zm_f
    by_cases h : zm_s y (k + 1) ≤ d
    · rw [if_pos h]; exact ⟨Nat.le_refl _, h, Or.inl rfl⟩
    · rw [if_neg h]
      refine ⟨by omega, ih.2.1, Or.inr ?_⟩
      rcases ih.2.2 with e | e
      · rw [e]; omega
      · exact e
theorem zk_ex {d : Nat} (hd : d < 7305) : zk_d d (zy_o d) (zm_o d) (zd_o d) := by
  have ⟨a1, a2, a3⟩ := zy_fp d 19
  change zy_o d ≤ 19 at a1
  change zy_s (zy_o d) ≤ d at a2
  change zy_o d = 19 ∨ d < zy_s (zy_o d + 1) at a3
  have a4 : d < zy_s (zy_o d + 1) := by
    rcases a3 with e | e
    · rw [e]; rw [show zy_s (19 + 1) = 7305 from zy_20]; exact hd
    · exact e
  have ⟨b1, b2, b3⟩ := zm_fp (zy_o d) d a2 11
  change zm_o d ≤ 11 at b1
  change zm_s (zy_o d) (zm_o d) ≤ d at b2
  change zm_o d = 11 ∨ d < zm_s (zy_o d) (zm_o d + 1) at b3
  have b4 : d < zm_s (zy_o d) (zm_o d + 1) := by
    rcases b3 with e | e
    · rw [e, zm_12]; exact a4
    · exact e
  rw [zm_s1] at b4
  refine ⟨by omega, by omega, ?_, ?_⟩
  · unfold zd_o; omega
  · unfold zd_o; omega
theorem zk_un {d y m t : Nat} (h : zk_d d y m t) : zy_o d = y ∧ zm_o d = m ∧ zd_o d = t := zk_uq (zk_ex (zk_b h).2.2.2.2) h
theorem zk_mk {y m t : Nat} (h1 : y < 20) (h2 : m < 12) (h3 : t < zm_l y m) : zk_d (zm_s y m + t) y m t := ⟨h1, h2, h3, rfl⟩
/-- the months counted through -/
def zq_s (q : Nat) : Nat := zm_s (q / 12) (q % 12)
theorem zq_1 (q : Nat) : zq_s (q + 1) = zq_s q + zm_l (q / 12) (q % 12) := by
  unfold zq_s
  by_cases h : q % 12 = 11
  · rw [show (q + 1) / 12 = q / 12 + 1 by omega, show (q + 1) % 12 = 0 by omega, h]
    exact (zm_12 (q / 12)).symm
  · rw [show (q + 1) / 12 = q / 12 by omega, show (q + 1) % 12 = q % 12 + 1 by omega]
    rfl
theorem zq_mo {a : Nat} : ∀ b, a ≤ b → zq_s a ≤ zq_s b := by
  intro b
  induction b with
  | zero => intro h; rw [show a = 0 by omega]; exact Nat.le_refl _
  | succ b ih =>
    intro h
    by_cases e : a = b + 1
    · rw [e]; exact Nat.le_refl _
    · have := ih (by omega)
      rw [zq_1]; omega
theorem zq_240 : zq_s 240 = 7305 := by decide
/-- a day's month, counted through -/
def zq_o (d : Nat) : Nat := zy_o d * 12 + zm_o d
theorem zq_b {d : Nat} (hd : d < 7305) : zq_s (zq_o d) ≤ d ∧ d < zq_s (zq_o d + 1) ∧ zq_o d < 240 := by
  have h := zk_ex hd
  have ⟨_, _, b3, b4, _⟩ := zk_b h
  obtain ⟨h1, h2, h3, h4⟩ := h
  have e1 : zq_o d / 12 = zy_o d := by unfold zq_o; omega
  have e2 : zq_o d % 12 = zm_o d := by unfold zq_o; omega
  rw [zq_1]
  unfold zq_s
  rw [e1, e2]
  rw [zm_s1] at b4
  exact ⟨b3, b4, by unfold zq_o; omega⟩
theorem zq_i {d q : Nat} (hd : d < 7305) : zq_o d = q ↔ zq_s q ≤ d ∧ d < zq_s (q + 1) := by
  have ⟨a1, a2, _⟩ := zq_b hd
  constructor
  · intro e; rw [← e]; exact ⟨a1, a2⟩
  · intro ⟨b1, b2⟩
    rcases Nat.lt_trichotomy (zq_o d) q with g | g | g
    · have := zq_mo (a := zq_o d + 1) q (by omega); omega
    · exact g
    · have := zq_mo (a := q + 1) (zq_o d) (by omega); omega
theorem zy_i {d y : Nat} (hd : d < 7305) : zy_o d = y ↔ zy_s y ≤ d ∧ d < zy_s (y + 1) := by
  have ⟨a1, a2, _⟩ := zk_b (zk_ex hd)
  constructor
  · intro e; rw [← e]; exact ⟨a1, a2⟩
  · intro ⟨b1, b2⟩
    rcases Nat.lt_trichotomy (zy_o d) y with g | g | g
    · have := zy_mo (show zy_o d + 1 ≤ y by omega); omega
    · exact g
    · have := zy_mo (show y + 1 ≤ zy_o d by omega); omega
/-! X's walks over the calendar -/
theorem xw_badDay {post : Int32 → Prop} {x : Int32} (hg : ∀ d, d < 7305 → x = nI d → post 0) (hb : (¬ ∃ d, d < 7305 ∧ x = nI d) → post 1) : wpX_badDay post x := by
  unfold wpX_badDay
  refine br_c (fun h => hb ?_) (fun h => ?_)
  · intro ⟨d, hd, e⟩
    rw [e] at h
    exact nI_pos (by omega) h
  · obtain ⟨j, hj, rfl⟩ := nI_of h
    refine pk_le j 7304 (fun h2 => hg j (by omega) rfl) (fun h2 => hb ?_)
    intro ⟨d, hd, e⟩
    have := (nI_eq hj (by omega)).mp e
    omega
theorem xw_badDay0 {post : Int32 → Prop} {x : Int32} (d : Nat) (hx : x = nI d) (hd : d < 7305) (h : post 0) : wpX_badDay post x :=
  xw_badDay (fun _ _ _ => h) (fun z => absurd ⟨d, hd, hx⟩ z)
theorem zw_7 {d : Nat} (h : d < 2 ^ 30) : (nI d + 5) - (nI d + 5) / 7 * 7 = nI ((d + 5) % 7) := by
  show (nI d + nI 5) - (nI d + nI 5) / nI 7 * nI 7 = _
  rw [nI_add, pk_rem (by omega) (by omega) (by omega)]
theorem xw_weekdayOf {post : Int32 → Prop} {x : Int32} (d : Nat) (hx : x = nI d) (hd : d < 2 ^ 30) (h : post (nI ((d + 5) % 7))) : wpX_weekdayOf post x := by
  subst hx
  unfold wpX_weekdayOf
  rw [zw_7 hd]
  exact ⟨by decide, h⟩
theorem xw_leap {post : Int32 → Prop} {x : Int32} (y : Nat) (hx : x = nI y) (hy : y < 1000) (h : post (zb_i (decide (y % 4 = 0)))) : wpX_leap post x := by
  subst hx
  unfold wpX_leap
  rw [pk_andN (n := y) (m := 3) (by omega) 2 (by decide)]
  refine pk_eq (y % 2 ^ 2) 0 (fun e => ?_) (fun e => ?_)
  · rw [zb_d (show y % 4 = 0 from e)] at h; exact h
  · rw [zb_dn (show ¬ y % 4 = 0 from e)] at h; exact h
theorem zw_ys {y : Nat} (hy : y < 1000) : (365 * nI y) + ((nI y + 3) / 4) = nI (zy_s y) := by
  show (nI 365 * nI y) + ((nI y + nI 3) / nI 4) = _
  rw [pk_mul, nI_add, pk_div (by omega) (by omega) (by omega), nI_add]
  rfl
theorem xw_yearStart {post : Int32 → Prop} {x : Int32} (y : Nat) (hx : x = nI y) (hy : y < 1000) (h : post (nI (zy_s y))) : wpX_yearStart post x := by
  subst hx
  unfold wpX_yearStart
  rw [zw_ys hy]
  exact ⟨by decide, h⟩
theorem xw_yearOf2 {post : Int32 → Prop} {d y : Nat} (hy : y < 20) (h1 : zy_s y ≤ d) (h2 : d < zy_s (y + 1)) (hd : d < 2 ^ 30) (h : post (nI y)) : ∀ n j : Nat, j ≤ y → y - j < n → wX_yearOf_2 post (nI d) n (nI j) := by
  intro n
  induction n with
  | zero => intro j h3 h4; omega
  | succ n ih =>
    intro j h3 h4
    unfold wX_yearOf_2
    refine pk_le 19 j (fun h5 => ?_) (fun h5 => ?_)
    · have e : j = y := by omega
      subst e; exact h
    · refine xw_yearStart (j + 1) (nI_1 j) (by omega) ?_
      have hb := zy_b (show j + 1 ≤ 20 by omega)
      refine pk_lt d (zy_s (j + 1)) (fun h6 => ?_) (fun h6 => ?_)
      · have e : j = y := by
          rcases Nat.lt_trichotomy j y with g | g | g
          · have := zy_mo (show j + 1 ≤ y by omega); omega
          · exact g
          · omega
        subst e; exact h
      · have e : j ≠ y := by
          intro e; subst e; omega
        exact nm_r (nI_1 j) (ih (j + 1) (by omega) (by omega))
theorem xw_yearOf {post : Int32 → Prop} {x : Int32} (d : Nat) (hx : x = nI d) (hd : d < 7305) (h : post (nI (zy_o d))) : wpX_yearOf post x := by
  subst hx
  have k := zk_ex hd
  have ⟨a1, a2, _⟩ := zk_b k
  exact ⟨_, xw_yearOf2 k.1 a1 a2 (by omega) h (zy_o d + 1) 0 (by omega) (by omega)⟩
theorem xw_monthLength {post : Int32 → Prop} {x z : Int32} (y m : Nat) (hx : x = nI y) (hz : z = nI m) (hy : y < 1000) (hm : m < 1000) (h : post (nI (zm_l y m))) : wpX_monthLength post x z := by
  subst hz
  unfold wpX_monthLength
  unfold zm_l at h
  refine pk_eq m 1 (fun e => ?_) (fun e => ?_)
  · rw [if_pos e] at h
    refine xw_leap y hx hy (zb_b0 _ rfl (fun hf => ?_) (fun ht => ?_))
    · rw [if_neg (of_decide_eq_false hf)] at h; exact h
    · rw [if_pos (of_decide_eq_true ht)] at h; exact h
  · rw [if_neg e] at h
    refine pk_eq m 3 (fun e3 => ?_) (fun e3 => pk_eq m 5 (fun e5 => ?_) (fun e5 => pk_eq m 8 (fun e8 => ?_) (fun e8 => pk_eq m 10 (fun e10 => ?_) (fun e10 => ?_))))
    · rw [if_pos (by omega)] at h; exact h
    · rw [if_pos (by omega)] at h; exact h
    · rw [if_pos (by omega)] at h; exact h
    · rw [if_pos (by omega)] at h; exact h
    · rw [if_neg (by omega)] at h; exact h
theorem zm_bb {y m : Nat} (hy : y < 1000) (hm : m ≤ 12) : zm_s y m < 1000000 := by
  have := zm_ba y m
  unfold zy_s at this
  omega
theorem xw_monthStart7 {post : Int32 → Prop} {y m : Nat} (hy : y < 1000) (hm : m ≤ 12) (h : post (nI (zm_s y m))) : ∀ n j : Nat, j ≤ m → m - j < n → wX_monthStart_7 post (nI y) (nI m) n (nI (zm_s y j)) (nI j) := by
  intro n
  induction n with
  | zero => intro j h3 h4; omega
  | succ n ih =>
    intro j h3 h4
    unfold wX_monthStart_7
    refine pk_le m j (fun h5 => ?_) (fun h5 => ?_)
    · have e : j = m := by omega
      subst e; exact h
    · refine xw_monthLength y j rfl rfl hy (by omega) ?_
      exact nm_r (e' := nI (zm_s y (j + 1))) (nI_add _ _) (nm_r (nI_1 j) (ih (j + 1) (by omega) (by omega)))
theorem xw_monthStart {post : Int32 → Prop} {x z : Int32} (y m : Nat) (hx : x = nI y) (hz : z = nI m) (hy : y < 1000) (hm : m ≤ 12) (h : post (nI (zm_s y m))) : wpX_monthStart post x z := by
  subst hx hz
  unfold wpX_monthStart
  exact xw_yearStart y rfl hy ⟨_, xw_monthStart7 hy hm h (m + 1) 0 (by omega) (by omega)⟩
theorem xw_monthOf2 {post : Int32 → Prop} {d y m : Nat} (hy : y < 20) (hm : m < 12) (h1 : zm_s y m ≤ d) (h2 : d < zm_s y (m + 1)) (hd : d < 2 ^ 30) (h : post (nI m)) : ∀ n j : Nat, j ≤ m → m - j < n → wX_monthOf_2 post (nI d) (nI y) n (nI j) := by
  intro n
  induction n with
  | zero => intro j h3 h4; omega
  | succ n ih =>
    intro j h3 h4
    unfold wX_monthOf_2
    refine pk_le 11 j (fun h5 => ?_) (fun h5 => ?_)
    · have e : j = m := by omega
      subst e; exact h
    · refine xw_monthStart y (j + 1) rfl (nI_1 j) (by omega) (by omega) ?_
      have hb := zm_b hy (show j + 1 ≤ 12 by omega)
      refine pk_lt d (zm_s y (j + 1)) (fun h6 => ?_) (fun h6 => ?_)
      · have e : j = m := by
          rcases Nat.lt_trichotomy j m with g | g | g
          · have := zm_mo y (a := j + 1) m (by omega); omega
          · exact g
          · omega
        subst e; exact h
      · have e : j ≠ m := by
          intro e; subst e; omega
        exact nm_r (nI_1 j) (ih (j + 1) (by omega) (by omega))
theorem xw_monthOf {post : Int32 → Prop} {x z : Int32} (d : Nat) (hx : x = nI d) (hz : z = nI (zy_o d)) (hd : d < 7305) (h : post (nI (zm_o d))) : wpX_monthOf post x z := by
  subst hx hz
  have k := zk_ex hd
  have ⟨_, _, a3, a4, _⟩ := zk_b k
  exact ⟨_, xw_monthOf2 k.1 k.2.1 a3 a4 (by omega) h (zm_o d + 1) 0 (by omega) (by omega)⟩
end
section
/-! the rule, and what it means: one abstract state for both sides -/
abbrev ru_T : Type := Nat × Nat × Nat × Int32 × Int32 × Int32 × Int32 × Int32 × Int32 × Nat × Nat
def ru_S (R : ru_T) : Nat := R.1
def ru_F (R : ru_T) : Nat := R.2.1
def ru_I (R : ru_T) : Nat := R.2.2.1
def ru_M (R : ru_T) : Int32 := R.2.2.2.1
def ru_D (R : ru_T) : Int32 := R.2.2.2.2.1
def ru_L (R : ru_T) : Int32 := R.2.2.2.2.2.1
def ru_W (R : ru_T) : Int32 := R.2.2.2.2.2.2.1
def ru_O (R : ru_T) : Int32 := R.2.2.2.2.2.2.2.1
def ru_P (R : ru_T) : Int32 := R.2.2.2.2.2.2.2.2.1
def ru_C (R : ru_T) : Nat := R.2.2.2.2.2.2.2.2.2.1
def ru_E (R : ru_T) : Nat := R.2.2.2.2.2.2.2.2.2.2
def ru_ok (R : ru_T) : Prop := ru_S R < 7305 ∧ ru_F R < 4 ∧ 1 ≤ ru_I R ∧ ru_I R ≤ 20 ∧ -5 ≤ (ru_O R).toInt ∧ (ru_O R).toInt ≤ 5 ∧ -10 ≤ (ru_P R).toInt ∧ (ru_P R).toInt ≤ 10 ∧ ru_C R ≤ 500 ∧ ru_E R < 7305
/-- the sets with what is meant if they are empty -/
def fu_M (R : ru_T) : Int32 := if ((ru_D R ||| ru_L R) ||| ru_W R) = 0 ∧ ru_F R = 3 ∧ ru_M R = 0 then (1 : Int32) <<< (nI (zm_o (ru_S R)) &&& 31) else ru_M R
def fu_D (R : ru_T) : Int32 := if ((ru_D R ||| ru_L R) ||| ru_W R) = 0 ∧ 2 ≤ ru_F R then (1 : Int32) <<< (nI (zd_o (ru_S R)) &&& 31) else ru_D R
def fu_W (R : ru_T) : Int32 := if ((ru_D R ||| ru_L R) ||| ru_W R) = 0 ∧ ru_F R = 1 then (1 : Int32) <<< (nI ((ru_S R + 5) % 7) &&& 31) else ru_W R
def fu_O (R : ru_T) : Int32 := if ru_F R < 2 then 0 else ru_O R
/-- is the ix-th of sz the o-th of its weekday -/
def rk_o (o : Int) (sz ix : Nat) : Bool := if 0 < o then decide (((ix / 7 + 1 : Nat) : Int) = o) else decide ((((sz - 1 - ix) / 7 + 1 : Nat) : Int) = -o)
def rk_m (R : ru_T) (y m t : Nat) : Bool := decide (fu_O R = 0) || (if ru_F R = 3 ∧ ru_M R = 0 then rk_o (fu_O R).toInt (zy_s (y + 1) - zy_s y) (zm_s y m + t - zy_s y) else rk_o (fu_O R).toInt (zm_l y m) t)
/-- a day of a month by the sets -/
def zp_m (R : ru_T) (y m t : Nat) : Bool := (decide (fu_M R = 0) || bt (fu_M R) m) && ((decide ((fu_D R ||| ru_L R) = 0) || (bt (fu_D R) t || bt (ru_L R) (zm_l y m - 1 - t))) && (decide (fu_W R = 0) || (bt (fu_W R) ((zm_s y m + t + 5) % 7) && rk_m R y m t)))
def zp_d (R : ru_T) (d : Nat) : Bool := zp_m R (zy_o d) (zm_o d) (zd_o d)
/-- a day's period -/
def zp_e (R : ru_T) (d : Nat) : Nat := if ru_F R = 0 then d else if ru_F R = 1 then (d + 5) / 7 else if ru_F R = 2 then zq_o d else zy_o d
/-- a candidate -/
def zc_a (R : ru_T) (d : Nat) : Bool := decide (d < 7305) && (decide (zp_e R (ru_S R) ≤ zp_e R d) && (decide ((zp_e R d - zp_e R (ru_S R)) % ru_I R = 0) && zp_d R d))
def zr_f (R : ru_T) (d : Nat) : Nat → Bool := fun e => zc_a R e && decide (zp_e R e = zp_e R d)
/-- how many candidates of the day's period lie before it; how many there are -/
def zr_k (R : ru_T) (d : Nat) : Nat := zc_n (zr_f R d) d
def zr_t (R : ru_T) (d : Nat) : Nat := zc_n (zr_f R d) 7305
def zs_p (p : Int) (k n : Nat) : Bool := if p = 0 then true else if 0 < p then decide ((k : Int) = p - 1) else decide ((k : Int) = n + p)
/-- a day of the rule but for the count -/
def zk_p (R : ru_T) (d : Nat) : Bool := zc_a R d && (decide (ru_S R ≤ d) && (decide (d ≤ ru_E R) && zs_p (ru_P R).toInt (zr_k R d) (zr_t R d)))
def zn_n (R : ru_T) : Nat → Nat
  | 0 => 0
  | d + 1 => zn_n R d + (if (decide (ru_C R = 0 ∨ zn_n R d < ru_C R) && zk_p R d) = true then 1 else 0)
/-- a day of the rule -/
def zs_l (R : ru_T) (d : Nat) : Bool := decide (ru_C R = 0 ∨ zn_n R d < ru_C R) && zk_p R d
theorem zn_1 (R : ru_T) (d : Nat) : zn_n R (d + 1) = zn_n R d + (if zs_l R d = true then 1 else 0) := rfl
theorem zn_c (R : ru_T) : ∀ d, zn_n R d = zc_n (zs_l R) d := by
  intro d
  induction d with
  | zero => rfl
  | succ d ih => rw [zn_1, zc_s, ih]
theorem zn_le (R : ru_T) (d : Nat) : zn_n R d ≤ d := by rw [zn_c]; exact zc_le _ _
theorem zn_mo (R : ru_T) {a b : Nat} (h : a ≤ b) : zn_n R a ≤ zn_n R b := by rw [zn_c, zn_c]; exact zc_mo h
theorem zn_st {R : ru_T} {d : Nat} (h : zs_l R d = true) : zn_n R (d + 1) = zn_n R d + 1 := by rw [zn_1, if_pos h]
theorem zn_sf {R : ru_T} {d : Nat} (h : zs_l R d = false) : zn_n R (d + 1) = zn_n R d := by rw [zn_1, h]; rfl
theorem zs_kp {R : ru_T} {d : Nat} (h : zk_p R d = false) : zs_l R d = false := by unfold zs_l; rw [h, Bool.and_false]
theorem zk_ca {R : ru_T} {d : Nat} (h : zc_a R d = false) : zk_p R d = false := by unfold zk_p; rw [h, Bool.false_and]
theorem zk_en {R : ru_T} {d : Nat} (h : ru_E R < d) : zk_p R d = false := by unfold zk_p; rw [decide_eq_false (show ¬ d ≤ ru_E R by omega), Bool.false_and, Bool.and_false, Bool.and_false]
theorem zk_be {R : ru_T} {d : Nat} (h : d < ru_S R) : zk_p R d = false := by unfold zk_p; rw [decide_eq_false (show ¬ ru_S R ≤ d by omega), Bool.false_and, Bool.and_false]
theorem zc_lt {R : ru_T} {d : Nat} (h : 7305 ≤ d) : zc_a R d = false := by unfold zc_a; rw [decide_eq_false (show ¬ d < 7305 by omega), Bool.false_and]
theorem zc_ga {R : ru_T} {d : Nat} (h : ¬ (zp_e R (ru_S R) ≤ zp_e R d ∧ (zp_e R d - zp_e R (ru_S R)) % ru_I R = 0)) : zc_a R d = false := by
  unfold zc_a
  by_cases h1 : zp_e R (ru_S R) ≤ zp_e R d
  · rw [decide_eq_false (p := (zp_e R d - zp_e R (ru_S R)) % ru_I R = 0) (fun h2 => h ⟨h1, h2⟩), Bool.false_and, Bool.and_false, Bool.and_false]
  · rw [decide_eq_false h1, Bool.false_and, Bool.and_false]
theorem zc_ok {R : ru_T} {d : Nat} (hd : d < 7305) (h1 : zp_e R (ru_S R) ≤ zp_e R d) (h2 : (zp_e R d - zp_e R (ru_S R)) % ru_I R = 0) : zc_a R d = zp_d R d := by
  unfold zc_a
  rw [decide_eq_true hd, decide_eq_true h1, decide_eq_true h2, Bool.true_and, Bool.true_and, Bool.true_and]
theorem zs_nw {R : ru_T} {D : Nat} (h0 : ru_C R ≠ 0) (h : ru_C R ≤ zn_n R D) : ∀ d, D ≤ d → zs_l R d = false := by
  intro d hd
  have := zn_mo R hd
  unfold zs_l
  rw [decide_eq_false (by omega), Bool.false_and]
theorem zs_en {R : ru_T} {D : Nat} (h : ru_E R < D) : ∀ d, D ≤ d → zs_l R d = false := fun d hd => zs_kp (zk_en (by omega))
theorem zs_lt {R : ru_T} {D : Nat} (h : 7305 ≤ D) : ∀ d, D ≤ d → zs_l R d = false := fun d hd => zs_kp (zk_ca (zc_lt (by omega)))
/-! the days so far: those below D -/
def qq_v (R : ru_T) (D : Nat) (md : Int32) (dD : Nat → Int64) : Prop := md = nI (zn_n R D) ∧ ∀ e, e < 7360 → dw_b dD e = (decide (e < D) && zs_l R e)
def qq_f (R : ru_T) (dD : Nat → Int64) : Prop := ∀ e, e < 7360 → dw_b dD e = zs_l R e
theorem qq_0 {R : ru_T} {dD : Nat → Int64} (h : ∀ i, i < 115 → dD i = 0) : qq_v R 0 0 dD := by
  refine ⟨rfl, fun e he => ?_⟩
  unfold dw_b
  rw [h _ (by omega), bl_0]
  rfl
theorem qq_up {R : ru_T} {D : Nat} {md : Int32} {dD : Nat → Int64} (D' : Nat) (h : D ≤ D') (hf : ∀ d, D ≤ d → d < D' → zs_l R d = false) (q : qq_v R D md dD) : qq_v R D' md dD := by
  refine ⟨?_, fun e he => ?_⟩
  · rw [q.1, zn_c, zn_c, zc_fl D' h hf]
  · rw [q.2 e he]
    by_cases h1 : e < D
    · rw [decide_eq_true h1, decide_eq_true (show e < D' by omega)]
    · rw [decide_eq_false h1, Bool.false_and]
      by_cases h2 : e < D'
      · rw [hf e (by omega) h2, Bool.and_false]
      · rw [decide_eq_false h2, Bool.false_and]
theorem qq_ca {R : ru_T} {D : Nat} {md : Int32} {dD : Nat → Int64} (D' : Nat) (h : D ≤ D') (hf : ∀ d, D ≤ d → d < D' → zc_a R d = false) (q : qq_v R D md dD) : qq_v R D' md dD :=
  qq_up D' h (fun d h1 h2 => zs_kp (zk_ca (hf d h1 h2))) q
theorem qq_en {R : ru_T} {D : Nat} {md : Int32} {dD : Nat → Int64} (q : qq_v R D md dD) (hf : ∀ d, D ≤ d → zs_l R d = false) : qq_f R dD := by
  intro e he
  rw [q.2 e he]
  by_cases h1 : e < D
  · rw [decide_eq_true h1, Bool.true_and]
  · rw [decide_eq_false h1, hf e (by omega), Bool.and_false]
/-! ranks over a segment -/
theorem zr_sg {R : ru_T} {d a b : Nat} (hb : b ≤ 7305) (ha : a ≤ d) (hd : d < b) (hp : ∀ e, e < 7305 → (zp_e R e = zp_e R d ↔ a ≤ e ∧ e < b)) : zr_k R d = zc_n (fun i => zc_a R (a + i)) (d - a) ∧ zr_t R d = zc_n (fun i => zc_a R (a + i)) (b - a) := by
  have f0 : zc_n (zr_f R d) a = 0 := zc_z a (fun i hi => by
    unfold zr_f
    rw [decide_eq_false (fun z => by have := (hp i (by omega)).mp z; omega), Bool.and_false])
  have fe : ∀ i, a + i < b → zr_f R d (a + i) = zc_a R (a + i) := fun i hi => by
    unfold zr_f
    rw [decide_eq_true ((hp (a + i) (by omega)).mpr ⟨by omega, hi⟩), Bool.and_true]
  have go : ∀ c, a ≤ c → c ≤ b → zc_n (zr_f R d) c = zc_n (fun i => zc_a R (a + i)) (c - a) := by
    intro c h1 h2
    obtain ⟨g, rfl⟩ := Nat.le.dest h1
    rw [zc_ad, f0, Nat.zero_add, Nat.add_sub_cancel_left]
    exact zc_cg g (fun i hi => fe i (by omega))
  refine ⟨go d ha (by omega), ?_⟩
  unfold zr_t
  rw [zc_fl (a := b) 7305 hb (fun i h1 h2 => by
    unfold zr_f
    rw [decide_eq_false (fun z => by have := (hp i h2).mp z; omega), Bool.and_false])]
  exact go b (by omega) (Nat.le_refl _)
theorem zq_om {e d : Nat} (h : e ≤ d) (hd : d < 7305) : zq_o e ≤ zq_o d := by
  have ⟨a1, a2, _⟩ := zq_b (show e < 7305 by omega)
  have ⟨b1, b2, _⟩ := zq_b hd
  rcases Nat.lt_or_ge (zq_o d) (zq_o e) with g | g
  · have := zq_mo (a := zq_o d + 1) (zq_o e) (by omega); omega
  · exact g
theorem zy_om {e d : Nat} (h : e ≤ d) (hd : d < 7305) : zy_o e ≤ zy_o d := by
  have ⟨a1, a2, _⟩ := zk_b (zk_ex (show e < 7305 by omega))
  have ⟨b1, b2, _⟩ := zk_b (zk_ex hd)
  rcases Nat.lt_or_ge (zy_o d) (zy_o e) with g | g
  · have := zy_mo (show zy_o d + 1 ≤ zy_o e by omega); omega
  · exact g
theorem zp_mo {R : ru_T} {e d : Nat} (h : e ≤ d) (hd : d < 7305) : zp_e R e ≤ zp_e R d := by
  unfold zp_e
  split
  · exact h
  · split
    · omega
    · split
      · exact zq_om h hd
      · exact zy_om h hd
theorem zp_0 {R : ru_T} (h : ru_F R = 0) (d : Nat) : zp_e R d = d := by unfold zp_e; rw [if_pos h]
theorem zp_1 {R : ru_T} (h : ru_F R = 1) (d : Nat) : zp_e R d = (d + 5) / 7 := by unfold zp_e; rw [if_neg (by omega), if_pos h]
theorem zp_2 {R : ru_T} (h : ru_F R = 2) (d : Nat) : zp_e R d = zq_o d := by unfold zp_e; rw [if_neg (by omega), if_neg (by omega), if_pos h]
theorem zp_3 {R : ru_T} (h : ru_F R = 3) (d : Nat) : zp_e R d = zy_o d := by unfold zp_e; rw [if_neg (by omega), if_neg (by omega), if_neg (by omega)]
theorem zp_k {R : ru_T} {d y m t : Nat} (h : zk_d d y m t) : zp_d R d = zp_m R y m t := by
  have ⟨e1, e2, e3⟩ := zk_un h
  unfold zp_d
  rw [e1, e2, e3]
/-! extras -/
def zo_v (f : Nat → Bool) (eD eI : Nat → Int32) : Nat → Nat → Bool
  | 0 => f
  | k + 1 => fun e => if eD k = nI e then decide (eI k ≠ 0) else zo_v f eD eI k e
theorem zo_1 (f : Nat → Bool) (eD eI : Nat → Int32) (k e : Nat) : zo_v f eD eI (k + 1) e = if eD k = nI e then decide (eI k ≠ 0) else zo_v f eD eI k e := rfl
def eo_k (ex : Nat) (eD eI : Nat → Int32) : Prop := ex ≤ 12 ∧ (∀ i, i < ex → ∃ d, d < 7305 ∧ eD i = nI d) ∧ ∀ i, eI i = 0 ∨ eI i = 1
def zf_n (R : ru_T) (ex : Nat) (eD eI : Nat → Int32) : Nat → Bool := zo_v (zs_l R) eD eI ex
theorem zo_lt {R : ru_T} {eD eI : Nat → Int32} {e : Nat} (h : 7305 ≤ e) (he : e < 7360) : ∀ ex, (∀ i, i < ex → ∃ d, d < 7305 ∧ eD i = nI d) → zo_v (zs_l R) eD eI ex e = false := by
  intro ex
  induction ex with
  | zero => intro _; exact zs_lt (Nat.le_refl _) e h
  | succ k ih =>
    intro hk
    rw [zo_1, if_neg, ih (fun i hi => hk i (by omega))]
    intro z
    obtain ⟨d, hd, ed⟩ := hk k (by omega)
    rw [ed] at z
    have := (nI_eq (by omega) (by omega)).mp z
    omega
theorem zf_lt {R : ru_T} {ex : Nat} {eD eI : Nat → Int32} (k : eo_k ex eD eI) {e : Nat} (h : 7305 ≤ e) (he : e < 7360) : zf_n R ex eD eI e = false := zo_lt h he ex k.2.1
/-- what X's words hold when they are ready; what Y's array holds -/
def xf_ok (R : ru_T) (ex : Nat) (eD eI : Nat → Int32) (dD : Nat → Int64) : Prop := ∀ e, e < 7360 → dw_b dD e = zf_n R ex eD eI e
def yf_ok (R : ru_T) (ex : Nat) (eD eI : Nat → Int32) (dY : Nat → Int32) : Prop := ∀ e, e < 7305 → dY e = zb_i (zf_n R ex eD eI e)
end
section
/-! X: the days of a month as bits -/
section
variable {R : ru_T} {ex : Nat} {kM kK rd md : Int32} {eD eI yM : Nat → Int32} {dD : Nat → Int64}
theorem rk_pos {first len t : Nat} {n : Int} (hf : first < 7) (hn : 0 < n) : (t % 7 = first ∧ rk_o n len t = true) ↔ (t : Int) = (first : Int) + 7 * (n - 1) := by
  unfold rk_o
  rw [if_pos hn, decide_eq_true_eq]
  omega
theorem rk_neg {first len t : Nat} {n : Int} (hf : first < 7) (hl : 7 ≤ len) (ht : t < len) (hn : n < 0) : (t % 7 = first ∧ rk_o n len t = true) ↔ (t : Int) = ((first + (len - 1 - first) / 7 * 7 : Nat) : Int) + 7 * (n + 1) := by
  unfold rk_o
  rw [if_neg (by omega), decide_eq_true_eq]
  omega
theorem xw_nth37 {post : Int32 → Prop} {z : Int32} {len : Nat} (hl : len < 1000) (f : ∀ t, t < len → z.toInt = (t : Int) → post (nI t)) (g : (z.toInt < 0 ∨ (len : Int) ≤ z.toInt) → post (-1)) : wX_nthOf_37 post (nI len) z := by
  unfold wX_nthOf_37
  refine br_c (fun h => g (Or.inl ?_)) (fun h => ?_)
  · rw [Int32.lt_iff_toInt_lt] at h
    exact h
  · obtain ⟨j, hj, rfl⟩ := nI_of h
    rw [nI_toInt hj] at f g
    exact pk_le len j (fun h2 => g (Or.inr (by omega))) (fun h2 => f j h2 rfl)
theorem xw_nthOf {post : Int32 → Prop} {n a b : Int32} (first len : Nat) (ha : a = nI first) (hb : b = nI len) (hf : first < 7) (hl : 7 ≤ len) (hl2 : len < 1000) (hn1 : -5 ≤ n.toInt) (hn2 : n.toInt ≤ 5) (hn0 : n ≠ 0) (f : ∀ t, t < len → (∀ s, s < len → ((s % 7 = first ∧ rk_o n.toInt len s = true) ↔ s = t)) → post (nI t)) (g : (∀ s, s < len → ¬ (s % 7 = first ∧ rk_o n.toInt len s = true)) → post (-1)) : wpX_nthOf post a b n := by
  subst ha hb
  have n0 : n.toInt ≠ 0 := fun e => hn0 (Int32.toInt_inj.mp e)
  have t1 : (nI 1).toInt = 1 := by decide
  have t7 : (nI 7).toInt = 7 := by decide
  unfold wpX_nthOf
  refine ⟨by decide, nm_r (e' := nI (first + (len - 1 - first) / 7 * 7)) ?_ ?_⟩
  · show nI first + (((nI len - nI 1) - nI first) / nI 7) * nI 7 = _
    rw [pk_sub (by omega), pk_sub (by omega), pk_div (by omega) (by omega) (by omega), pk_mul, nI_add]
  · have hla : first + (len - 1 - first) / 7 * 7 < 1000 := by omega
    refine br_c (fun h => ?_) (fun h => ?_)
    · rw [Int32.le_iff_toInt_le] at h
      change n.toInt ≤ 0 at h
      have e1 : (n + nI 1).toInt = n.toInt + 1 := by rw [zi_add (by omega) (by omega) (by omega) (by omega), t1]
      have e2 : (nI 7 * (n + nI 1)).toInt = 7 * (n.toInt + 1) := by rw [zi_mul (by rw [e1, t7]; omega) (by rw [e1, t7]; omega), e1, t7]
      have e3 : (nI (first + (len - 1 - first) / 7 * 7) + nI 7 * (n + nI 1)).toInt = ((first + (len - 1 - first) / 7 * 7 : Nat) : Int) + 7 * (n.toInt + 1) := by
        have q := nI_toInt (show first + (len - 1 - first) / 7 * 7 < 2 ^ 31 by omega)
        rw [zi_add (by rw [q]; omega) (by rw [q]; omega) (by rw [e2]; omega) (by rw [e2]; omega), e2, q]
      refine xw_nth37 (z := nI (first + (len - 1 - first) / 7 * 7) + nI 7 * (n + nI 1)) hl2 (fun t ht e => f t ht (fun s hs => ?_)) (fun e => g (fun s hs z => ?_))
      · rw [rk_neg hf hl hs (by omega), ← e3, e]
        omega
      · rw [rk_neg hf hl hs (by omega), ← e3] at z
        omega
    · rw [Int32.le_iff_toInt_le] at h
      change ¬ n.toInt ≤ 0 at h
      have e1 : (n - nI 1).toInt = n.toInt - 1 := by rw [zi_sub (by omega) (by omega) (by omega) (by omega), t1]
      have e2 : (nI 7 * (n - nI 1)).toInt = 7 * (n.toInt - 1) := by rw [zi_mul (by rw [e1, t7]; omega) (by rw [e1, t7]; omega), e1, t7]
      have e3 : (nI first + nI 7 * (n - nI 1)).toInt = (first : Int) + 7 * (n.toInt - 1) := by
        have q := nI_toInt (show first < 2 ^ 31 by omega)
        rw [zi_add (by rw [q]; omega) (by rw [q]; omega) (by rw [e2]; omega) (by rw [e2]; omega), e2, q]
      refine xw_nth37 (z := nI first + nI 7 * (n - nI 1)) hl2 (fun t ht e => f t ht (fun s hs => ?_)) (fun e => g (fun s hs z => ?_))
      · rw [rk_pos hf (by omega), ← e3, e]
        omega
      · rw [rk_pos hf (by omega), ← e3] at z
        omega
/-- what a weekday's mask holds within the month -/
def wm_s (R : ru_T) (y m w : Nat) (r : Int32) : Prop := ∀ t, t < zm_l y m → bt r t = (decide ((zm_s y m + t + 5) % 7 = w) && rk_m R y m t)
def mm_s (R : ru_T) (y m : Nat) (r : Int32) : Prop := ∀ t, t < 32 → bt r t = (decide (t < zm_l y m) && zp_m R y m t)
theorem zw_f {w s : Nat} (hw : w < 7) (hs : s < 1000000) : ((nI w + 7) - nI ((s + 5) % 7)) - ((nI w + 7) - nI ((s + 5) % 7)) / 7 * 7 = nI ((w + 7 - (s + 5) % 7) % 7) := by
  show ((nI w + nI 7) - nI ((s + 5) % 7)) - ((nI w + nI 7) - nI ((s + 5) % 7)) / nI 7 * nI 7 = _
  rw [nI_add, pk_sub (by omega), pk_rem (by omega) (by omega) (by omega)]
theorem zw_g {w s t : Nat} (hw : w < 7) : t % 7 = (w + 7 - (s + 5) % 7) % 7 ↔ (s + t + 5) % 7 = w := by omega
theorem ba_bool {a b : Bool} (h : a = true ↔ b = true) : a = b := by
  cases a <;> cases b <;> simp_all
theorem xw_wm43 {post : Int32 → Prop} {y m w : Nat} (hw : w < 7) (ho : fu_O R = 0) (h : ∀ r, wm_s R y m w r → post r) : ∀ (n d : Nat) (r : Int32), d % 7 = (w + 7 - (zm_s y m + 5) % 7) % 7 → d < 100 → zm_l y m - d < n → (∀ t, t < 32 → bt r t = decide (t % 7 = (w + 7 - (zm_s y m + 5) % 7) % 7 ∧ t < d)) → wX_weekdayMask_43 post (nI (zm_l y m)) (nI (ru_S R)) (nI (ru_F R)) (nI (ru_I R)) (ru_M R) (ru_D R) (ru_L R) (ru_W R) (ru_O R) (ru_P R) (nI (ru_C R)) (nI (ru_E R)) (nI ex) (fu_M R) (fu_D R) (fu_W R) (fu_O R) kM kK rd md eD eI yM dD n r (nI d) := by
  intro n
  have hl := zm_lr y m
  induction n with
  | zero => intro d r h1 h2 h3; omega
  | succ n ih =>
    intro d r h1 h2 h3 hr
    unfold wX_weekdayMask_43
    refine pk_le (zm_l y m) d (fun h5 => h r ?_) (fun h5 => ?_)
    · intro t ht
      rw [hr t (by omega)]
      unfold rk_m
      rw [decide_eq_true ho, Bool.true_or, Bool.and_true]
      refine decide_eq_decide.mpr ?_
      rw [zw_g hw]
      exact ⟨fun z => z.1, fun z => ⟨z, by omega⟩⟩
    · refine nm_e (nm_r (nI_add d 7) (ih (d + 7) _ (by omega) (by omega) (by omega) ?_))
      intro t ht
      rw [b_or, hr t ht, ba_sh d (by omega) ht]
      refine ba_bool ?_
      simp only [Bool.or_eq_true, decide_eq_true_eq]
      omega
theorem xw_wm88 {post : Int32 → Prop} {y m w : Nat} (hy : y < 20) (hm : m < 12) (hw : w < 7) (ho : fu_O R ≠ 0) (ho1 : -5 ≤ (fu_O R).toInt) (ho2 : (fu_O R).toInt ≤ 5) (b : Bool) (hb : b = true ↔ (ru_F R = 3 ∧ ru_M R = 0)) (h : ∀ r, wm_s R y m w r → post r) : wX_weekdayMask_88 post (nI y) (nI w) (nI (zm_s y m)) (nI (zm_l y m)) (nI ((w + 7 - (zm_s y m + 5) % 7) % 7)) (zb_i b) (nI (ru_S R)) (nI (ru_F R)) (nI (ru_I R)) (ru_M R) (ru_D R) (ru_L R) (ru_W R) (ru_O R) (ru_P R) (nI (ru_C R)) (nI (ru_E R)) (nI ex) (fu_M R) (fu_D R) (fu_W R) (fu_O R) kM kK rd md eD eI yM dD := by
  have hl := zm_lr y m
  unfold wX_weekdayMask_88
  refine zb_b0 b rfl (fun hf => ?_) (fun ht => ?_)
  · have hn : ¬ (ru_F R = 3 ∧ ru_M R = 0) := fun z => by rw [hb.mpr z] at hf; cases hf
    have er : ∀ t, rk_m R y m t = rk_o (fu_O R).toInt (zm_l y m) t := fun t => by
      unfold rk_m
      rw [decide_eq_false ho, Bool.false_or, if_neg hn]
    refine xw_nthOf _ _ rfl rfl (by omega) (by omega) (by omega) ho1 ho2 ho (fun t ht hu => ?_) (fun hu => ?_)
    · refine br_t (nI_pos' (by omega)) (h _ (fun s hs => ?_))
      rw [ba_sh t (by omega) (by omega), er]
      refine ba_bool ?_
      rw [Bool.and_eq_true, decide_eq_true_eq, decide_eq_true_eq, ← hu s hs, zw_g hw]
    · refine br_f (by decide) (h _ (fun s hs => ?_))
      rw [b_0, er]
      have := hu s hs
      rw [zw_g hw] at this
      refine ba_bool ?_
      rw [Bool.and_eq_true, decide_eq_true_eq]
      exact ⟨fun z => (by cases z), fun z => absurd z this⟩
  · have hn := hb.mp ht
    have z1 := zm_ge y m
    have z2 := zm_up y (show m + 1 ≤ 12 by omega)
    have z3 := zy_b (show y + 1 ≤ 20 by omega)
    have z4 := zy_st (show y < y + 1 by omega)
    have z5 : zy_s (y + 1) ≤ zy_s y + 366 := by unfold zy_s; omega
    rw [zm_s1] at z2
    have er : ∀ t, rk_m R y m t = rk_o (fu_O R).toInt (zy_s (y + 1) - zy_s y) (zm_s y m + t - zy_s y) := fun t => by
      unfold rk_m
      rw [decide_eq_false ho, Bool.false_or, if_pos hn]
    refine xw_yearStart y rfl (by omega) (xw_weekdayOf (zy_s y) rfl (by omega) ⟨by decide, nm_r (zw_f hw (by omega)) ?_⟩)
    refine xw_yearStart (y + 1) (nI_1 y) (by omega) (nm_r (pk_sub (by omega)) ?_)
    have key : ∀ t, t < zm_l y m → ((zm_s y m + t + 5) % 7 = w ∧ rk_m R y m t = true ↔ ((zm_s y m + t - zy_s y) % 7 = (w + 7 - (zy_s y + 5) % 7) % 7 ∧ rk_o (fu_O R).toInt (zy_s (y + 1) - zy_s y) (zm_s y m + t - zy_s y) = true)) := by
      intro t ht
      rw [er, zw_g hw, show zy_s y + (zm_s y m + t - zy_s y) + 5 = zm_s y m + t + 5 by omega]
    refine xw_nthOf _ _ rfl rfl (by omega) (by omega) (by omega) ho1 ho2 ho (fun t ht hu => ?_) (fun hu => ?_)
    · refine nm_e (br_f (nI_pos (by omega)) ?_)
      by_cases g1 : zy_s y + t < zm_s y m
      · refine br_t ?_ (h _ (fun s hs => ?_))
        · rw [nI_add]; exact pk_sneg (by omega) g1
        · rw [b_0]
          refine ba_bool ?_
          rw [Bool.and_eq_true, decide_eq_true_eq, key s hs, hu _ (by omega)]
          exact ⟨fun z => (by cases z), fun z => by omega⟩
      · have e : (nI (zy_s y) + nI t) - nI (zm_s y m) = nI (zy_s y + t - zm_s y m) := by rw [nI_add, pk_sub (by omega)]
        rw [e]
        refine br_f (nI_pos (by omega)) (pk_le (zm_l y m) (zy_s y + t - zm_s y m) (fun g2 => h _ (fun s hs => ?_)) (fun g2 => h _ (fun s hs => ?_)))
        · rw [b_0]
          refine ba_bool ?_
          rw [Bool.and_eq_true, decide_eq_true_eq, key s hs, hu _ (by omega)]
          exact ⟨fun z => (by cases z), fun z => by omega⟩
        · rw [ba_sh _ (by omega) (by omega)]
          refine ba_bool ?_
          rw [Bool.and_eq_true, decide_eq_true_eq, decide_eq_true_eq, key s hs, hu _ (by omega)]
          omega
    · refine nm_e (br_t (by decide) (h _ (fun s hs => ?_)))
      rw [b_0]
      refine ba_bool ?_
      rw [Bool.and_eq_true, decide_eq_true_eq, key s hs]
      exact ⟨fun z => (by cases z), fun z => absurd z (hu _ (by omega))⟩
theorem xw_weekdayMask {post : Int32 → Prop} {y m w : Nat} (hR : ru_ok R) (hy : y < 20) (hm : m < 12) (hw : w < 7) (h : ∀ r, wm_s R y m w r → post r) : wpX_weekdayMask post (nI (ru_S R), nI (ru_F R), nI (ru_I R), ru_M R, ru_D R, ru_L R, ru_W R, ru_O R, ru_P R, nI (ru_C R), nI (ru_E R), nI ex, fu_M R, fu_D R, fu_W R, fu_O R, kM, kK, rd, md, eD, eI, yM, dD) (nI y) (nI m) (nI w) := by
  have hl := zm_lr y m
  have hs := zm_b hy (show m ≤ 12 by omega)
  unfold wpX_weekdayMask
  refine xw_monthStart y m rfl rfl (by omega) (by omega) (xw_monthLength y m rfl rfl (by omega) (by omega) (xw_weekdayOf (zm_s y m) rfl (by omega) ⟨by decide, nm_r (zw_f hw (by omega)) ?_⟩))
  refine br_c (fun ho => ⟨32, xw_wm43 hw ho h 32 _ _ (by omega) (by omega) (by omega) (fun t ht => ?_)⟩) (fun ho => ?_)
  · rw [b_0, decide_eq_false]
    intro z
    omega
  · have eo : fu_O R = ru_O R := by
      unfold fu_O at ho ⊢
      by_cases z : ru_F R < 2
      · rw [if_pos z] at ho; exact absurd rfl ho
      · rw [if_neg z]
    have b1 : -5 ≤ (fu_O R).toInt := by rw [eo]; exact hR.2.2.2.2.1
    have b2 : (fu_O R).toInt ≤ 5 := by rw [eo]; exact hR.2.2.2.2.2.1
    have hF := hR.2.1
    refine pk_eq (ru_F R) 3 (fun e3 => br_c (fun eM => ?_) (fun eM => ?_)) (fun e3 => ?_)
    · exact xw_wm88 hy hm hw ho b1 b2 true ⟨fun _ => ⟨e3, eM⟩, fun _ => rfl⟩ h
    · unfold wX_weekdayMask_87
      exact xw_wm88 hy hm hw ho b1 b2 false ⟨fun z => (by cases z), fun z => absurd z.2 eM⟩ h
    · unfold wX_weekdayMask_87
      exact xw_wm88 hy hm hw ho b1 b2 false ⟨fun z => (by cases z), fun z => absurd z.1 e3⟩ h
theorem xw_nd7 {post : Int32 → Prop} {len : Nat} (hl : len ≤ 31) (h : ∀ r, (∀ t, t < 32 → bt r t = (bt (fu_D R) t || (decide (t < len) && bt (ru_L R) (len - 1 - t)))) → post r) : ∀ (n d : Nat) (r : Int32), d ≤ len → len - d < n → (∀ t, t < 32 → bt r t = (bt (fu_D R) t || (decide (t < d) && bt (ru_L R) (len - 1 - t)))) → wX_numberedDays_7 post (nI len) (nI (ru_S R)) (nI (ru_F R)) (nI (ru_I R)) (ru_M R) (ru_D R) (ru_L R) (ru_W R) (ru_O R) (ru_P R) (nI (ru_C R)) (nI (ru_E R)) (nI ex) (fu_M R) (fu_D R) (fu_W R) (fu_O R) kM kK rd md eD eI yM dD n r (nI d) := by
  intro n
  induction n with
  | zero => intro d r h1 h2; omega
  | succ n ih =>
    intro d r h1 h2 hr
    unfold wX_numberedDays_7
    refine pk_le len d (fun h5 => h r ?_) (fun h5 => ?_)
    · have e : d = len := by omega
      subst e; exact hr
    · refine nm_e (nm_r (nI_1 d) (ih (d + 1) _ (by omega) (by omega) ?_))
      intro t ht
      have e : ((nI len - 1) - nI d) = nI (len - 1 - d) := by
        show ((nI len - nI 1) - nI d) = nI (len - 1 - d)
        rw [pk_sub (by omega), pk_sub (by omega)]
      rw [b_or, hr t ht, e, ba_u _ (by omega), b_shl d (by omega) _ ht]
      rcases Nat.lt_trichotomy t d with g | g | g
      · rw [decide_eq_true g, decide_eq_true (show t < d + 1 by omega), decide_eq_false (show ¬ d ≤ t by omega), Bool.false_and, Bool.or_false]
      · subst g
        rw [decide_eq_false (Nat.lt_irrefl t), decide_eq_true (show t < t + 1 by omega), decide_eq_true (Nat.le_refl t), ba_zb _ _ (by omega)]
        simp
      · rw [decide_eq_false (show ¬ t < d by omega), decide_eq_false (show ¬ t < d + 1 by omega), decide_eq_true (show d ≤ t by omega), ba_zb _ _ (by omega), decide_eq_false (show ¬ t - d = 0 by omega)]
        simp
theorem xw_numberedDays {post : Int32 → Prop} {x : Int32} (len : Nat) (hx : x = nI len) (hl : len ≤ 31) (h : ∀ r, (∀ t, t < 32 → bt r t = (bt (fu_D R) t || (decide (t < len) && bt (ru_L R) (len - 1 - t)))) → post r) : wpX_numberedDays post (nI (ru_S R), nI (ru_F R), nI (ru_I R), ru_M R, ru_D R, ru_L R, ru_W R, ru_O R, ru_P R, nI (ru_C R), nI (ru_E R), nI ex, fu_M R, fu_D R, fu_W R, fu_O R, kM, kK, rd, md, eD, eI, yM, dD) x := by
  subst hx
  unfold wpX_numberedDays
  refine ⟨len + 1, xw_nd7 hl h (len + 1) 0 _ (by omega) (by omega) (fun t ht => ?_)⟩
  rw [decide_eq_false (Nat.not_lt_zero t), Bool.false_and, Bool.or_false]
theorem xw_mm72 {post : Int32 → Prop} {y m : Nat} {k : Int32} (hR : ru_ok R) (hy : y < 20) (hm : m < 12) (h : ∀ r, (∀ t, t < zm_l y m → bt r t = (bt (fu_W R) ((zm_s y m + t + 5) % 7) && rk_m R y m t)) → post (k &&& r)) : ∀ (n j : Nat) (r : Int32), j ≤ 7 → 7 - j < n → (∀ t, t < zm_l y m → bt r t = (decide ((zm_s y m + t + 5) % 7 < j) && (bt (fu_W R) ((zm_s y m + t + 5) % 7) && rk_m R y m t))) → wX_monthMask_72 post (nI y) (nI m) k (nI (ru_S R)) (nI (ru_F R)) (nI (ru_I R)) (ru_M R) (ru_D R) (ru_L R) (ru_W R) (ru_O R) (ru_P R) (nI (ru_C R)) (nI (ru_E R)) (nI ex) (fu_M R) (fu_D R) (fu_W R) (fu_O R) kM kK rd md eD eI yM dD n r (nI j) := by
  intro n
  induction n with
  | zero => intro j r h1 h2; omega
  | succ n ih =>
    intro j r h1 h2 hr
    unfold wX_monthMask_72
    refine pk_le 7 j (fun h5 => h r (fun t ht => ?_)) (fun h5 => ?_)
    · rw [hr t ht, decide_eq_true (show (zm_s y m + t + 5) % 7 < j by omega), Bool.true_and]
    · refine zb_b1 (bt (fu_W R) j) (ba_s j (by omega) _) (fun hb => ?_) (fun hb => ?_)
      · refine xw_weekdayMask hR hy hm h5 (fun q hq => nm_e (nm_r (nI_1 j) (ih (j + 1) _ (by omega) (by omega) (fun t ht => ?_))))
        rw [b_or, hr t ht, hq t ht]
        rcases Nat.lt_trichotomy ((zm_s y m + t + 5) % 7) j with g | g | g
        · rw [decide_eq_true g, decide_eq_true (show (zm_s y m + t + 5) % 7 < j + 1 by omega), decide_eq_false (show ¬ (zm_s y m + t + 5) % 7 = j by omega), Bool.false_and, Bool.or_false]
        · rw [g, hb, decide_eq_false (Nat.lt_irrefl j), decide_eq_true (show j < j + 1 by omega), decide_eq_true rfl]
          simp
        · rw [decide_eq_false (show ¬ (zm_s y m + t + 5) % 7 < j by omega), decide_eq_false (show ¬ (zm_s y m + t + 5) % 7 < j + 1 by omega), decide_eq_false (show ¬ (zm_s y m + t + 5) % 7 = j by omega)]
          simp
      · refine nm_r (nI_1 j) (ih (j + 1) _ (by omega) (by omega) (fun t ht => ?_))
        rw [hr t ht]
        rcases Nat.lt_trichotomy ((zm_s y m + t + 5) % 7) j with g | g | g
        · rw [decide_eq_true g, decide_eq_true (show (zm_s y m + t + 5) % 7 < j + 1 by omega)]
        · rw [g, hb, Bool.false_and, Bool.and_false, Bool.and_false]
        · rw [decide_eq_false (show ¬ (zm_s y m + t + 5) % 7 < j by omega), decide_eq_false (show ¬ (zm_s y m + t + 5) % 7 < j + 1 by omega)]
theorem ba_low {len : Nat} (h1 : 1 ≤ len) (hl : len ≤ 31) : ∀ t, t < 32 → bt (((-1 : Int32).toUInt32 >>> ((32 - nI len).toUInt32 &&& Int32.toUInt32 31)).toInt32) t = decide (t < len) := by
  intro t ht
  have e : (32 : Int32) - nI len = nI (32 - len) := pk_sub (a := 32) (by omega)
  rw [e, b_ushr _ (by omega)]
  by_cases g : t < len
  · rw [b_m1 _ (by omega), decide_eq_true g]
  · rw [b_big (by omega), decide_eq_false g]
theorem xw_mm56 {post : Int32 → Prop} {y m : Nat} {k : Int32} (hR : ru_ok R) (hy : y < 20) (hm : m < 12) (hM : (decide (fu_M R = 0) || bt (fu_M R) m) = true) (hk : ∀ t, t < 32 → bt k t = (decide (t < zm_l y m) && (decide ((fu_D R ||| ru_L R) = 0) || (bt (fu_D R) t || bt (ru_L R) (zm_l y m - 1 - t))))) (h : ∀ r, mm_s R y m r → post r) : wX_monthMask_56 post (nI y) (nI m) k (nI (ru_S R)) (nI (ru_F R)) (nI (ru_I R)) (ru_M R) (ru_D R) (ru_L R) (ru_W R) (ru_O R) (ru_P R) (nI (ru_C R)) (nI (ru_E R)) (nI ex) (fu_M R) (fu_D R) (fu_W R) (fu_O R) kM kK rd md eD eI yM dD := by
  unfold wX_monthMask_56
  refine br_c (fun e => h _ (fun t ht => ?_)) (fun e => ⟨8, xw_mm72 hR hy hm (fun r hr => h _ (fun t ht => ?_)) 8 0 0 (by omega) (by omega) (fun t ht => ?_)⟩)
  · unfold zp_m
    rw [hk t ht, hM, decide_eq_true e, Bool.true_and, Bool.true_or, Bool.and_true]
  · rw [b_and, hk t ht]
    unfold zp_m
    by_cases g : t < zm_l y m
    · rw [hr t g, hM, decide_eq_true g, decide_eq_false e, Bool.true_and, Bool.true_and, Bool.true_and, Bool.false_or]
    · rw [decide_eq_false g, Bool.false_and, Bool.false_and, Bool.false_and]
  · rw [b_0, decide_eq_false (Nat.not_lt_zero _), Bool.false_and]
theorem xw_mm20 {post : Int32 → Prop} {y m : Nat} (hR : ru_ok R) (hy : y < 20) (hm : m < 12) (hM : (decide (fu_M R = 0) || bt (fu_M R) m) = true) (h : ∀ r, mm_s R y m r → post r) : wX_monthMask_20 post (nI y) (nI m) (nI (ru_S R)) (nI (ru_F R)) (nI (ru_I R)) (ru_M R) (ru_D R) (ru_L R) (ru_W R) (ru_O R) (ru_P R) (nI (ru_C R)) (nI (ru_E R)) (nI ex) (fu_M R) (fu_D R) (fu_W R) (fu_O R) kM kK rd md eD eI yM dD := by
  have hl := zm_lr y m
  unfold wX_monthMask_20
  refine xw_monthLength y m rfl rfl (by omega) (by omega) (nm_e (br_c (fun e => ?_) (fun e => ?_)))
  · refine xw_mm56 hR hy hm hM (fun t ht => ?_) h
    rw [ba_low (by omega) (by omega) t ht, decide_eq_true e, Bool.true_or, Bool.and_true]
  · refine xw_numberedDays _ rfl (by omega) (fun q hq => nm_e (xw_mm56 hR hy hm hM (fun t ht => ?_) h))
    rw [b_and, ba_low (by omega) (by omega) t ht, hq t ht, decide_eq_false e, Bool.false_or]
    by_cases g : t < zm_l y m
    · rw [decide_eq_true g, Bool.true_and, Bool.true_and, Bool.true_and]
    · rw [decide_eq_false g, Bool.false_and, Bool.false_and]
theorem xw_monthMask {post : Int32 → Prop} {x z : Int32} (y m : Nat) (hx : x = nI y) (hz : z = nI m) (hR : ru_ok R) (hy : y < 20) (hm : m < 12) (h : ∀ r, mm_s R y m r → post r) : wpX_monthMask post (nI (ru_S R), nI (ru_F R), nI (ru_I R), ru_M R, ru_D R, ru_L R, ru_W R, ru_O R, ru_P R, nI (ru_C R), nI (ru_E R), nI ex, fu_M R, fu_D R, fu_W R, fu_O R, kM, kK, rd, md, eD, eI, yM, dD) x z := by
  subst hx hz
  unfold wpX_monthMask
  refine br_c (fun e => xw_mm20 hR hy hm (by rw [decide_eq_true e, Bool.true_or]) h) (fun e => ?_)
  refine zb_b0 (bt (fu_M R) m) (ba_s m (by omega) _) (fun hb => h _ (fun t ht => ?_)) (fun hb => xw_mm20 hR hy hm (by rw [hb, Bool.or_true]) h)
  unfold zp_m
  rw [b_0, decide_eq_false e, hb, Bool.false_or, Bool.false_and, Bool.and_false]
/-! the month that was worked out last -/
def kp_s (R : ru_T) (kM kK : Int32) : Prop := ∀ y m, y < 20 → m < 12 → kM = nI (y * 12 + m) → mm_s R y m kK
theorem kp_0 (kK : Int32) : kp_s R (-1) kK := by
  intro y m hy hm e
  have := congrArg Int32.toInt e
  rw [nI_toInt (by omega)] at this
  have z : (-1 : Int32).toInt = -1 := by decide
  omega
theorem xw_pass44 {post : Int32 → SX → Prop} {d : Nat} (hd : d < 7305) (hk : mm_s R (zy_o d) (zm_o d) kK) (h : post (zb_i (zp_d R d)) (nI (ru_S R), nI (ru_F R), nI (ru_I R), ru_M R, ru_D R, ru_L R, ru_W R, ru_O R, ru_P R, nI (ru_C R), nI (ru_E R), nI ex, fu_M R, fu_D R, fu_W R, fu_O R, kM, kK, rd, md, eD, eI, yM, dD)) : wX_passes_44 post (nI d) (nI (zy_o d)) (nI (zm_o d)) (nI (ru_S R)) (nI (ru_F R)) (nI (ru_I R)) (ru_M R) (ru_D R) (ru_L R) (ru_W R) (ru_O R) (ru_P R) (nI (ru_C R)) (nI (ru_E R)) (nI ex) (fu_M R) (fu_D R) (fu_W R) (fu_O R) kM kK rd md eD eI yM dD := by
  have k := zk_ex hd
  have ⟨k1, k2, k3, k4⟩ := k
  have hl := zm_lr (zy_o d) (zm_o d)
  unfold wX_passes_44
  refine xw_monthStart _ _ rfl rfl (by omega) (by omega) ?_
  have e : nI d - nI (zm_s (zy_o d) (zm_o d)) = nI (zd_o d) := by
    rw [pk_sub (by omega)]
    rfl
  have eb : bt kK (zd_o d) = zp_d R d := by
    rw [hk _ (by omega), decide_eq_true k3, Bool.true_and]
    rfl
  rw [e]
  refine zb_b1 (zp_d R d) (by rw [ba_u _ (by omega), eb]) (fun hb => ?_) (fun hb => ?_)
  · rw [hb] at h; exact h
  · rw [hb] at h; exact h
theorem xw_passes {post : Int32 → SX → Prop} {x : Int32} (d : Nat) (hx : x = nI d) (hR : ru_ok R) (hd : d < 7305) (hk : kp_s R kM kK) (h : ∀ a b, kp_s R a b → post (zb_i (zp_d R d)) (nI (ru_S R), nI (ru_F R), nI (ru_I R), ru_M R, ru_D R, ru_L R, ru_W R, ru_O R, ru_P R, nI (ru_C R), nI (ru_E R), nI ex, fu_M R, fu_D R, fu_W R, fu_O R, a, b, rd, md, eD, eI, yM, dD)) : wpX_passes post (nI (ru_S R), nI (ru_F R), nI (ru_I R), ru_M R, ru_D R, ru_L R, ru_W R, ru_O R, ru_P R, nI (ru_C R), nI (ru_E R), nI ex, fu_M R, fu_D R, fu_W R, fu_O R, kM, kK, rd, md, eD, eI, yM, dD) x := by
  subst hx
  have ⟨k1, k2, k3, k4⟩ := zk_ex hd
  unfold wpX_passes
  refine xw_yearOf d rfl hd (xw_monthOf d rfl rfl hd ?_)
  have e : (nI (zy_o d) * 12) + nI (zm_o d) = nI (zy_o d * 12 + zm_o d) := by
    show (nI (zy_o d) * nI 12) + nI (zm_o d) = _
    rw [pk_mul, nI_add]
  rw [e]
  refine br_c (fun g => ?_) (fun g => ?_)
  · exact xw_pass44 hd (hk _ _ k1 k2 g.symm) (h _ _ hk)
  · refine nm_e (xw_monthMask _ _ rfl rfl hR k1 k2 (fun r hr => ?_))
    refine xw_pass44 hd hr (h _ _ (fun y m hy hm e2 => ?_))
    have e3 := (nI_eq (by omega) (by omega)).mp e2
    have ey : y = zy_o d := by omega
    have em : m = zm_o d := by omega
    subst ey em
    exact hr
theorem xw_fill41 {post : SX → Prop} {uO : Int32} (hR : ru_ok R) (h : post (nI (ru_S R), nI (ru_F R), nI (ru_I R), ru_M R, ru_D R, ru_L R, ru_W R, ru_O R, ru_P R, nI (ru_C R), nI (ru_E R), nI ex, fu_M R, fu_D R, fu_W R, fu_O R, -1, kK, rd, md, eD, eI, yM, dD)) : wX_fillIn_41 post (fu_O R) (nI (ru_S R)) (nI (ru_F R)) (nI (ru_I R)) (ru_M R) (ru_D R) (ru_L R) (ru_W R) (ru_O R) (ru_P R) (nI (ru_C R)) (nI (ru_E R)) (nI ex) (ru_M R) (ru_D R) (ru_W R) uO kM kK rd md eD eI yM dD := by
  have ⟨hS, hF, _⟩ := hR
  unfold wX_fillIn_41
  refine br_c (fun e => ?_) (fun e => ?_)
  · refine pk_eq (ru_F R) 0 (fun f0 => ?_) (fun f0 => pk_eq (ru_F R) 1 (fun f1 => ?_) (fun f1 => ?_))
    · rw [show fu_M R = ru_M R from if_neg (by omega), show fu_D R = ru_D R from if_neg (by omega), show fu_W R = ru_W R from if_neg (by omega)] at h
      exact h
    · refine xw_weekdayOf _ rfl (by omega) (nm_e ?_)
      rw [show fu_M R = ru_M R from if_neg (by omega), show fu_D R = ru_D R from if_neg (by omega), show fu_W R = _ from if_pos ⟨e, f1⟩] at h
      exact h
    · rw [show fu_W R = ru_W R from if_neg (by omega), show fu_D R = _ from if_pos ⟨e, by omega⟩] at h
      refine xw_yearOf _ rfl hS (xw_monthOf _ rfl rfl hS (xw_monthStart _ _ rfl rfl ?_ ?_ (nm_r (e' := (1 : Int32) <<< (nI (zd_o (ru_S R)) &&& 31)) ?_ ?_)))
      · have := (zk_ex hS).1; omega
      · have := (zk_ex hS).2.1; omega
      · rw [pk_sub ((zk_b (zk_ex hS)).2.2.1)]
        rfl
      · refine pk_eq (ru_F R) 3 (fun f3 => br_c (fun eM => nm_e ?_) (fun eM => ?_)) (fun f3 => ?_)
        · rw [show fu_M R = _ from if_pos ⟨e, f3, eM⟩] at h
          exact h
        · rw [show fu_M R = ru_M R from if_neg (fun z => eM z.2.2)] at h
          exact h
        · rw [show fu_M R = ru_M R from if_neg (fun z => f3 z.2.1)] at h
          exact h
  · rw [show fu_M R = ru_M R from if_neg (fun z => e z.1), show fu_D R = ru_D R from if_neg (fun z => e z.1), show fu_W R = ru_W R from if_neg (fun z => e z.1)] at h
    exact h
theorem xw_fillIn {post : SX → Prop} {uM uD uW uO : Int32} (hR : ru_ok R) (h : post (nI (ru_S R), nI (ru_F R), nI (ru_I R), ru_M R, ru_D R, ru_L R, ru_W R, ru_O R, ru_P R, nI (ru_C R), nI (ru_E R), nI ex, fu_M R, fu_D R, fu_W R, fu_O R, -1, kK, rd, md, eD, eI, yM, dD)) : wpX_fillIn post (nI (ru_S R), nI (ru_F R), nI (ru_I R), ru_M R, ru_D R, ru_L R, ru_W R, ru_O R, ru_P R, nI (ru_C R), nI (ru_E R), nI ex, uM, uD, uW, uO, kM, kK, rd, md, eD, eI, yM, dD) := by
  have ⟨hS, hF, _⟩ := hR
  have := xw_fill41 (ex := ex) (kM := kM) (kK := kK) (rd := rd) (md := md) (eD := eD) (eI := eI) (yM := yM) (dD := dD) (uO := uO) hR h
  unfold wpX_fillIn
  refine pk_lt (ru_F R) 2 (fun f => ?_) (fun f => ?_)
  · rw [show fu_O R = 0 from if_pos f] at this
    exact this
  · rw [show fu_O R = ru_O R from if_neg (by omega)] at this
    exact this
end
end
section
/-! X: days of a period into the words -/
section
variable {R : ru_T} {ex : Nat} {kM kK rd md : Int32} {eD eI yM : Nat → Int32} {dD : Nat → Int64}
theorem xw_stays {post : Int32 → Prop} {k n : Nat} (hR : ru_ok R) (hk : k < 10000) (hn : n < 10000) (h : post (zb_i (zs_p (ru_P R).toInt k n))) : wpX_stays post (nI (ru_S R), nI (ru_F R), nI (ru_I R), ru_M R, ru_D R, ru_L R, ru_W R, ru_O R, ru_P R, nI (ru_C R), nI (ru_E R), nI ex, fu_M R, fu_D R, fu_W R, fu_O R, kM, kK, rd, md, eD, eI, yM, dD) (nI k) (nI n) := by
  have ⟨_, _, _, _, _, _, p1, p2, _⟩ := hR
  have qk := nI_toInt (show k < 2 ^ 31 by omega)
  have qn := nI_toInt (show n < 2 ^ 31 by omega)
  unfold wpX_stays
  unfold zs_p at h
  refine br_c (fun e => ?_) (fun e => ?_)
  · rw [if_pos (by rw [e]; decide)] at h
    exact h
  · have e0 : (ru_P R).toInt ≠ 0 := fun z => e (Int32.toInt_inj.mp z)
    rw [if_neg e0] at h
    refine br_c (fun g => ?_) (fun g => ?_)
    · rw [Int32.le_iff_toInt_le] at g
      change (ru_P R).toInt ≤ 0 at g
      rw [if_neg (by omega)] at h
      have e1 : (nI n + ru_P R).toInt = (n : Int) + (ru_P R).toInt := by rw [zi_add (by omega) (by omega) (by omega) (by omega), qn]
      refine br_c (fun z => ?_) (fun z => ?_)
      · rw [zb_d (by rw [← e1, ← z, qk])] at h
        exact h
      · rw [zb_dn (fun z2 => z (Int32.toInt_inj.mp (by rw [qk, e1, z2])))] at h
        exact h
    · rw [Int32.le_iff_toInt_le] at g
      change ¬ (ru_P R).toInt ≤ 0 at g
      rw [if_pos (by omega)] at h
      have t1 : (1 : Int32).toInt = 1 := by decide
      have e1 : (ru_P R - 1).toInt = (ru_P R).toInt - 1 := by rw [zi_sub (by omega) (by omega) (by omega) (by omega), t1]
      refine br_c (fun z => ?_) (fun z => ?_)
      · rw [zb_d (by rw [← e1, ← z, qk])] at h
        exact h
      · rw [zb_dn (fun z2 => z (Int32.toInt_inj.mp (by rw [qk, e1, z2])))] at h
        exact h
theorem xw_wanted {post : Int32 → Prop} {D : Nat} (hR : ru_ok R) (hD : D < 10000) (q : md = nI (zn_n R D)) (h1 : (ru_C R = 0 ∨ zn_n R D < ru_C R) → post 1) (h0 : ru_C R ≠ 0 → ru_C R ≤ zn_n R D → post 0) : wpX_wanted post (nI (ru_S R), nI (ru_F R), nI (ru_I R), ru_M R, ru_D R, ru_L R, ru_W R, ru_O R, ru_P R, nI (ru_C R), nI (ru_E R), nI ex, fu_M R, fu_D R, fu_W R, fu_O R, kM, kK, rd, md, eD, eI, yM, dD) := by
  subst q
  have ⟨_, _, _, _, _, _, _, _, hC, _⟩ := hR
  have := zn_le R D
  unfold wpX_wanted
  exact pk_eq (ru_C R) 0 (fun e => h1 (Or.inl e)) (fun e => pk_le (ru_C R) (zn_n R D) (fun g => h0 e g) (fun g => h1 (Or.inr g)))
theorem dw_set (f : Nat → Int64) {d e : Nat} (he : e < 7360) (hd : d < 7360) : dw_b (vp_updL f (d / 64) (f (d / 64) ||| ((1 : Int64) <<< ((nI (d % 64)).toInt64 &&& 63)))) e = (dw_b f e || decide (e = d)) := by
  unfold dw_b
  by_cases g : e / 64 = d / 64
  · rw [g, pk_uLs, bl_or, bl_sh _ (by omega) (by omega)]
    congr 1
    exact decide_eq_decide.mpr (by omega)
  · rw [pk_uLn g, decide_eq_false (by omega), Bool.or_false]
theorem dw_clr (f : Nat → Int64) {d e : Nat} (he : e < 7360) (hd : d < 7360) : dw_b (vp_updL f (d / 64) (f (d / 64) &&& (((1 : Int64) <<< ((nI (d % 64)).toInt64 &&& 63)) ^^^ (-1)))) e = (dw_b f e && !decide (e = d)) := by
  unfold dw_b
  by_cases g : e / 64 = d / 64
  · rw [g, pk_uLs, bl_and, bl_xor, bl_sh _ (by omega) (by omega), bl_m1 _ (by omega), Bool.xor_true]
    congr 2
    exact decide_eq_decide.mpr (by omega)
  · rw [pk_uLn g, decide_eq_false (by omega), Bool.not_false, Bool.and_true]
theorem xw_add {post : SX → Prop} {x : Int32} (d : Nat) (hx : x = nI d) (hR : ru_ok R) (hd : d < 7305) (hc : zc_a R d = true) (hs : zs_p (ru_P R).toInt (zr_k R d) (zr_t R d) = true) (q : qq_v R d md dD) (h : ∀ a b, qq_v R (d + 1) a b → post (nI (ru_S R), nI (ru_F R), nI (ru_I R), ru_M R, ru_D R, ru_L R, ru_W R, ru_O R, ru_P R, nI (ru_C R), nI (ru_E R), nI ex, fu_M R, fu_D R, fu_W R, fu_O R, kM, kK, rd, a, eD, eI, yM, b)) : wpX_add post (nI (ru_S R), nI (ru_F R), nI (ru_I R), ru_M R, ru_D R, ru_L R, ru_W R, ru_O R, ru_P R, nI (ru_C R), nI (ru_E R), nI ex, fu_M R, fu_D R, fu_W R, fu_O R, kM, kK, rd, md, eD, eI, yM, dD) x := by
  subst hx
  have ⟨hS, _, _, _, _, _, _, _, hC, hE⟩ := hR
  have one : ∀ e, d ≤ e → e < d + 1 → e = d := fun e _ _ => by omega
  unfold wpX_add
  refine pk_lt d (ru_S R) (fun g => h _ _ (qq_up (d + 1) (by omega) (fun e a b => ?_) q)) (fun g => pk_lt (ru_E R) d (fun g2 => h _ _ (qq_up (d + 1) (by omega) (fun e a b => ?_) q)) (fun g2 => ?_))
  · rw [one e a b]; exact zs_kp (zk_be g)
  · rw [one e a b]; exact zs_kp (zk_en g2)
  · refine xw_wanted (D := d) hR (by omega) q.1 (fun w => br_f (by decide) ?_) (fun c0 c1 => br_t rfl (h _ _ (qq_up (d + 1) (by omega) (fun e a b => zs_nw c0 c1 e a) q)))
    have hl : zs_l R d = true := by
      unfold zs_l zk_p
      rw [decide_eq_true w, hc, decide_eq_true g, decide_eq_true g2, hs]
      rfl
    rw [zd_w (by omega), zd_b (by omega), nI_clamp (by omega)]
    refine ⟨vp_in_nI (by omega) (by omega), vp_in_nI (by omega) (by omega), nm_e (nm_r (e' := nI (zn_n R (d + 1))) ?_ (h _ _ ⟨rfl, fun e he => ?_⟩))⟩
    · rw [q.1, zn_st hl]; exact nI_1 _
    · rw [dw_set _ he (by omega), q.2 e he]
      rcases Nat.lt_trichotomy e d with z | z | z
      · rw [decide_eq_true z, decide_eq_true (show e < d + 1 by omega), decide_eq_false (show ¬ e = d by omega), Bool.or_false]
      · subst z
        rw [decide_eq_true rfl, decide_eq_true (show e < e + 1 by omega), hl, Bool.or_true, Bool.true_and]
      · rw [decide_eq_false (show ¬ e < d by omega), decide_eq_false (show ¬ e < d + 1 by omega), decide_eq_false (show ¬ e = d by omega), Bool.false_and, Bool.false_or]
/-- what a mask says of the candidates: its bit j stands for the day frm + j; below the bit j all is done up to pos j -/
def am_c (R : ru_T) (N : Nat) (mask frm : Int32) (pos : Nat → Nat) (k0 tot : Nat) : Prop := ∀ j, j < N → (bt mask j = true → ∃ d, d < 7305 ∧ frm + nI j = nI d ∧ pos j = d ∧ pos (j + 1) = d + 1 ∧ zc_a R d = true ∧ zr_k R d = k0 + zc_n (bt mask) j ∧ zr_t R d = tot) ∧ (bt mask j = false → pos j ≤ pos (j + 1) ∧ ∀ d, pos j ≤ d → d < pos (j + 1) → zc_a R d = false)
theorem xw_am11 {post : SX → Prop} {mask frm : Int32} {pos : Nat → Nat} {k0 tot : Nat} (hR : ru_ok R) (ht : tot < 5000) (hk0 : k0 < 5000) (hA : am_c R 32 mask frm pos k0 tot) (h : ∀ a b, qq_v R (pos 32) a b → post (nI (ru_S R), nI (ru_F R), nI (ru_I R), ru_M R, ru_D R, ru_L R, ru_W R, ru_O R, ru_P R, nI (ru_C R), nI (ru_E R), nI ex, fu_M R, fu_D R, fu_W R, fu_O R, kM, kK, rd, a, eD, eI, yM, b)) : ∀ (n j : Nat) (md : Int32) (dD : Nat → Int64), j ≤ 32 → 32 - j < n → qq_v R (pos j) md dD → wX_addMask_11 post mask frm (nI tot) n (nI (k0 + zc_n (bt mask) j)) (nI j) (nI (ru_S R)) (nI (ru_F R)) (nI (ru_I R)) (ru_M R) (ru_D R) (ru_L R) (ru_W R) (ru_O R) (ru_P R) (nI (ru_C R)) (nI (ru_E R)) (nI ex) (fu_M R) (fu_D R) (fu_W R) (fu_O R) kM kK rd md eD eI yM dD := by
  intro n
  induction n with
  | zero => intro j md dD h1 h2; omega
  | succ n ih =>
    intro j md dD h1 h2 q
    have hz := zc_le (bt mask) j
    unfold wX_addMask_11
    refine pk_le 32 j (fun h5 => ?_) (fun h5 => ?_)
    · have e : j = 32 := by omega
      subst e; exact h _ _ q
    · have ⟨ha, hb⟩ := hA j h5
      refine zb_b1 (bt mask j) (ba_u j (by omega) mask) (fun hm => ?_) (fun hm => ?_)
      · obtain ⟨d, hd, e1, e2, e3, hc, hk, htt⟩ := ha hm
        have ec : nI (k0 + zc_n (bt mask) j) + 1 = nI (k0 + zc_n (bt mask) (j + 1)) := by rw [zc_st hm]; exact nI_1 _
        rw [e2] at q
        refine xw_stays hR (by omega) (by omega) (zb_b0 _ rfl (fun hf => ?_) (fun htr => ?_))
        · refine nm_r ec (nm_r (nI_1 j) (ih (j + 1) md dD (by omega) (by omega) ?_))
          rw [e3]
          refine qq_up (d + 1) (by omega) (fun e h6 h7 => ?_) q
          rw [show e = d by omega]
          refine zs_kp ?_
          unfold zk_p
          rw [hk, htt, hf, Bool.and_false, Bool.and_false, Bool.and_false]
        · refine xw_add d e1 hR hd hc (by rw [hk, htt]; exact htr) q (fun a b q2 => ?_)
          refine nm_r ec (nm_r (nI_1 j) (ih (j + 1) a b (by omega) (by omega) ?_))
          rw [e3]; exact q2
      · refine nm_r (nI_1 j) ?_
        have := ih (j + 1) md dD (by omega) (by omega) (qq_ca _ (hb hm).1 (hb hm).2 q)
        rw [zc_sf hm] at this
        exact this

theorem xw_ap6 {post : SX → Prop} {mask frm : Int32} {pos : Nat → Nat} {k0 tot : Nat} (hR : ru_ok R) (ht : tot < 5000) (hk0 : k0 < 5000) (hA : am_c R 31 mask frm pos k0 tot) (h : ∀ a b, qq_v R (pos 31) a b → post (nI (ru_S R), nI (ru_F R), nI (ru_I R), ru_M R, ru_D R, ru_L R, ru_W R, ru_O R, ru_P R, nI (ru_C R), nI (ru_E R), nI ex, fu_M R, fu_D R, fu_W R, fu_O R, kM, kK, rd, a, eD, eI, yM, b)) : ∀ (n j : Nat) (md : Int32) (dD : Nat → Int64), j ≤ 31 → 31 - j < n → qq_v R (pos j) md dD → wX_addPart_6 post mask frm (nI tot) n (nI (k0 + zc_n (bt mask) j)) (nI j) (nI (ru_S R)) (nI (ru_F R)) (nI (ru_I R)) (ru_M R) (ru_D R) (ru_L R) (ru_W R) (ru_O R) (ru_P R) (nI (ru_C R)) (nI (ru_E R)) (nI ex) (fu_M R) (fu_D R) (fu_W R) (fu_O R) kM kK rd md eD eI yM dD := by
  intro n
  induction n with
  | zero => intro j md dD h1 h2; omega
  | succ n ih =>
    intro j md dD h1 h2 q
    have hz := zc_le (bt mask) j
    unfold wX_addPart_6
    refine pk_le 31 j (fun h5 => ?_) (fun h5 => ?_)
    · have e : j = 31 := by omega
      subst e; exact h _ _ q
    · have ⟨ha, hb⟩ := hA j h5
      refine zb_b1 (bt mask j) (ba_u j (by omega) mask) (fun hm => ?_) (fun hm => ?_)
      · obtain ⟨d, hd, e1, e2, e3, hc, hk, htt⟩ := ha hm
        have ec : nI (k0 + zc_n (bt mask) j) + 1 = nI (k0 + zc_n (bt mask) (j + 1)) := by rw [zc_st hm]; exact nI_1 _
        rw [e2] at q
        refine xw_stays hR (by omega) (by omega) (zb_b0 _ rfl (fun hf => ?_) (fun htr => ?_))
        · refine nm_r ec (nm_r (nI_1 j) (ih (j + 1) md dD (by omega) (by omega) ?_))
          rw [e3]
          refine qq_up (d + 1) (by omega) (fun e h6 h7 => ?_) q
          rw [show e = d by omega]
          refine zs_kp ?_
          unfold zk_p
          rw [hk, htt, hf, Bool.and_false, Bool.and_false, Bool.and_false]
        · refine xw_add d e1 hR hd hc (by rw [hk, htt]; exact htr) q (fun a b q2 => ?_)
          refine nm_r ec (nm_r (nI_1 j) (ih (j + 1) a b (by omega) (by omega) ?_))
          rw [e3]; exact q2
      · refine nm_r (nI_1 j) ?_
        have := ih (j + 1) md dD (by omega) (by omega) (qq_ca _ (hb hm).1 (hb hm).2 q)
        rw [zc_sf hm] at this
        exact this

theorem xw_addMask {post : SX → Prop} {mask frm : Int32} (pos : Nat → Nat) (hR : ru_ok R) (hA : am_c R 32 mask frm pos 0 (bp_c mask)) (q : qq_v R (pos 0) md dD) (h : ∀ a b, qq_v R (pos 32) a b → post (nI (ru_S R), nI (ru_F R), nI (ru_I R), ru_M R, ru_D R, ru_L R, ru_W R, ru_O R, ru_P R, nI (ru_C R), nI (ru_E R), nI ex, fu_M R, fu_D R, fu_W R, fu_O R, kM, kK, rd, a, eD, eI, yM, b)) : wpX_addMask post (nI (ru_S R), nI (ru_F R), nI (ru_I R), ru_M R, ru_D R, ru_L R, ru_W R, ru_O R, ru_P R, nI (ru_C R), nI (ru_E R), nI ex, fu_M R, fu_D R, fu_W R, fu_O R, kM, kK, rd, md, eD, eI, yM, dD) mask frm := by
  have := bp_le mask
  unfold wpX_addMask
  exact xw_bits mask ⟨33, xw_am11 (k0 := 0) hR (by omega) (by omega) hA h 33 0 md dD (by omega) (by omega) q⟩
theorem xw_addPart {post : SX → Prop} {mask frm : Int32} {k0 tot : Nat} (pos : Nat → Nat) (hR : ru_ok R) (ht : tot < 5000) (hk : k0 < 5000) (hA : am_c R 31 mask frm pos k0 tot) (q : qq_v R (pos 0) md dD) (h : ∀ a b, qq_v R (pos 31) a b → post (nI (ru_S R), nI (ru_F R), nI (ru_I R), ru_M R, ru_D R, ru_L R, ru_W R, ru_O R, ru_P R, nI (ru_C R), nI (ru_E R), nI ex, fu_M R, fu_D R, fu_W R, fu_O R, kM, kK, rd, a, eD, eI, yM, b)) : wpX_addPart post (nI (ru_S R), nI (ru_F R), nI (ru_I R), ru_M R, ru_D R, ru_L R, ru_W R, ru_O R, ru_P R, nI (ru_C R), nI (ru_E R), nI ex, fu_M R, fu_D R, fu_W R, fu_O R, kM, kK, rd, md, eD, eI, yM, dD) mask frm (nI k0) (nI tot) := by
  unfold wpX_addPart
  exact ⟨32, xw_ap6 hR ht hk hA h 32 0 md dD (by omega) (by omega) q⟩
/-! masks out of segments of days: bits c .. c + (b - a) are the days a .. b -/
def am_b (R : ru_T) (N : Nat) (mask : Int32) (a b c : Nat) : Prop := c + (b - a) ≤ N ∧ (∀ i, i < c → bt mask i = false) ∧ (∀ i, i < b - a → bt mask (c + i) = zc_a R (a + i)) ∧ ∀ i, c + (b - a) ≤ i → i < N → bt mask i = false
theorem am_ct {N : Nat} {mask : Int32} {a b c : Nat} (h : am_b R N mask a b c) {i : Nat} (hi : i ≤ b - a) : zc_n (bt mask) (c + i) = zc_n (fun i => zc_a R (a + i)) i := by
  obtain ⟨_, h2, h3, _⟩ := h
  rw [zc_ad, zc_z c h2, Nat.zero_add]
  exact zc_cg i (fun s hs => h3 s (by omega))
theorem am_tt {N : Nat} {mask : Int32} {a b c : Nat} (h : am_b R N mask a b c) : zc_n (bt mask) N = zc_n (fun i => zc_a R (a + i)) (b - a) := by
  rw [zc_fl (a := c + (b - a)) N h.1 (fun i h1 h2 => h.2.2.2 i h1 h2)]
  exact am_ct h (Nat.le_refl _)
theorem am_mk {N : Nat} {mask frm : Int32} {a b c k0 tot : Nat} (hb : b ≤ 7305) (h : am_b R N mask a b c) (hf : ∀ i, i < b - a → frm + nI (c + i) = nI (a + i)) (hk : ∀ i, i < b - a → zr_k R (a + i) = k0 + zc_n (fun i => zc_a R (a + i)) i) (ht : ∀ i, i < b - a → zr_t R (a + i) = tot) : am_c R N mask frm (fun j => a + min (j - c) (b - a)) k0 tot := by
  intro j hj
  dsimp only
  rcases Nat.lt_or_ge j c with g | g
  · have hf : bt mask j = false := h.2.1 j g
    refine ⟨fun z => (by rw [hf] at z; cases z), fun _ => ⟨by omega, fun d h1 h2 => by omega⟩⟩
  · obtain ⟨i, rfl⟩ := Nat.le.dest g
    rcases Nat.lt_or_ge i (b - a) with g2 | g2
    · refine ⟨fun z => ⟨a + i, by omega, hf i g2, by omega, by omega, ?_, ?_, ht i g2⟩, fun z => ⟨by omega, fun d h1 h2 => ?_⟩⟩
      · rw [← h.2.2.1 i g2]; exact z
      · rw [hk i g2, am_ct h (by omega)]
      · rw [show d = a + i by omega, ← h.2.2.1 i g2]; exact z
    · have hf : bt mask (c + i) = false := h.2.2.2 (c + i) (by omega) hj
      refine ⟨fun z => (by rw [hf] at z; cases z), fun _ => ⟨by omega, fun d h1 h2 => by omega⟩⟩
/-- one whole period as a mask -/
theorem am_pe {mask frm : Int32} {a b c p : Nat} (hb : b ≤ 7305) (h : am_b R 32 mask a b c) (hf : ∀ i, i < b - a → frm + nI (c + i) = nI (a + i)) (hp : ∀ e, e < 7305 → (zp_e R e = p ↔ a ≤ e ∧ e < b)) : am_c R 32 mask frm (fun j => a + min (j - c) (b - a)) 0 (bp_c mask) := by
  have sg : ∀ i, i < b - a → zr_k R (a + i) = zc_n (fun i => zc_a R (a + i)) (a + i - a) ∧ zr_t R (a + i) = zc_n (fun i => zc_a R (a + i)) (b - a) := fun i hi =>
    zr_sg hb (by omega) (by omega) (fun e he => by rw [(hp (a + i) (by omega)).mpr ⟨by omega, by omega⟩]; exact hp e he)
  refine am_mk hb h hf (fun i hi => ?_) (fun i hi => ?_)
  · rw [(sg i hi).1, Nat.add_sub_cancel_left, Nat.zero_add]
  · rw [(sg i hi).2]
    exact (am_tt h).symm
theorem xw_addPer {post : SX → Prop} {mask frm : Int32} {a b c p : Nat} (hR : ru_ok R) (hab : a ≤ b) (hb : b ≤ 7305) (h : am_b R 32 mask a b c) (hf : ∀ i, i < b - a → frm + nI (c + i) = nI (a + i)) (hp : ∀ e, e < 7305 → (zp_e R e = p ↔ a ≤ e ∧ e < b)) (q : qq_v R a md dD) (k : ∀ x y, qq_v R b x y → post (nI (ru_S R), nI (ru_F R), nI (ru_I R), ru_M R, ru_D R, ru_L R, ru_W R, ru_O R, ru_P R, nI (ru_C R), nI (ru_E R), nI ex, fu_M R, fu_D R, fu_W R, fu_O R, kM, kK, rd, x, eD, eI, yM, y)) : wpX_addMask post (nI (ru_S R), nI (ru_F R), nI (ru_I R), ru_M R, ru_D R, ru_L R, ru_W R, ru_O R, ru_P R, nI (ru_C R), nI (ru_E R), nI ex, fu_M R, fu_D R, fu_W R, fu_O R, kM, kK, rd, md, eD, eI, yM, dD) mask frm := by
  have h1 := h.1
  refine xw_addMask _ hR (am_pe hb h hf hp) ?_ (fun x y z => k x y ?_)
  · rw [show a + min (0 - c) (b - a) = a by omega]
    exact q
  · rw [show a + min (32 - c) (b - a) = b by omega] at z
    exact z
theorem xw_addSeg {post : SX → Prop} {mask frm : Int32} {a b k0 tot : Nat} (hR : ru_ok R) (hab : a ≤ b) (hb : b ≤ 7305) (ht0 : tot < 5000) (hk0 : k0 < 5000) (h : am_b R 31 mask a b 0) (hf : frm = nI a) (hk : ∀ i, i < b - a → zr_k R (a + i) = k0 + zc_n (fun i => zc_a R (a + i)) i) (ht : ∀ i, i < b - a → zr_t R (a + i) = tot) (q : qq_v R a md dD) (k : ∀ x y, qq_v R b x y → post (nI (ru_S R), nI (ru_F R), nI (ru_I R), ru_M R, ru_D R, ru_L R, ru_W R, ru_O R, ru_P R, nI (ru_C R), nI (ru_E R), nI ex, fu_M R, fu_D R, fu_W R, fu_O R, kM, kK, rd, x, eD, eI, yM, y)) : wpX_addPart post (nI (ru_S R), nI (ru_F R), nI (ru_I R), ru_M R, ru_D R, ru_L R, ru_W R, ru_O R, ru_P R, nI (ru_C R), nI (ru_E R), nI ex, fu_M R, fu_D R, fu_W R, fu_O R, kM, kK, rd, md, eD, eI, yM, dD) mask frm (nI k0) (nI tot) := by
  have h1 := h.1
  refine xw_addPart _ hR ht0 hk0 (am_mk hb h (fun i hi => ?_) hk ht) ?_ (fun x y z => k x y ?_)
  · rw [hf, nI_add, Nat.zero_add]
  · rw [show a + min (0 - 0) (b - a) = a by omega]
    exact q
  · rw [show a + min (31 - 0) (b - a) = b by omega] at z
    exact z
end
end
section
/-! X: the periods gone through -/
section
variable {R : ru_T} {ex : Nat} {kM kK rd md : Int32} {eD eI yM : Nat → Int32} {dD : Nat → Int64}
theorem zz_md {a b i : Nat} (h : a % i = 0) (h1 : a < b) (h2 : b < a + i) : b % i ≠ 0 := by
  obtain ⟨c, rfl⟩ := Nat.le.dest (Nat.le_of_lt h1)
  rw [Nat.add_mod, h, Nat.zero_add, Nat.mod_mod, Nat.mod_eq_of_lt (by omega)]
  omega
theorem zz_ma {a i : Nat} (h : a % i = 0) : (a + i) % i = 0 := by rw [Nat.add_mod_right, h]
theorem zz_sk {R : ru_T} {p d : Nat} (h : zp_e R (ru_S R) ≤ p) (h0 : (p - zp_e R (ru_S R)) % ru_I R = 0) (h1 : p < zp_e R d) (h2 : zp_e R d < p + ru_I R) : zc_a R d = false := zc_ga (fun z => zz_md h0 (show p - zp_e R (ru_S R) < zp_e R d - zp_e R (ru_S R) by omega) (by omega) z.2)
theorem zz_nx {s p i : Nat} (h : s ≤ p) (h0 : (p - s) % i = 0) : (p + i - s) % i = 0 := by
  rw [show p + i - s = (p - s) + i by omega]
  exact zz_ma h0
theorem zz_be {R : ru_T} {d : Nat} (h : zp_e R d < zp_e R (ru_S R)) : zc_a R d = false := zc_ga (fun z => by omega)
/-! daily -/
theorem xw_daily5 {post : SX → Prop} (hR : ru_ok R) (hF : ru_F R = 0) (h : ∀ a b c e, qq_f R e → post (nI (ru_S R), nI (ru_F R), nI (ru_I R), ru_M R, ru_D R, ru_L R, ru_W R, ru_O R, ru_P R, nI (ru_C R), nI (ru_E R), nI ex, fu_M R, fu_D R, fu_W R, fu_O R, a, b, rd, c, eD, eI, yM, e)) : ∀ (n d : Nat) (kM kK md : Int32) (dD : Nat → Int64), 8000 - d < n → ru_S R ≤ d → d < 8000 → (d - ru_S R) % ru_I R = 0 → kp_s R kM kK → qq_v R d md dD → wX_goDaily_5 post n (nI d) (nI (ru_S R)) (nI (ru_F R)) (nI (ru_I R)) (ru_M R) (ru_D R) (ru_L R) (ru_W R) (ru_O R) (ru_P R) (nI (ru_C R)) (nI (ru_E R)) (nI ex) (fu_M R) (fu_D R) (fu_W R) (fu_O R) kM kK rd md eD eI yM dD := by
  have ⟨hS, _, hI1, hI2, _, _, _, _, hC, hE⟩ := hR
  have p0 := zp_0 hF
  intro n
  induction n with
  | zero => intro d kM kK md dD h1; omega
  | succ n ih =>
    intro d kM kK md dD h1 h2 h3 h4 hk q
    unfold wX_goDaily_5
    refine pk_lt (ru_E R) d (fun g => h _ _ _ _ (qq_en q (zs_en g))) (fun g => ?_)
    refine xw_wanted (D := d) hR (by omega) q.1 (fun w => br_f (by decide) ?_) (fun c0 c1 => br_t rfl (h _ _ _ _ (qq_en q (zs_nw c0 c1))))
    have hca : zc_a R d = zp_d R d := zc_ok (by omega) (by rw [p0, p0]; exact h2) (by rw [p0, p0]; exact h4)
    have sk : ∀ e, d < e → e < d + ru_I R → zc_a R e = false := fun e a b => zz_sk (p := d) (by rw [p0]; exact h2) (by rw [p0]; exact h4) (by rw [p0]; exact a) (by rw [p0]; exact b)
    have nx := zz_nx h2 h4
    refine xw_passes d rfl hR (by omega) hk (fun a b hk2 => zb_b0 _ rfl (fun pf => ?_) (fun pt => ?_))
    · refine nm_r (nI_add _ _) (ih (d + ru_I R) a b md dD (by omega) (by omega) (by omega) nx hk2 (qq_ca _ (by omega) (fun e h5 h6 => ?_) q))
      by_cases e0 : e = d
      · rw [e0, hca]; exact pf
      · exact sk e (by omega) h6
    · refine xw_addPer (a := d) (b := d + 1) (c := 0) (p := d) hR (by omega) (by omega) ⟨by omega, fun i hi => by omega, fun i hi => ?_, fun i hi1 hi2 => ?_⟩ (fun i hi => by rw [nI_add, Nat.zero_add]) (fun e he => by rw [p0]; omega) q (fun x y q2 => ?_)
      · rw [show i = 0 by omega]
        exact (ba_1 0 (by omega)).trans (by rw [Nat.add_zero, hca, pt]; rfl)
      · rw [ba_1 i hi2, decide_eq_false (by omega)]
      · exact nm_r (nI_add _ _) (ih (d + ru_I R) a b x y (by omega) (by omega) (by omega) nx hk2 (qq_ca _ (by omega) (fun e h5 h6 => sk e (by omega) h6) q2))
theorem xw_goDaily {post : SX → Prop} (hR : ru_ok R) (hF : ru_F R = 0) (hk : kp_s R kM kK) (q : qq_v R 0 md dD) (h : ∀ a b c e, qq_f R e → post (nI (ru_S R), nI (ru_F R), nI (ru_I R), ru_M R, ru_D R, ru_L R, ru_W R, ru_O R, ru_P R, nI (ru_C R), nI (ru_E R), nI ex, fu_M R, fu_D R, fu_W R, fu_O R, a, b, rd, c, eD, eI, yM, e)) : wpX_goDaily post (nI (ru_S R), nI (ru_F R), nI (ru_I R), ru_M R, ru_D R, ru_L R, ru_W R, ru_O R, ru_P R, nI (ru_C R), nI (ru_E R), nI ex, fu_M R, fu_D R, fu_W R, fu_O R, kM, kK, rd, md, eD, eI, yM, dD) := by
  have p0 := zp_0 hF
  have hS := hR.1
  unfold wpX_goDaily
  refine ⟨8001, xw_daily5 hR hF h 8001 (ru_S R) kM kK md dD (by omega) (by omega) (by omega) (by rw [Nat.sub_self, Nat.zero_mod]) hk (qq_ca _ (by omega) (fun e h5 h6 => zz_be ?_) q)⟩
  rw [p0, p0]; exact h6
/-! weekly: the week p has its monday at 7 p - 5 -/
def wk_b (R : ru_T) (p i : Nat) : Bool := decide (5 ≤ 7 * p + i) && (decide (7 * p + i - 5 < 7305) && zp_d R (7 * p + i - 5))
theorem zw_mi {p i : Nat} (hp : p < 100000) (hi : i < 1000) : (nI (7 * p) - 5 + nI i).toInt = 7 * (p : Int) - 5 + (i : Int) := by
  show (nI (7 * p) - nI 5 + nI i).toInt = _
  have e := pk_sub_toInt (a := 7 * p) (b := 5) (by omega) (by omega)
  have e2 := nI_toInt (show i < 2 ^ 31 by omega)
  rw [zi_add (by rw [e]; omega) (by rw [e]; omega) (by rw [e2]; omega) (by rw [e2]; omega), e, e2]
  omega
theorem zw_ma {p i : Nat} (hp : p < 100000) (hi : i < 1000) (h : 5 ≤ 7 * p + i) : nI (7 * p) - 5 + nI i = nI (7 * p + i - 5) := zi_eq (by omega) (by rw [zw_mi hp hi]; omega)
theorem zw_nx (p i : Nat) : nI (7 * p) - 5 + 7 * nI i = nI (7 * (p + i)) - 5 := by
  have e : (7 : Int32) * nI i = nI (7 * i) := pk_mul 7 i
  rw [e, Nat.mul_add, ← nI_add]
  grind
theorem xw_w32 {post : SX → Prop} {J13 : Int32 → Int32 → Int32 → Int32 → Int32 → Int32 → Int32 → Int32 → Int32 → Int32 → Int32 → Int32 → Int32 → Int32 → Int32 → Int32 → Int32 → Int32 → Int32 → Int32 → Int32 → (Nat → Int32) → (Nat → Int32) → (Nat → Int32) → (Nat → Int64) → Prop} {p : Nat} (hR : ru_ok R) (hF : ru_F R = 1) (hp : 7 * p < 7310) (hg1 : zp_e R (ru_S R) ≤ p) (hg2 : (p - zp_e R (ru_S R)) % ru_I R = 0) (q : qq_v R (7 * p - 5) md dD) (hJ : ∀ a b c e, kp_s R a b → qq_v R (7 * p + 2) c e → J13 (nI (7 * (p + ru_I R)) - 5) (nI (ru_S R)) (nI (ru_F R)) (nI (ru_I R)) (ru_M R) (ru_D R) (ru_L R) (ru_W R) (ru_O R) (ru_P R) (nI (ru_C R)) (nI (ru_E R)) (nI ex) (fu_M R) (fu_D R) (fu_W R) (fu_O R) a b rd c eD eI yM e) : ∀ (n j : Nat) (mask kM kK : Int32), j ≤ 7 → 7 - j < n → kp_s R kM kK → (∀ i, i < 32 → bt mask i = (decide (i < j) && wk_b R p i)) → wX_goWeekly_32 post J13 (nI (7 * p) - 5) n mask (nI j) (nI (ru_S R)) (nI (ru_F R)) (nI (ru_I R)) (ru_M R) (ru_D R) (ru_L R) (ru_W R) (ru_O R) (ru_P R) (nI (ru_C R)) (nI (ru_E R)) (nI ex) (fu_M R) (fu_D R) (fu_W R) (fu_O R) kM kK rd md eD eI yM dD := by
  have p1 := zp_1 hF
  intro n
  induction n with
  | zero => intro j mask kM kK h1 h2; omega
  | succ n ih =>
    intro j mask kM kK h1 h2 hk hm
    unfold wX_goWeekly_32
    refine pk_le 7 j (fun g => ?_) (fun g => ?_)
    · have hm7 : ∀ i, i < 7 → bt mask i = wk_b R p i := fun i hi => by rw [hm i (by omega), decide_eq_true (show i < j by omega), Bool.true_and]
      have hm8 : ∀ i, 7 ≤ i → i < 32 → bt mask i = false := fun i hi hi2 => by rw [hm i hi2, decide_eq_false (show ¬ i < j by omega), Bool.false_and]
      refine xw_addPer (a := 7 * p - 5) (b := min (7 * p + 2) 7305) (c := 5 - 7 * p) (p := p) hR (by omega) (by omega) ⟨by omega, fun i hi => ?_, fun i hi => ?_, fun i hi1 hi2 => ?_⟩ (fun i hi => ?_) (fun e he => by rw [p1]; omega) q (fun x y q2 => ?_)
      · rw [hm7 i (by omega)]
        unfold wk_b
        rw [decide_eq_false (show ¬ 5 ≤ 7 * p + i by omega), Bool.false_and]
      · rw [hm7 _ (by omega)]
        unfold wk_b
        rw [show 7 * p + (5 - 7 * p + i) - 5 = 7 * p - 5 + i by omega, decide_eq_true (show 5 ≤ 7 * p + (5 - 7 * p + i) by omega), decide_eq_true (show 7 * p - 5 + i < 7305 by omega), Bool.true_and, Bool.true_and]
        have ep : zp_e R (7 * p - 5 + i) = p := by rw [p1]; omega
        exact (zc_ok (by omega) (by rw [ep]; exact hg1) (by rw [ep]; exact hg2)).symm
      · rcases Nat.lt_or_ge i 7 with z | z
        · rw [hm7 i z]
          unfold wk_b
          rw [decide_eq_false (show ¬ 7 * p + i - 5 < 7305 by omega), Bool.false_and, Bool.and_false]
        · exact hm8 i z hi2
      · rw [zw_ma (by omega) (by omega) (by omega)]
        exact congrArg nI (by omega)
      · exact nm_r (zw_nx p (ru_I R)) (hJ _ _ _ _ hk (qq_ca _ (by omega) (fun e h5 h6 => zc_lt (by omega)) q2))
    · have nxt : ∀ (b : Bool) (r : Int32) (a c : Int32), wk_b R p j = b → (∀ i, i < 32 → bt r i = (bt mask i || (b && decide (i = j)))) → kp_s R a c → wX_goWeekly_32 post J13 (nI (7 * p) - 5) n r (nI (j + 1)) (nI (ru_S R)) (nI (ru_F R)) (nI (ru_I R)) (ru_M R) (ru_D R) (ru_L R) (ru_W R) (ru_O R) (ru_P R) (nI (ru_C R)) (nI (ru_E R)) (nI ex) (fu_M R) (fu_D R) (fu_W R) (fu_O R) a c rd md eD eI yM dD := by
        intro b r a c hb hr hk2
        refine ih (j + 1) r a c (by omega) (by omega) hk2 (fun i hi => ?_)
        rw [hr i hi, hm i hi]
        rcases Nat.lt_trichotomy i j with z | z | z
        · rw [decide_eq_true z, decide_eq_true (show i < j + 1 by omega), decide_eq_false (show ¬ i = j by omega), Bool.and_false, Bool.or_false]
        · subst z
          rw [decide_eq_false (Nat.lt_irrefl i), decide_eq_true (show i < i + 1 by omega), decide_eq_true rfl, hb]
          simp
        · rw [decide_eq_false (show ¬ i < j by omega), decide_eq_false (show ¬ i < j + 1 by omega), decide_eq_false (show ¬ i = j by omega)]
          simp
      have no : ∀ a c, wk_b R p j = false → kp_s R a c → wX_goWeekly_61 post J13 (wX_goWeekly_32 post J13 (nI (7 * p) - 5) n) (nI (7 * p) - 5) mask (nI j) (nI (ru_S R)) (nI (ru_F R)) (nI (ru_I R)) (ru_M R) (ru_D R) (ru_L R) (ru_W R) (ru_O R) (ru_P R) (nI (ru_C R)) (nI (ru_E R)) (nI ex) (fu_M R) (fu_D R) (fu_W R) (fu_O R) a c rd md eD eI yM dD := by
        intro a c hb hk2
        unfold wX_goWeekly_61 wX_goWeekly_62
        refine br_t rfl (nm_r (nI_1 j) (nxt false mask a c hb (fun i hi => ?_) hk2))
        rw [Bool.false_and, Bool.or_false]
      refine xw_badDay (fun d hd e => br_t rfl ?_) (fun nb => br_f (by decide) (no _ _ ?_ hk))
      · have e2 := congrArg Int32.toInt e
        rw [zw_mi (by omega) (by omega), nI_toInt (by omega)] at e2
        have hb : wk_b R p j = zp_d R d := by
          unfold wk_b
          rw [show 7 * p + j - 5 = d by omega, decide_eq_true (show 5 ≤ 7 * p + j by omega), decide_eq_true hd, Bool.true_and, Bool.true_and]
        refine xw_passes d e hR hd hk (fun a c hk2 => zb_b0 _ rfl (fun pf => no a c (hb.trans pf) hk2) (fun pt => ?_))
        unfold wX_goWeekly_62
        refine br_f (by decide) (nm_e (nm_r (nI_1 j) (nxt true _ a c (hb.trans pt) (fun i hi => ?_) hk2)))
        rw [b_or, ba_sh j (by omega) hi, Bool.true_and]
      · unfold wk_b
        by_cases z : 5 ≤ 7 * p + j ∧ 7 * p + j - 5 < 7305
        · exact absurd ⟨_, z.2, zw_ma (by omega) (by omega) z.1⟩ nb
        · by_cases z1 : 5 ≤ 7 * p + j
          · rw [decide_eq_false (show ¬ 7 * p + j - 5 < 7305 by omega), Bool.false_and, Bool.and_false]
          · rw [decide_eq_false z1, Bool.false_and]
theorem xw_weekly13 {post : SX → Prop} (hR : ru_ok R) (hF : ru_F R = 1) (h : ∀ a b c e, qq_f R e → post (nI (ru_S R), nI (ru_F R), nI (ru_I R), ru_M R, ru_D R, ru_L R, ru_W R, ru_O R, ru_P R, nI (ru_C R), nI (ru_E R), nI ex, fu_M R, fu_D R, fu_W R, fu_O R, a, b, rd, c, eD, eI, yM, e)) : ∀ (n p : Nat) (kM kK md : Int32) (dD : Nat → Int64), 2000 - p < n → zp_e R (ru_S R) ≤ p → p < 2000 → (p - zp_e R (ru_S R)) % ru_I R = 0 → kp_s R kM kK → qq_v R (7 * p - 5) md dD → wX_goWeekly_13 post n (nI (7 * p) - 5) (nI (ru_S R)) (nI (ru_F R)) (nI (ru_I R)) (ru_M R) (ru_D R) (ru_L R) (ru_W R) (ru_O R) (ru_P R) (nI (ru_C R)) (nI (ru_E R)) (nI ex) (fu_M R) (fu_D R) (fu_W R) (fu_O R) kM kK rd md eD eI yM dD := by
  have ⟨hS, _, hI1, hI2, _, _, _, _, hC, hE⟩ := hR
  have p1 := zp_1 hF
  intro n
  induction n with
  | zero => intro p kM kK md dD h1; omega
  | succ n ih =>
    intro p kM kK md dD h1 h2 h3 h4 hk q
    unfold wX_goWeekly_13
    have e1 : (nI (7 * p) - 5).toInt = ((7 * p : Nat) : Int) - 5 := pk_sub_toInt (a := 7 * p) (b := 5) (by omega) (by omega)
    have e2 := nI_toInt (show ru_E R < 2 ^ 31 by omega)
    refine br_c (fun g => ?_) (fun g => ?_)
    · rw [Int32.lt_iff_toInt_lt, e1, e2] at g
      exact h _ _ _ _ (qq_en q (zs_en (by omega)))
    · rw [Int32.lt_iff_toInt_lt, e1, e2] at g
      refine xw_wanted (D := 7 * p - 5) hR (by omega) q.1 (fun w => br_f (by decide) ?_) (fun c0 c1 => br_t rfl (h _ _ _ _ (qq_en q (zs_nw c0 c1))))
      refine ⟨8, xw_w32 hR hF (by omega) h2 h4 q (fun a b c e hk2 q2 => ?_) 8 0 0 kM kK (by omega) (by omega) hk (fun i hi => by rw [b_0, decide_eq_false (Nat.not_lt_zero i), Bool.false_and])⟩
      refine ih (p + ru_I R) a b c e (by omega) (by omega) (by omega) (zz_nx h2 h4) hk2 (qq_ca _ (by omega) (fun d h5 h6 => zz_sk h2 h4 ?_ ?_) q2)
      · rw [p1]; omega
      · rw [p1]; omega
theorem xw_goWeekly {post : SX → Prop} (hR : ru_ok R) (hF : ru_F R = 1) (hk : kp_s R kM kK) (q : qq_v R 0 md dD) (h : ∀ a b c e, qq_f R e → post (nI (ru_S R), nI (ru_F R), nI (ru_I R), ru_M R, ru_D R, ru_L R, ru_W R, ru_O R, ru_P R, nI (ru_C R), nI (ru_E R), nI ex, fu_M R, fu_D R, fu_W R, fu_O R, a, b, rd, c, eD, eI, yM, e)) : wpX_goWeekly post (nI (ru_S R), nI (ru_F R), nI (ru_I R), ru_M R, ru_D R, ru_L R, ru_W R, ru_O R, ru_P R, nI (ru_C R), nI (ru_E R), nI ex, fu_M R, fu_D R, fu_W R, fu_O R, kM, kK, rd, md, eD, eI, yM, dD) := by
  have p1 := zp_1 hF
  have hS := hR.1
  unfold wpX_goWeekly
  refine xw_weekdayOf (ru_S R) rfl (by omega) (nm_r (e' := nI (7 * zp_e R (ru_S R)) - 5) ?_ ⟨2001, xw_weekly13 hR hF h 2001 _ kM kK md dD (by omega) (by omega) (by rw [p1]; omega) (by rw [Nat.sub_self, Nat.zero_mod]) hk (qq_ca _ (by omega) (fun e h5 h6 => zz_be ?_) q)⟩)
  · apply Int32.toInt_inj.mp
    have e1 : (nI (7 * zp_e R (ru_S R)) - 5).toInt = ((7 * zp_e R (ru_S R) : Nat) : Int) - 5 := pk_sub_toInt (a := 7 * zp_e R (ru_S R)) (b := 5) (by rw [p1]; omega) (by omega)
    rw [pk_sub_toInt (by omega) (by omega), e1, p1]
    omega
  · rw [p1] at h6 ⊢
    rw [p1]
    omega
/-! monthly -/
theorem mm_ab {q : Nat} {r : Int32} (hF : ru_F R = 2) (hq : q < 240) (hg1 : zp_e R (ru_S R) ≤ q) (hg2 : (q - zp_e R (ru_S R)) % ru_I R = 0) (hr : mm_s R (q / 12) (q % 12) r) : am_b R 32 r (zq_s q) (zq_s (q + 1)) 0 := by
  have hl := zm_lr (q / 12) (q % 12)
  have e1 := zq_1 q
  have hb := zq_mo (a := q + 1) 240 (by omega)
  rw [zq_240] at hb
  refine ⟨by omega, fun i hi => by omega, fun i hi => ?_, fun i hi1 hi2 => ?_⟩
  · have kd : zk_d (zq_s q + i) (q / 12) (q % 12) i := zk_mk (by omega) (by omega) (by omega)
    have ep : zp_e R (zq_s q + i) = q := by
      rw [zp_2 hF]
      exact (zq_i (by omega)).mpr ⟨by omega, by omega⟩
    rw [Nat.zero_add, hr i (by omega), decide_eq_true (by omega), Bool.true_and, zc_ok (by omega) (by rw [ep]; exact hg1) (by rw [ep]; exact hg2), zp_k kd]
  · rw [hr i hi2, decide_eq_false (by omega), Bool.false_and]
theorem xw_monthly24 {post : SX → Prop} (hR : ru_ok R) (hF : ru_F R = 2) (h : ∀ c e, qq_f R e → post (nI (ru_S R), nI (ru_F R), nI (ru_I R), ru_M R, ru_D R, ru_L R, ru_W R, ru_O R, ru_P R, nI (ru_C R), nI (ru_E R), nI ex, fu_M R, fu_D R, fu_W R, fu_O R, kM, kK, rd, c, eD, eI, yM, e)) : ∀ (n m : Nat) (md : Int32) (dD : Nat → Int64), 300 - m < n → zp_e R (ru_S R) ≤ m → m < 300 → (m - zp_e R (ru_S R)) % ru_I R = 0 → qq_v R (zq_s m) md dD → wX_goMonthly_24 post n (nI m) (nI (ru_S R)) (nI (ru_F R)) (nI (ru_I R)) (ru_M R) (ru_D R) (ru_L R) (ru_W R) (ru_O R) (ru_P R) (nI (ru_C R)) (nI (ru_E R)) (nI ex) (fu_M R) (fu_D R) (fu_W R) (fu_O R) kM kK rd md eD eI yM dD := by
  have ⟨hS, _, hI1, hI2, _, _, _, _, hC, hE⟩ := hR
  have p2 := zp_2 hF
  intro n
  induction n with
  | zero => intro m md dD h1; omega
  | succ n ih =>
    intro m md dD h1 h2 h3 h4 q
    unfold wX_goMonthly_24
    refine pk_le 240 m (fun g => h _ _ (qq_en q (zs_lt ?_))) (fun g => ?_)
    · rw [← zq_240]; exact zq_mo m g
    · have hl := zm_lr (m / 12) (m % 12)
      have e1 := zq_1 m
      have hb := zq_mo (a := m + 1) 240 (by omega)
      rw [zq_240] at hb
      refine xw_wanted (D := zq_s m) hR (by omega) q.1 (fun w => br_f (by decide) ?_) (fun c0 c1 => br_t rfl (h _ _ (qq_en q (zs_nw c0 c1))))
      refine ⟨by decide, by decide, xw_monthMask (m / 12) (m % 12) (pk_div (d := 12) (by omega) (by omega) (by omega)) (pk_rem (d := 12) (by omega) (by omega) (by omega)) hR (by omega) (by omega) (fun r hr => ?_)⟩
      refine ⟨by decide, by decide, xw_monthStart (m / 12) (m % 12) (pk_div (d := 12) (by omega) (by omega) (by omega)) (pk_rem (d := 12) (by omega) (by omega) (by omega)) (by omega) (by omega) ?_⟩
      refine xw_addPer (a := zq_s m) (b := zq_s (m + 1)) (c := 0) (p := m) hR (by omega) hb (mm_ab hF g h2 h4 hr) (fun i hi => ?_) (fun e he => by rw [p2]; exact zq_i he) q (fun x y q2 => ?_)
      · rw [nI_add, Nat.zero_add]; rfl
      · refine nm_r (nI_add _ _) (ih (m + ru_I R) x y (by omega) (by omega) (by omega) (zz_nx h2 h4) (qq_ca _ (zq_mo _ (by omega)) (fun d h5 h6 => ?_) q2))
        rcases Nat.lt_or_ge d 7305 with z | z
        · have ⟨a1, a2, _⟩ := zq_b z
          refine zz_sk h2 h4 ?_ ?_
          · rw [p2]
            rcases Nat.lt_or_ge m (zq_o d) with z2 | z2
            · exact z2
            · have := zq_mo (a := zq_o d + 1) (m + 1) (by omega); omega
          · rw [p2]
            rcases Nat.lt_or_ge (zq_o d) (m + ru_I R) with z2 | z2
            · exact z2
            · have := zq_mo (a := m + ru_I R) (zq_o d) (by omega); omega
        · exact zc_lt z
theorem xw_goMonthly {post : SX → Prop} (hR : ru_ok R) (hF : ru_F R = 2) (q : qq_v R 0 md dD) (h : ∀ c e, qq_f R e → post (nI (ru_S R), nI (ru_F R), nI (ru_I R), ru_M R, ru_D R, ru_L R, ru_W R, ru_O R, ru_P R, nI (ru_C R), nI (ru_E R), nI ex, fu_M R, fu_D R, fu_W R, fu_O R, kM, kK, rd, c, eD, eI, yM, e)) : wpX_goMonthly post (nI (ru_S R), nI (ru_F R), nI (ru_I R), ru_M R, ru_D R, ru_L R, ru_W R, ru_O R, ru_P R, nI (ru_C R), nI (ru_E R), nI ex, fu_M R, fu_D R, fu_W R, fu_O R, kM, kK, rd, md, eD, eI, yM, dD) := by
  have p2 := zp_2 hF
  have hS := hR.1
  have ⟨a1, a2, a3⟩ := zq_b hS
  unfold wpX_goMonthly
  refine xw_yearOf _ rfl hS (xw_monthOf _ rfl rfl hS (nm_r (e' := nI (zq_o (ru_S R))) ?_ ⟨301, xw_monthly24 hR hF h 301 _ md dD (by omega) (by rw [p2]; exact Nat.le_refl _) (by omega) (by rw [p2, Nat.sub_self, Nat.zero_mod]) (qq_ca _ (by omega) (fun d h5 h6 => zz_be ?_) q)⟩))
  · show (nI (zy_o (ru_S R)) * nI 12) + nI (zm_o (ru_S R)) = _
    rw [pk_mul, nI_add]
    rfl
  · rw [p2, p2]
    have ⟨b1, b2, _⟩ := zq_b (show d < 7305 by omega)
    rcases Nat.lt_or_ge (zq_o d) (zq_o (ru_S R)) with z | z
    · exact z
    · have := zq_mo (a := zq_o (ru_S R)) (zq_o d) z; omega
/-! yearly -/
/-- how many candidates of the year y lie before its month m -/
def zy_c (R : ru_T) (y m : Nat) : Nat := zc_n (fun i => zc_a R (zy_s y + i)) (zm_s y m - zy_s y)
theorem zy_c0 (R : ru_T) (y : Nat) : zy_c R y 0 = 0 := by
  unfold zy_c
  rw [show zm_s y 0 = zy_s y from rfl, Nat.sub_self]
  rfl
theorem zy_c1 {y m i : Nat} : zc_n (fun i => zc_a R (zy_s y + i)) (zm_s y m + i - zy_s y) = zy_c R y m + zc_n (fun i => zc_a R (zm_s y m + i)) i := by
  have := zm_ge y m
  unfold zy_c
  rw [show zm_s y m + i - zy_s y = (zm_s y m - zy_s y) + i by omega, zc_ad]
  congr 1
  exact zc_cg i (fun s hs => congrArg (zc_a R) (by omega))
theorem zy_cb {y m : Nat} (hm : m ≤ 12) : zy_c R y m < 400 := by
  have a := zm_up y hm
  have b : zy_s (y + 1) ≤ zy_s y + 366 := by unfold zy_s; omega
  have c := zc_le (fun i => zc_a R (zy_s y + i)) (zm_s y m - zy_s y)
  unfold zy_c
  omega
theorem my_ab {y m : Nat} {r : Int32} (N : Nat) (hN : N = 31 ∨ N = 32) (hF : ru_F R = 3) (hy : y < 20) (hm : m < 12) (hg1 : zp_e R (ru_S R) ≤ y) (hg2 : (y - zp_e R (ru_S R)) % ru_I R = 0) (hr : mm_s R y m r) : am_b R N r (zm_s y m) (zm_s y (m + 1)) 0 := by
  have hl := zm_lr y m
  have e1 := zm_s1 y m
  have hb := zm_b hy (show m + 1 ≤ 12 by omega)
  have h1 := zm_ge y m
  have h2 := zm_up y (show m + 1 ≤ 12 by omega)
  refine ⟨by omega, fun i hi => by omega, fun i hi => ?_, fun i hi1 hi2 => ?_⟩
  · have kd : zk_d (zm_s y m + i) y m i := zk_mk hy hm (by omega)
    have ep : zp_e R (zm_s y m + i) = y := by
      rw [zp_3 hF]
      exact (zy_i (by omega)).mpr ⟨by omega, by omega⟩
    rw [Nat.zero_add, hr i (by omega), decide_eq_true (by omega), Bool.true_and, zc_ok (by omega) (by rw [ep]; exact hg1) (by rw [ep]; exact hg2), zp_k kd]
  · rw [hr i (by omega), decide_eq_false (by omega), Bool.false_and]
theorem zy_cs {y m N : Nat} {r : Int32} (h : am_b R N r (zm_s y m) (zm_s y (m + 1)) 0) : zy_c R y (m + 1) = zy_c R y m + zc_n (bt r) N := by
  have e1 := zm_s1 y m
  rw [am_tt h, show zm_s y (m + 1) - zm_s y m = zm_l y m by omega, ← zy_c1]
  rfl
theorem xw_ay45 {post : SX → Prop} {y : Nat} (hR : ru_ok R) (hF : ru_F R = 3) (hy : y < 20) (hg1 : zp_e R (ru_S R) ≤ y) (hg2 : (y - zp_e R (ru_S R)) % ru_I R = 0) (hm : ∀ m, m < 12 → mm_s R y m (yM m)) (h : ∀ a b, qq_v R (zy_s (y + 1)) a b → post (nI (ru_S R), nI (ru_F R), nI (ru_I R), ru_M R, ru_D R, ru_L R, ru_W R, ru_O R, ru_P R, nI (ru_C R), nI (ru_E R), nI ex, fu_M R, fu_D R, fu_W R, fu_O R, kM, kK, rd, a, eD, eI, yM, b)) : ∀ (n j : Nat) (md : Int32) (dD : Nat → Int64), j ≤ 12 → 12 - j < n → qq_v R (zm_s y j) md dD → wX_addYear_45 post (nI y) (nI (zy_c R y 12)) n (nI (zy_c R y j)) (nI j) (nI (ru_S R)) (nI (ru_F R)) (nI (ru_I R)) (ru_M R) (ru_D R) (ru_L R) (ru_W R) (ru_O R) (ru_P R) (nI (ru_C R)) (nI (ru_E R)) (nI ex) (fu_M R) (fu_D R) (fu_W R) (fu_O R) kM kK rd md eD eI yM dD := by
  have p3 := zp_3 hF
  intro n
  induction n with
  | zero => intro j md dD h1; omega
  | succ n ih =>
    intro j md dD h1 h2 q
    have c12 := zy_cb (R := R) (y := y) (m := 12) (by omega)
    have cj := zy_cb (R := R) (y := y) (m := j) (by omega)
    unfold wX_addYear_45
    rw [nI_clamp (by omega)]
    refine pk_le 12 j (fun g => ?_) (fun g => ?_)
    · have e : j = 12 := by omega
      subst e
      rw [zm_12] at q
      exact h _ _ q
    · have e1 := zm_s1 y j
      have hb := zm_b hy (show j + 1 ≤ 12 by omega)
      have z1 := zm_ge y j
      have z2 := zm_up y (show j + 1 ≤ 12 by omega)
      have z3 := zy_b (show y + 1 ≤ 20 by omega)
      have ab := my_ab 31 (Or.inl rfl) hF hy g hg1 hg2 (hm j g)
      have sg : ∀ i, i < zm_s y (j + 1) - zm_s y j → zr_k R (zm_s y j + i) = zc_n (fun i => zc_a R (zy_s y + i)) (zm_s y j + i - zy_s y) ∧ zr_t R (zm_s y j + i) = zc_n (fun i => zc_a R (zy_s y + i)) (zy_s (y + 1) - zy_s y) := fun i hi =>
        zr_sg z3 (by omega) (by omega) (fun e he => by
          rw [p3, p3, (zy_i (y := y) (show zm_s y j + i < 7305 by omega)).mpr ⟨by omega, by omega⟩]
          exact zy_i he)
      refine xw_monthStart y j rfl rfl (by omega) (by omega) ⟨vp_in_nI g (by omega), ?_⟩
      refine xw_addSeg (a := zm_s y j) (b := zm_s y (j + 1)) hR (by omega) hb (by omega) (by omega) ab rfl (fun i hi => ?_) (fun i hi => ?_) q (fun a b q2 => ⟨vp_in_nI g (by omega), xw_bits _ (nm_r (e' := nI (zy_c R y (j + 1))) ?_ (nm_r (nI_1 j) (ih (j + 1) a b (by omega) (by omega) q2)))⟩)
      · rw [(sg i hi).1, zy_c1]
      · rw [(sg i hi).2]
        unfold zy_c
        rw [zm_12]
      · have ab2 := my_ab 32 (Or.inr rfl) hF hy g hg1 hg2 (hm j g)
        rw [nI_add, zy_cs ab2]
        rfl
theorem xw_ay4 {post : SX → Prop} {y : Nat} (hR : ru_ok R) (hF : ru_F R = 3) (hy : y < 20) (hg1 : zp_e R (ru_S R) ≤ y) (hg2 : (y - zp_e R (ru_S R)) % ru_I R = 0) (q : qq_v R (zy_s y) md dD) (h : ∀ a b c, qq_v R (zy_s (y + 1)) a b → post (nI (ru_S R), nI (ru_F R), nI (ru_I R), ru_M R, ru_D R, ru_L R, ru_W R, ru_O R, ru_P R, nI (ru_C R), nI (ru_E R), nI ex, fu_M R, fu_D R, fu_W R, fu_O R, kM, kK, rd, a, eD, eI, c, b)) : ∀ (n j : Nat) (yM : Nat → Int32), j ≤ 12 → 12 - j < n → (∀ m, m < j → mm_s R y m (yM m)) → wX_addYear_4 post (nI y) (nI (ru_S R)) (nI (ru_F R)) (nI (ru_I R)) (ru_M R) (ru_D R) (ru_L R) (ru_W R) (ru_O R) (ru_P R) (nI (ru_C R)) (nI (ru_E R)) (nI ex) (fu_M R) (fu_D R) (fu_W R) (fu_O R) kM kK rd md n (nI (zy_c R y j)) (nI j) eD eI yM dD := by
  intro n
  induction n with
  | zero => intro j yM h1; omega
  | succ n ih =>
    intro j yM h1 h2 hm
    unfold wX_addYear_4
    rw [nI_clamp (by omega)]
    refine pk_le 12 j (fun g => ?_) (fun g => ?_)
    · have e : j = 12 := by omega
      subst e
      have := xw_ay45 (post := post) (ex := ex) (kM := kM) (kK := kK) (rd := rd) (eD := eD) (eI := eI) (yM := yM) hR hF hy hg1 hg2 hm (fun a b q2 => h a b yM q2) 13 0 md dD (by omega) (by omega) q
      rw [zy_c0] at this
      exact ⟨13, this⟩
    · refine xw_monthMask y j rfl rfl hR hy g (fun r hr => ⟨vp_in_nI g (by omega), nm_e ⟨vp_in_nI g (by omega), ?_⟩⟩)
      rw [pk_us]
      refine xw_bits _ (nm_r (e' := nI (zy_c R y (j + 1))) ?_ (nm_r (nI_1 j) (ih (j + 1) _ (by omega) (by omega) (fun m hm2 => ?_))))
      · rw [nI_add, zy_cs (my_ab 32 (Or.inr rfl) hF hy g hg1 hg2 hr)]
        rfl
      · by_cases e : m = j
        · rw [e, pk_us]; exact hr
        · rw [pk_un e]; exact hm m (by omega)
theorem xw_yearly8 {post : SX → Prop} (hR : ru_ok R) (hF : ru_F R = 3) (h : ∀ c e f, qq_f R e → post (nI (ru_S R), nI (ru_F R), nI (ru_I R), ru_M R, ru_D R, ru_L R, ru_W R, ru_O R, ru_P R, nI (ru_C R), nI (ru_E R), nI ex, fu_M R, fu_D R, fu_W R, fu_O R, kM, kK, rd, c, eD, eI, f, e)) : ∀ (n y : Nat) (md : Int32) (dD : Nat → Int64) (yM : Nat → Int32), 100 - y < n → zp_e R (ru_S R) ≤ y → y < 100 → (y - zp_e R (ru_S R)) % ru_I R = 0 → qq_v R (zy_s y) md dD → wX_goYearly_8 post n (nI y) (nI (ru_S R)) (nI (ru_F R)) (nI (ru_I R)) (ru_M R) (ru_D R) (ru_L R) (ru_W R) (ru_O R) (ru_P R) (nI (ru_C R)) (nI (ru_E R)) (nI ex) (fu_M R) (fu_D R) (fu_W R) (fu_O R) kM kK rd md eD eI yM dD := by
  have ⟨hS, _, hI1, hI2, _, _, _, _, hC, hE⟩ := hR
  have p3 := zp_3 hF
  intro n
  induction n with
  | zero => intro y md dD yM h1; omega
  | succ n ih =>
    intro y md dD yM h1 h2 h3 h4 q
    unfold wX_goYearly_8
    refine pk_le 20 y (fun g => h _ _ _ (qq_en q (zs_lt ?_))) (fun g => ?_)
    · rw [← zy_20]; exact zy_mo g
    · have hb := zy_b (show y + 1 ≤ 20 by omega)
      have hb2 := zy_b (show y ≤ 20 by omega)
      refine xw_wanted (D := zy_s y) hR (by omega) q.1 (fun w => br_f (by decide) ?_) (fun c0 c1 => br_t rfl (h _ _ _ (qq_en q (zs_nw c0 c1))))
      unfold wpX_addYear
      have := xw_ay4 (post := fun u => match u with | (f_start, f_often, f_interval, f_monthSet, f_daySet, f_lastSet, f_weekSet, f_ordinal, f_place, f_count, f_end, f_extras, f_useMonths, f_useDays, f_useWeek, f_useOrdinal, f_keptMonth, f_keptMask, f_ready, f_made, a_extraDay, a_extraIn, a_yearMasks, a_days) => ∀ x1_54 : Int32, x1_54 = nI y + f_interval → wX_goYearly_8 post n x1_54 f_start f_often f_interval f_monthSet f_daySet f_lastSet f_weekSet f_ordinal f_place f_count f_end f_extras f_useMonths f_useDays f_useWeek f_useOrdinal f_keptMonth f_keptMask f_ready f_made a_extraDay a_extraIn a_yearMasks a_days) (ex := ex) (kM := kM) (kK := kK) (rd := rd) (eD := eD) (eI := eI) hR hF g h2 h4 q (fun a b c q2 => nm_r (nI_add _ _) (ih (y + ru_I R) a b c (by omega) (by omega) (by omega) (zz_nx h2 h4) (qq_ca _ (zy_mo (by omega)) (fun d h5 h6 => ?_) q2))) 13 0 yM (by omega) (by omega) (fun m hm => by omega)
      · rw [zy_c0] at this
        exact ⟨13, this⟩
      · rcases Nat.lt_or_ge d 7305 with z | z
        · have ⟨a1, a2, _⟩ := zk_b (zk_ex z)
          refine zz_sk h2 h4 ?_ ?_
          · rw [p3]
            rcases Nat.lt_or_ge y (zy_o d) with z2 | z2
            · exact z2
            · have := zy_mo (show zy_o d + 1 ≤ y + 1 by omega); omega
          · rw [p3]
            rcases Nat.lt_or_ge (zy_o d) (y + ru_I R) with z2 | z2
            · exact z2
            · have := zy_mo z2; omega
        · exact zc_lt z
theorem xw_goYearly {post : SX → Prop} (hR : ru_ok R) (hF : ru_F R = 3) (q : qq_v R 0 md dD) (h : ∀ c e f, qq_f R e → post (nI (ru_S R), nI (ru_F R), nI (ru_I R), ru_M R, ru_D R, ru_L R, ru_W R, ru_O R, ru_P R, nI (ru_C R), nI (ru_E R), nI ex, fu_M R, fu_D R, fu_W R, fu_O R, kM, kK, rd, c, eD, eI, f, e)) : wpX_goYearly post (nI (ru_S R), nI (ru_F R), nI (ru_I R), ru_M R, ru_D R, ru_L R, ru_W R, ru_O R, ru_P R, nI (ru_C R), nI (ru_E R), nI ex, fu_M R, fu_D R, fu_W R, fu_O R, kM, kK, rd, md, eD, eI, yM, dD) := by
  have p3 := zp_3 hF
  have hS := hR.1
  have kx := zk_ex hS
  have ⟨a1, a2, _⟩ := zk_b kx
  unfold wpX_goYearly
  refine xw_yearOf _ rfl hS ⟨101, xw_yearly8 hR hF h 101 _ md dD yM (by omega) (by rw [p3]; exact Nat.le_refl _) (by have := kx.1; omega) (by rw [p3, Nat.sub_self, Nat.zero_mod]) (qq_ca _ (by omega) (fun d h5 h6 => zz_be ?_) q)⟩
  rw [p3, p3]
  have ⟨b1, b2, _⟩ := zk_b (zk_ex (show d < 7305 by omega))
  rcases Nat.lt_or_ge (zy_o d) (zy_o (ru_S R)) with z | z
  · exact z
  · have := zy_mo z; omega
end
end
section
/-! X: prepare, and the questions -/
section
variable {R : ru_T} {ex : Nat} {kM kK rd md uM uD uW uO : Int32} {eD eI yM : Nat → Int32} {dD : Nat → Int64} {g : Nat → Bool}
theorem xw_pr93 {post : SX → Prop} (hx : eo_k ex eD eI) (h : ∀ b, xf_ok R ex eD eI b → post (nI (ru_S R), nI (ru_F R), nI (ru_I R), ru_M R, ru_D R, ru_L R, ru_W R, ru_O R, ru_P R, nI (ru_C R), nI (ru_E R), nI ex, fu_M R, fu_D R, fu_W R, fu_O R, kM, kK, rd, md, eD, eI, yM, b)) : ∀ (n k : Nat) (dD : Nat → Int64), k ≤ ex → ex - k < n → (∀ e, e < 7360 → dw_b dD e = zo_v (zs_l R) eD eI k e) → wX_prepare_93 post (nI (ru_S R)) (nI (ru_F R)) (nI (ru_I R)) (ru_M R) (ru_D R) (ru_L R) (ru_W R) (ru_O R) (ru_P R) (nI (ru_C R)) (nI (ru_E R)) (nI ex) (fu_M R) (fu_D R) (fu_W R) (fu_O R) kM kK rd md n (nI k) eD eI yM dD := by
  have hx1 := hx.1
  intro n
  induction n with
  | zero => intro k dD h1; omega
  | succ n ih =>
    intro k dD h1 h2 hb
    unfold wX_prepare_93
    rw [nI_clamp (by omega)]
    refine pk_le ex k (fun z => ?_) (fun z => ?_)
    · have e : k = ex := by omega
      subst e
      exact h _ hb
    · obtain ⟨d, hd, ed⟩ := hx.2.1 k z
      refine ⟨vp_in_nI (by omega) (by omega), nm_r ed (nm_r (e' := (1 : Int64) <<< ((nI (d % 64)).toInt64 &&& 63)) (by rw [zd_b (by omega)]) ⟨vp_in_nI (by omega) (by omega), ?_⟩)⟩
      rw [zd_w (by omega), nI_clamp (by omega)]
      have ne : ∀ e, e < 7360 → (eD k = nI e ↔ e = d) := fun e he => by
        rw [ed, nI_eq (by omega) (by omega)]
        exact ⟨fun z => z.symm, fun z => z.symm⟩
      refine br_c (fun e0 => ⟨vp_in_nI (by omega) (by omega), vp_in_nI (by omega) (by omega), nm_e (nm_r (nI_1 k) (ih (k + 1) _ (by omega) (by omega) (fun e he => ?_)))⟩) (fun e0 => ⟨vp_in_nI (by omega) (by omega), vp_in_nI (by omega) (by omega), nm_e (nm_r (nI_1 k) (ih (k + 1) _ (by omega) (by omega) (fun e he => ?_)))⟩)
      · rw [dw_clr _ he (by omega), hb e he, zo_1]
        by_cases c : e = d
        · rw [if_pos ((ne e he).mpr c), decide_eq_true c, decide_eq_false (fun z => z e0), Bool.not_true, Bool.and_false]
        · rw [if_neg (fun z => c ((ne e he).mp z)), decide_eq_false c, Bool.not_false, Bool.and_true]
      · rw [dw_set _ he (by omega), hb e he, zo_1]
        by_cases c : e = d
        · rw [if_pos ((ne e he).mpr c), decide_eq_true c, decide_eq_true e0, Bool.or_true]
        · rw [if_neg (fun z => c ((ne e he).mp z)), decide_eq_false c, Bool.or_false]
theorem xw_pr20 {post : SX → Prop} (hR : ru_ok R) (hx : eo_k ex eD eI) (h : ∀ a b c f e, xf_ok R ex eD eI e → post (nI (ru_S R), nI (ru_F R), nI (ru_I R), ru_M R, ru_D R, ru_L R, ru_W R, ru_O R, ru_P R, nI (ru_C R), nI (ru_E R), nI ex, fu_M R, fu_D R, fu_W R, fu_O R, a, b, 1, c, eD, eI, f, e)) : ∀ (n j : Nat) (dD : Nat → Int64), j ≤ 115 → 115 - j < n → (∀ i, i < j → dD i = 0) → wX_prepare_20 post (nI (ru_S R)) (nI (ru_F R)) (nI (ru_I R)) (ru_M R) (ru_D R) (ru_L R) (ru_W R) (ru_O R) (ru_P R) (nI (ru_C R)) (nI (ru_E R)) (nI ex) uM uD uW uO kM kK 1 0 n (nI j) eD eI yM dD := by
  intro n
  induction n with
  | zero => intro j dD h1; omega
  | succ n ih =>
    intro j dD h1 h2 hz
    unfold wX_prepare_20
    rw [nI_clamp (by omega)]
    refine pk_le 115 j (fun z => ?_) (fun z => ?_)
    · have q : qq_v R 0 0 dD := qq_0 (fun i hi => hz i (by omega))
      have hF := hR.2.1
      refine xw_fillIn hR ?_
      refine pk_eq (ru_F R) 0 (fun f0 => ?_) (fun f0 => pk_eq (ru_F R) 1 (fun f1 => ?_) (fun f1 => pk_eq (ru_F R) 2 (fun f2 => ?_) (fun f2 => ?_)))
      · exact xw_goDaily hR f0 (kp_0 _) q (fun a b c e qf => ⟨13, xw_pr93 hx (h a b c yM) 13 0 e (by omega) (by have := hx.1; omega) qf⟩)
      · exact xw_goWeekly hR f1 (kp_0 _) q (fun a b c e qf => ⟨13, xw_pr93 hx (h a b c yM) 13 0 e (by omega) (by have := hx.1; omega) qf⟩)
      · exact xw_goMonthly hR f2 q (fun c e qf => ⟨13, xw_pr93 hx (h (-1) kK c yM) 13 0 e (by omega) (by have := hx.1; omega) qf⟩)
      · exact xw_goYearly hR (by omega) q (fun c e f qf => ⟨13, xw_pr93 hx (h (-1) kK c f) 13 0 e (by omega) (by have := hx.1; omega) qf⟩)
    · refine ⟨vp_in_nI z (by omega), nm_e (nm_r (nI_1 j) (ih (j + 1) _ (by omega) (by omega) (fun i hi => ?_)))⟩
      by_cases e : i = j
      · rw [e, pk_uLs]
      · rw [pk_uLn e]; exact hz i (by omega)
theorem xw_prepare {post : SX → Prop} (hR : ru_ok R) (hx : eo_k ex eD eI) (hr : ¬ rd = 0 → xf_ok R ex eD eI dD) (h : ∀ uM uD uW uO kM kK rd md yM dD, xf_ok R ex eD eI dD → post (nI (ru_S R), nI (ru_F R), nI (ru_I R), ru_M R, ru_D R, ru_L R, ru_W R, ru_O R, ru_P R, nI (ru_C R), nI (ru_E R), nI ex, uM, uD, uW, uO, kM, kK, rd, md, eD, eI, yM, dD)) : wpX_prepare post (nI (ru_S R), nI (ru_F R), nI (ru_I R), ru_M R, ru_D R, ru_L R, ru_W R, ru_O R, ru_P R, nI (ru_C R), nI (ru_E R), nI ex, uM, uD, uW, uO, kM, kK, rd, md, eD, eI, yM, dD) := by
  unfold wpX_prepare
  refine br_c (fun _ => ?_) (fun z => h _ _ _ _ _ _ _ _ _ _ (hr z))
  exact ⟨116, xw_pr20 hR hx (fun a b c f e xf => h _ _ _ _ a b 1 c f e xf) 116 0 dD (by omega) (by omega) (fun i hi => by omega)⟩
theorem xw_isIn {post : Int32 → Prop} {x : Int32} (d : Nat) (hx : x = nI d) (hd : d < 7360) (h : post (zb_i (dw_b dD d))) : wpX_isIn post (nI (ru_S R), nI (ru_F R), nI (ru_I R), ru_M R, ru_D R, ru_L R, ru_W R, ru_O R, ru_P R, nI (ru_C R), nI (ru_E R), nI ex, uM, uD, uW, uO, kM, kK, rd, md, eD, eI, yM, dD) x := by
  subst hx
  unfold dw_b at h
  unfold wpX_isIn
  rw [zd_w (by omega), zd_b (by omega), nI_clamp (by omega)]
  refine ⟨vp_in_nI (by omega) (by omega), bl_br (d % 64) (by omega) _ rfl (fun hb => ?_) (fun hb => ?_)⟩
  · rw [hb] at h; exact h
  · rw [hb] at h; exact h
theorem dw_0 {i : Nat} (h : dD i = 0) {e : Nat} (he : e / 64 = i) : dw_b dD e = false := by
  unfold dw_b
  rw [he, h, bl_0]
/-- the first day from d on; 7305: none -/
theorem xw_next15 {post : Int32 → SX → Prop} (xf : ∀ e, e < 7360 → dw_b dD e = g e) (t : Nat) (gt : t < 7305 → g t = true) (ht : t ≤ 7305) (h : post (if t < 7305 then nI t else -4) (nI (ru_S R), nI (ru_F R), nI (ru_I R), ru_M R, ru_D R, ru_L R, ru_W R, ru_O R, ru_P R, nI (ru_C R), nI (ru_E R), nI ex, uM, uD, uW, uO, kM, kK, rd, md, eD, eI, yM, dD)) : ∀ n d : Nat, d < 7400 → 7400 - d < n → (d ≤ t ∨ t = 7305) → (∀ e, d ≤ e → e < t → g e = false) → wX_next_15 post (nI (ru_S R)) (nI (ru_F R)) (nI (ru_I R)) (ru_M R) (ru_D R) (ru_L R) (ru_W R) (ru_O R) (ru_P R) (nI (ru_C R)) (nI (ru_E R)) (nI ex) uM uD uW uO kM kK rd md eD eI yM dD n (nI d) := by
  intro n
  induction n with
  | zero => intro d h1 h2; omega
  | succ n ih =>
    intro d h1 h2 h3 h4
    unfold wX_next_15
    refine pk_lt 7304 d (fun z => ?_) (fun z => ?_)
    · unfold wX_next_65
      rw [if_neg (show ¬ t < 7305 by omega)] at h
      exact pk_le d 7304 (fun z2 => absurd z2 (by omega)) (fun _ => h)
    · rw [zd_w (by omega), zd_b (by omega), nI_clamp (by omega)]
      refine xw_isIn d rfl (by omega) (zb_b0 _ rfl (fun hb => ?_) (fun hb => ?_))
      · rw [xf d (by omega)] at hb
        have lt : d < t := by
          rcases Nat.lt_trichotomy d t with z2 | z2 | z2
          · exact z2
          · subst z2; rw [gt (by omega)] at hb; cases hb
          · omega
        refine pk_eq (d % 64) 0 (fun z2 => ⟨vp_in_nI (by omega) (by omega), br_c (fun w0 => ?_) (fun w0 => ?_)⟩) (fun z2 => ?_)
        · refine nm_r (nI_add d 64) (ih (d + 64) (by omega) (by omega) ?_ (fun e h5 h6 => h4 e (by omega) h6))
          by_cases z3 : t < 7305
          · refine Or.inl ?_
            rcases Nat.lt_or_ge t (d + 64) with z4 | z4
            · have := gt z3
              rw [← xf t (by omega), dw_0 w0 (by omega)] at this
              cases this
            · exact z4
          · exact Or.inr (by omega)
        · exact nm_r (nI_1 d) (ih (d + 1) (by omega) (by omega) (by omega) (fun e h5 h6 => h4 e (by omega) h6))
        · exact nm_r (nI_1 d) (ih (d + 1) (by omega) (by omega) (by omega) (fun e h5 h6 => h4 e (by omega) h6))
      · rw [xf d (by omega)] at hb
        have e : d = t := by
          rcases Nat.lt_or_ge d t with z2 | z2
          · rw [h4 d (by omega) z2] at hb; cases hb
          · omega
        subst e
        rw [if_pos (by omega)] at h
        unfold wX_next_65
        exact pk_le d 7304 (fun _ => h) (fun z2 => absurd z2 (by omega))
/-- the last day below p; t is that day plus 1, or 0 -/
theorem xw_prev15 {post : Int32 → SX → Prop} (xf : ∀ e, e < 7360 → dw_b dD e = g e) (t : Nat) (gt : 0 < t → g (t - 1) = true) (h : post (if 0 < t then nI (t - 1) else -4) (nI (ru_S R), nI (ru_F R), nI (ru_I R), ru_M R, ru_D R, ru_L R, ru_W R, ru_O R, ru_P R, nI (ru_C R), nI (ru_E R), nI ex, uM, uD, uW, uO, kM, kK, rd, md, eD, eI, yM, dD)) : ∀ n p : Nat, p ≤ 7305 → p < n → t ≤ p → (∀ e, t ≤ e → e < p → g e = false) → wX_previous_15 post (nI (ru_S R)) (nI (ru_F R)) (nI (ru_I R)) (ru_M R) (ru_D R) (ru_L R) (ru_W R) (ru_O R) (ru_P R) (nI (ru_C R)) (nI (ru_E R)) (nI ex) uM uD uW uO kM kK rd md eD eI yM dD n (nI p - 1) := by
  intro n
  induction n with
  | zero => intro p h1 h2; omega
  | succ n ih =>
    intro p h1 h2 h3 h4
    unfold wX_previous_15
    cases p with
    | zero =>
      rw [if_neg (by omega)] at h
      refine br_t (by decide) ?_
      unfold wX_previous_64
      exact br_f (by decide) h
    | succ s =>
      rw [nI_pred]
      refine br_f (nI_pos (by omega)) ?_
      rw [zd_w (by omega), zd_b (by omega), nI_clamp (by omega)]
      refine xw_isIn s rfl (by omega) (zb_b0 _ rfl (fun hb => ?_) (fun hb => ?_))
      · rw [xf s (by omega)] at hb
        have lt : t ≤ s := by
          rcases Nat.lt_or_ge s t with z2 | z2
          · have e : t = s + 1 := by omega
            subst e
            rw [show s + 1 - 1 = s from rfl] at gt
            rw [gt (by omega)] at hb; cases hb
          · exact z2
        refine pk_eq (s % 64) 63 (fun z2 => ⟨vp_in_nI (by omega) (by omega), br_c (fun w0 => ?_) (fun w0 => ?_)⟩) (fun z2 => ?_)
        · have e : nI s - 64 = nI (s - 63) - 1 := by
            obtain ⟨c, rfl⟩ : ∃ c, s = c + 63 := ⟨s - 63, by omega⟩
            rw [show c + 63 - 63 = c from rfl, ← nI_add]
            show nI c + 63 - 64 = nI c - 1
            grind
          refine nm_r e (ih (s - 63) (by omega) (by omega) ?_ (fun e h5 h6 => h4 e (by omega) (by omega)))
          rcases Nat.lt_or_ge (s - 63) t with z4 | z4
          · have := gt (by omega)
            rw [← xf (t - 1) (by omega), dw_0 w0 (by omega)] at this
            cases this
          · exact z4
        · exact nm_e (ih s (by omega) (by omega) lt (fun e h5 h6 => h4 e h5 (by omega)))
        · exact nm_e (ih s (by omega) (by omega) lt (fun e h5 h6 => h4 e h5 (by omega)))
      · rw [xf s (by omega)] at hb
        have e : t = s + 1 := by
          rcases Nat.lt_or_ge s t with z2 | z2
          · omega
          · rw [h4 s z2 (by omega)] at hb; cases hb
        subst e
        rw [if_pos (by omega)] at h
        unfold wX_previous_64
        exact br_t (nI_pos' (by omega)) h
/-! counting by words -/
theorem zc_wd (xf : ∀ e, e < 7360 → dw_b dD e = g e) {i : Nat} (hi : i < 115) {b : Nat} (hb : b ≤ 64) : zc_n g (64 * i + b) = zc_n g (64 * i) + zc_n (bl (dD i)) b := by
  rw [zc_ad]
  congr 1
  refine zc_cg b (fun s hs => ?_)
  rw [← xf _ (by omega)]
  unfold dw_b
  rw [show (64 * i + s) / 64 = i by omega, show (64 * i + s) % 64 = s by omega]
theorem xw_diw5 {post : Int32 → Prop} (xf : ∀ e, e < 7360 → dw_b dD e = g e) {i t k : Nat} (hi : i < 115) (hk : k < 2 ^ 31) (gt : g t = true) (ct : zc_n g t = k) (t1 : 64 * i ≤ t) (t2 : t < 64 * i + 64) (h : post (nI t)) : ∀ n b l : Nat, b ≤ 64 → 64 - b < n → 64 * i + b ≤ t → zc_n g (64 * i + b) + l = k → wX_dayInWord_5 post (nI i) (nI (ru_S R)) (nI (ru_F R)) (nI (ru_I R)) (ru_M R) (ru_D R) (ru_L R) (ru_W R) (ru_O R) (ru_P R) (nI (ru_C R)) (nI (ru_E R)) (nI ex) uM uD uW uO kM kK rd md eD eI yM dD n (nI l) (nI b) := by
  intro n
  induction n with
  | zero => intro b l h1 h2; omega
  | succ n ih =>
    intro b l h1 h2 h3 h4
    unfold wX_dayInWord_5
    rw [nI_clamp (by omega)]
    have eb : b < 64 → bl (dD i) b = g (64 * i + b) := fun hb => by
      rw [← xf _ (by omega)]
      unfold dw_b
      rw [show (64 * i + b) / 64 = i by omega, show (64 * i + b) % 64 = b by omega]
    refine pk_le 64 b (fun z => absurd z (by omega)) (fun z => ⟨vp_in_nI hi (by omega), bl_br b z _ rfl (fun hb => ?_) (fun hb => ?_)⟩)
    · rw [eb z] at hb
      refine pk_eq l 0 (fun l0 => ?_) (fun l0 => ?_)
      · have e : t = 64 * i + b := by
          rcases Nat.lt_or_ge (64 * i + b) t with z2 | z2
          · have a := zc_st hb
            have c := zc_mo (f := g) (show 64 * i + b + 1 ≤ t by omega)
            omega
          · omega
        have e2 : nI i * 64 + nI b = nI t := by
          show nI i * nI 64 + nI b = nI t
          rw [pk_mul, nI_add, e]
          exact congrArg nI (by omega)
        rw [e2]; exact h
      · have a := zc_st hb
        obtain ⟨c, rfl⟩ : ∃ c, l = c + 1 := ⟨l - 1, by omega⟩
        refine nm_r (pk_m1 c) (nm_r (nI_1 b) (ih (b + 1) c (by omega) (by omega) ?_ (by rw [← Nat.add_assoc, a]; omega)))
        rcases Nat.lt_or_ge (64 * i + b) t with z2 | z2
        · omega
        · have e : t = 64 * i + b := by omega
          rw [e] at ct
          omega
    · rw [eb z] at hb
      have a := zc_sf hb
      refine nm_r (nI_1 b) (ih (b + 1) l (by omega) (by omega) ?_ (by rw [← Nat.add_assoc, a]; exact h4))
      rcases Nat.lt_or_ge (64 * i + b) t with z2 | z2
      · omega
      · have e : t = 64 * i + b := by omega
        rw [e, hb] at gt
        cases gt
/-- the day before which there are just k; 7360: none -/
theorem xw_nth15 {post : Int32 → SX → Prop} (xf : ∀ e, e < 7360 → dw_b dD e = g e) {t k : Nat} (hk : k < 2 ^ 31) (ht : t ≤ 7360) (gt : t < 7360 → g t = true ∧ zc_n g t = k) (gn : t = 7360 → zc_n g 7360 ≤ k) (h : post (if t < 7360 then nI t else -4) (nI (ru_S R), nI (ru_F R), nI (ru_I R), ru_M R, ru_D R, ru_L R, ru_W R, ru_O R, ru_P R, nI (ru_C R), nI (ru_E R), nI ex, uM, uD, uW, uO, kM, kK, rd, md, eD, eI, yM, dD)) : ∀ n i l : Nat, i ≤ 115 → 115 - i < n → 64 * i ≤ t → zc_n g (64 * i) + l = k → wX_nth_15 post (nI (ru_S R)) (nI (ru_F R)) (nI (ru_I R)) (ru_M R) (ru_D R) (ru_L R) (ru_W R) (ru_O R) (ru_P R) (nI (ru_C R)) (nI (ru_E R)) (nI ex) uM uD uW uO kM kK rd md eD eI yM dD n (nI l) (nI i) := by
  intro n
  induction n with
  | zero => intro i l h1 h2; omega
  | succ n ih =>
    intro i l h1 h2 h3 h4
    unfold wX_nth_15
    rw [nI_clamp (by omega)]
    refine pk_le 115 i (fun z => ?_) (fun z => ⟨vp_in_nI z (by omega), ?_⟩)
    · rw [if_neg (by omega)] at h
      exact h
    · have hw := zc_wd xf z (b := 64) (by omega)
      have hb := bq_le (dD i)
      change zc_n g (64 * i + 64) = zc_n g (64 * i) + bq_c (dD i) at hw
      refine xw_longBits _ (pk_le (bq_c (dD i)) l (fun z2 => ?_) (fun z2 => ?_))
      · refine nm_r (pk_sub z2) (nm_r (nI_1 i) (ih (i + 1) (l - bq_c (dD i)) (by omega) (by omega) ?_ ?_))
        · rcases Nat.lt_or_ge t (64 * i + 64) with z3 | z3
          · have ⟨c1, c2⟩ := gt (by omega)
            have a := zc_st c1
            have c := zc_mo (f := g) (show t + 1 ≤ 64 * i + 64 by omega)
            omega
          · omega
        · rw [show 64 * (i + 1) = 64 * i + 64 by omega, hw]
          omega
      · have lt : t < 64 * i + 64 := by
          rcases Nat.lt_or_ge t (64 * i + 64) with z3 | z3
          · exact z3
          · have c := zc_mo (f := g) z3
            by_cases e : t = 7360
            · have := gn e
              rw [e] at c
              omega
            · have := (gt (by omega)).2
              omega
        rw [if_pos (by omega)] at h
        have ⟨c1, c2⟩ := gt (by omega)
        unfold wpX_dayInWord
        exact ⟨65, xw_diw5 (post := fun r => post r (nI (ru_S R), nI (ru_F R), nI (ru_I R), ru_M R, ru_D R, ru_L R, ru_W R, ru_O R, ru_P R, nI (ru_C R), nI (ru_E R), nI ex, uM, uD, uW, uO, kM, kK, rd, md, eD, eI, yM, dD)) xf z hk c1 c2 h3 lt h 65 0 l (by omega) (by omega) (by omega) h4⟩
theorem bq_mk (w : Int64) {k : Nat} (hk : k < 64) : bq_c (w &&& ((1 : Int64) <<< ((nI k).toInt64 &&& 63) - 1)) = zc_n (bl w) k := by
  unfold bq_c
  rw [zc_fl (a := k) 64 (by omega) (fun i h1 h2 => by rw [bl_and, bl_mk k hk i h2, decide_eq_false (by omega), Bool.and_false])]
  exact zc_cg k (fun i hi => by rw [bl_and, bl_mk k hk i (by omega), decide_eq_true hi, Bool.and_true])
theorem bq_0 : bq_c 0 = 0 := zc_z 64 (fun i _ => bl_0 i)
theorem xw_db4 {post : Int32 → Prop} (xf : ∀ e, e < 7360 → dw_b dD e = g e) {d : Nat} (hd : d ≤ 7305) (h : post (nI (zc_n g d))) : ∀ n i : Nat, i ≤ d / 64 → d / 64 - i < n → wX_daysBefore_4 post (nI d) (nI (ru_S R)) (nI (ru_F R)) (nI (ru_I R)) (ru_M R) (ru_D R) (ru_L R) (ru_W R) (ru_O R) (ru_P R) (nI (ru_C R)) (nI (ru_E R)) (nI ex) uM uD uW uO kM kK rd md eD eI yM dD n (nI (zc_n g (64 * i))) (nI i) := by
  intro n
  induction n with
  | zero => intro i h1 h2; omega
  | succ n ih =>
    intro i h1 h2
    unfold wX_daysBefore_4
    rw [zd_w (by omega), zd_b (by omega), nI_clamp (by omega), nI_clamp (by omega)]
    refine pk_le (d / 64) i (fun z => ?_) (fun z => ⟨vp_in_nI (by omega) (by omega), ?_⟩)
    · have e : i = d / 64 := by omega
      subst e
      have hw := zc_wd xf (i := d / 64) (by omega) (b := d % 64) (by omega)
      rw [show 64 * (d / 64) + d % 64 = d by omega] at hw
      rw [hw] at h
      refine pk_eq (d % 64) 0 (fun z2 => ?_) (fun z2 => ⟨vp_in_nI (by omega) (by omega), ?_⟩)
      · unfold wX_daysBefore_59
        refine xw_longBits _ ?_
        rw [bq_0, nI_add]
        rw [z2] at h
        exact h
      · unfold wX_daysBefore_59
        refine xw_longBits _ ?_
        rw [bq_mk _ (by omega), nI_add]
        exact h
    · have hw := zc_wd xf (i := i) (by omega) (b := 64) (by omega)
      refine xw_longBits _ (nm_r (e' := nI (zc_n g (64 * (i + 1)))) ?_ (nm_r (nI_1 i) (ih (i + 1) (by omega) (by omega))))
      rw [nI_add, show 64 * (i + 1) = 64 * i + 64 by omega, hw]
      rfl
theorem xw_daysBefore {post : Int32 → Prop} {x : Int32} (xf : ∀ e, e < 7360 → dw_b dD e = g e) (d : Nat) (hx : x = nI d) (hd : d ≤ 7305) (h : post (nI (zc_n g d))) : wpX_daysBefore post (nI (ru_S R), nI (ru_F R), nI (ru_I R), ru_M R, ru_D R, ru_L R, ru_W R, ru_O R, ru_P R, nI (ru_C R), nI (ru_E R), nI ex, uM, uD, uW, uO, kM, kK, rd, md, eD, eI, yM, dD) x := by
  subst hx
  unfold wpX_daysBefore
  exact ⟨d / 64 + 1, xw_db4 xf hd h (d / 64 + 1) 0 (by omega) (by omega)⟩
end
end
section
/-! Y: the calendar's tables, candidates -/
def tb_ok (tY tM tD : Nat → Int32) : Prop := ∀ d, d < 7305 → tY d = nI (zy_o d) ∧ tM d = nI (zm_o d + 1) ∧ tD d = nI (zd_o d + 1)
theorem yw_length {post : Int32 → Prop} {v : SY} {x z : Int32} (y m : Nat) (hx : x = nI y) (hz : z = nI (m + 1)) (hy : y < 1000) (hm : m < 1000) (h : post (nI (zm_l y m))) : wpY_length post v x z := by
  obtain ⟨a1, a2, a3, a4, a5, a6, a7, a8, a9, a10, a11, a12, a13, a14, a15, a16, a17, a18, a19, a20⟩ := v
  subst hx hz
  unfold wpY_length
  unfold zm_l at h
  refine pk_eq (m + 1) 2 (fun e => ⟨by decide, ?_⟩) (fun e => ?_)
  · rw [if_pos (by omega)] at h
    have e4 : nI y - nI y / 4 * 4 = nI (y % 4) := pk_rem (d := 4) (by omega) (by omega) (by omega)
    rw [e4]
    refine pk_eq (y % 4) 0 (fun g => ?_) (fun g => ?_)
    · rw [if_pos g] at h; exact h
    · rw [if_neg g] at h; exact h
  · rw [if_neg (by omega)] at h
    refine pk_eq (m + 1) 4 (fun e3 => ?_) (fun e3 => pk_eq (m + 1) 6 (fun e5 => ?_) (fun e5 => pk_eq (m + 1) 9 (fun e8 => ?_) (fun e8 => pk_eq (m + 1) 11 (fun e10 => ?_) (fun e10 => ?_))))
    · rw [if_pos (by omega)] at h; exact h
    · rw [if_pos (by omega)] at h; exact h
    · rw [if_pos (by omega)] at h; exact h
    · rw [if_pos (by omega)] at h; exact h
    · rw [if_neg (by omega)] at h; exact h
theorem yw_init86 {post : SY → Prop} {f1 f2 f3 f4 f5 f6 f7 f8 f9 f10 f11 f12 f13 : Int32} {b1 b2 b3 b4 : Nat → Int32} (h : ∀ tY tM tD, tb_ok tY tM tD → post (f1, f2, f3, f4, f5, f6, f7, f8, f9, f10, f11, f12, f13, tY, tM, tD, b1, b2, b3, b4)) : ∀ (n d y m t : Nat) (tY tM tD : Nat → Int32), d ≤ 7305 → 7305 - d < n → m < 12 → t < zm_l y m → y ≤ 20 → d = zm_s y m + t → (∀ e, e < d → tY e = nI (zy_o e) ∧ tM e = nI (zm_o e + 1) ∧ tD e = nI (zd_o e + 1)) → wY_init_86 post f1 f2 f3 f4 f5 f6 f7 f8 f9 f10 f11 f12 f13 n (nI y) (nI (m + 1)) (nI (t + 1)) (nI d) tY tM tD b1 b2 b3 b4 := by
  intro n
  induction n with
  | zero => intro d y m t tY tM tD h1 h2; omega
  | succ n ih =>
    intro d y m t tY tM tD h1 h2 hm ht hy hd hT
    have hl := zm_lr y m
    unfold wY_init_86
    rw [nI_clamp (by omega)]
    refine pk_le 7305 d (fun g => ?_) (fun g => ?_)
    · have e : d = 7305 := by omega
      rw [e] at hT
      exact h _ _ _ hT
    · have hy2 : y < 20 := by
        rcases Nat.lt_or_ge y 20 with z | z
        · exact z
        · have a := zm_ge y m
          have b := zy_mo z
          rw [zy_20] at b
          omega
      have kd : zk_d d y m t := ⟨hy2, hm, ht, hd⟩
      have ⟨u1, u2, u3⟩ := zk_un kd
      have hT2 : ∀ e, e < d + 1 → upd tY d (nI y) e = nI (zy_o e) ∧ upd tM d (nI (m + 1)) e = nI (zm_o e + 1) ∧ upd tD d (nI (t + 1)) e = nI (zd_o e + 1) := by
        intro e he
        by_cases z : e = d
        · rw [z, pk_us, pk_us, pk_us, u1, u2, u3]
          exact ⟨rfl, rfl, rfl⟩
        · rw [pk_un z, pk_un z, pk_un z]
          exact hT e (by omega)
      have s1 := zm_s1 y m
      refine ⟨vp_in_nI g (by omega), nm_e ⟨vp_in_nI g (by omega), nm_e ⟨vp_in_nI g (by omega), nm_e (nm_r (nI_1 (t + 1)) (yw_length y m rfl rfl (by omega) (by omega) (pk_le (t + 2) (zm_l y m) (fun z => ?_) (fun z => ?_))))⟩⟩⟩
      · unfold wY_init_136
        refine pk_le (m + 1) 12 (fun _ => nm_r (nI_1 d) (ih (d + 1) y m (t + 1) _ _ _ (by omega) (by omega) hm (by omega) hy (by omega) hT2)) (fun z2 => absurd z2 (by omega))
      · refine nm_r (nI_1 (m + 1)) ?_
        unfold wY_init_136
        have hl2 := zm_lr y (m + 1)
        have hl3 := zm_lr (y + 1) 0
        refine pk_le (m + 2) 12 (fun z2 => nm_r (nI_1 d) (ih (d + 1) y (m + 1) 0 _ _ _ (by omega) (by omega) (by omega) (by omega) hy (by omega) hT2)) (fun z2 => nm_r (nI_1 y) (nm_r (nI_1 d) (ih (d + 1) (y + 1) 0 0 _ _ _ (by omega) (by omega) (by omega) (by omega) (by omega) ?_ hT2)))
        have e11 : m = 11 := by omega
        subst e11
        have e12 : zm_s y (11 + 1) = zy_s (y + 1) := zm_12 y
        show d + 1 = zy_s (y + 1) + 0
        omega
theorem yw_init {post : SY → Prop} (h : ∀ tY tM tD, tb_ok tY tM tD → post (0, 0, 1, 0, 0, 0, 0, 0, 0, 0, 7304, 0, 0, tY, tM, tD, (fun _ => 0), (fun _ => 0), (fun _ => 0), (fun _ => 0))) : wpY_init post := by
  have := zm_lr 0 0
  unfold wpY_init
  exact ⟨7306, yw_init86 h 7306 0 0 0 0 _ _ _ (by omega) (by omega) (by omega) (by omega) (by omega) (by decide) (fun e he => by omega)⟩
theorem yw_isDay {post : Int32 → Prop} {v : SY} {x : Int32} (hg : ∀ d, d < 7305 → x = nI d → post 1) (hb : (¬ ∃ d, d < 7305 ∧ x = nI d) → post 0) : wpY_isDay post v x := by
  obtain ⟨a1, a2, a3, a4, a5, a6, a7, a8, a9, a10, a11, a12, a13, a14, a15, a16, a17, a18, a19, a20⟩ := v
  unfold wpY_isDay
  refine br_c (fun h => hb ?_) (fun h => ?_)
  · intro ⟨d, hd, e⟩
    rw [e] at h
    exact nI_pos (by omega) h
  · obtain ⟨j, hj, rfl⟩ := nI_of h
    refine pk_le 7305 j (fun h2 => hb ?_) (fun h2 => hg j (by omega) rfl)
    intro ⟨d, hd, e⟩
    have := (nI_eq hj (by omega)).mp e
    omega
theorem yw_isDay1 {post : Int32 → Prop} {v : SY} {x : Int32} (d : Nat) (hx : x = nI d) (hd : d < 7305) (h : post 1) : wpY_isDay post v x :=
  yw_isDay (fun _ _ _ => h) (fun z => absurd ⟨d, hd, hx⟩ z)
theorem yw_weekday {post : Int32 → Prop} {v : SY} {x : Int32} (d : Nat) (hx : x = nI d) (hd : d < 7305) (h : post (nI ((d + 5) % 7))) : wpY_weekday post v x := by
  obtain ⟨a1, a2, a3, a4, a5, a6, a7, a8, a9, a10, a11, a12, a13, a14, a15, a16, a17, a18, a19, a20⟩ := v
  subst hx
  unfold wpY_weekday
  refine yw_isDay1 d rfl hd (br_f (by decide) ?_)
  rw [zw_7 (by omega)]
  exact ⟨by decide, h⟩
theorem yw_firstOfYear {post : Int32 → Prop} {v : SY} {x : Int32} (y : Nat) (hx : x = nI y) (hy : y < 1000) (h : post (nI (zy_s y))) : wpY_firstOfYear post v x := by
  obtain ⟨a1, a2, a3, a4, a5, a6, a7, a8, a9, a10, a11, a12, a13, a14, a15, a16, a17, a18, a19, a20⟩ := v
  subst hx
  unfold wpY_firstOfYear
  rw [zw_ys hy]
  exact ⟨by decide, h⟩
theorem yw_ones4 {post : Int32 → Prop} {f1 f2 f3 f4 f5 f6 f7 f8 f9 f10 f11 f12 f13 : Int32} {b1 b2 b3 b4 b5 b6 b7 : Nat → Int32} (x : Int32) (h : post (nI (bp_c x))) : ∀ n j : Nat, j ≤ 32 → 32 - j < n → wY_ones_4 post x f1 f2 f3 f4 f5 f6 f7 f8 f9 f10 f11 f12 f13 b1 b2 b3 b4 b5 b6 b7 n (nI (zc_n (bt x) j)) (nI j) := by
  intro n
  induction n with
  | zero => intro j h1 h2; omega
  | succ n ih =>
    intro j h1 h2
    unfold wY_ones_4
    refine pk_le 32 j (fun h3 => ?_) (fun h3 => ?_)
    · have e : j = 32 := by omega
      subst e; exact h
    · refine nm_r (e' := nI (zc_n (bt x) (j + 1))) ?_ (nm_r (nI_1 j) (ih (j + 1) (by omega) (by omega)))
      rw [ba_u j h3]
      exact zc_i _ _
theorem yw_ones {post : Int32 → Prop} {v : SY} (x : Int32) (h : post (nI (bp_c x))) : wpY_ones post v x := by
  obtain ⟨a1, a2, a3, a4, a5, a6, a7, a8, a9, a10, a11, a12, a13, a14, a15, a16, a17, a18, a19, a20⟩ := v
  unfold wpY_ones
  exact ⟨33, yw_ones4 x h 33 0 (by omega) (by omega)⟩
/-! a set of X and the same set of Y, one bit higher -/
def sh_k (x y : Int32) : Prop := bt x 31 = false ∧ bt y 0 = false ∧ ∀ i, i < 31 → bt y (i + 1) = bt x i
theorem sh_or {a b c d : Int32} (h : sh_k a b) (k : sh_k c d) : sh_k (a ||| c) (b ||| d) := by
  refine ⟨?_, ?_, fun i hi => ?_⟩
  · rw [b_or, h.1, k.1]; rfl
  · rw [b_or, h.2.1, k.2.1]; rfl
  · rw [b_or, b_or, h.2.2 i hi, k.2.2 i hi]
theorem sh_0 {x y : Int32} (h : sh_k x y) : y = 0 ↔ x = 0 := by
  rw [ba_z, ba_z]
  constructor
  · intro z i hi
    by_cases e : i = 31
    · rw [e]; exact h.1
    · rw [← h.2.2 i (by omega)]; exact z (i + 1) (by omega)
  · intro z i hi
    cases i with
    | zero => exact h.2.1
    | succ i => rw [h.2.2 i (by omega)]; exact z i (by omega)
theorem sh_c {x y : Int32} (h : sh_k x y) : bp_c y = bp_c x := by
  unfold bp_c
  rw [show (32 : Nat) = 1 + 31 from rfl, zc_ad (bt y) 1 31, show (1 + 31 : Nat) = 31 + 1 from rfl, zc_sf h.1, show zc_n (bt y) 1 = 0 from zc_z 1 (fun i hi => by rw [show i = 0 by omega]; exact h.2.1), Nat.zero_add]
  exact zc_cg 31 (fun i hi => by rw [Nat.add_comm]; exact h.2.2 i hi)
section
variable {R : ru_T} {ex : Nat} {gM gD gL kn : Int32} {tY tM tD eD eI cA dY : Nat → Int32}
def yp_e (R : ru_T) (d : Nat) : Nat := if ru_F R = 2 then zp_e R d + 1 else zp_e R d
theorem zp_b {R : ru_T} {d : Nat} (hd : d < 7305) : zp_e R d < 7400 := by
  have a := (zq_b hd).2.2
  have b := (zk_ex hd).1
  unfold zp_e
  split
  · omega
  · split
    · omega
    · split <;> omega
theorem yp_b {R : ru_T} {d : Nat} (hd : d < 7305) : yp_e R d < 7401 := by
  have := zp_b (R := R) hd
  unfold yp_e
  split <;> omega
theorem yp_eq {R : ru_T} {d e : Nat} : yp_e R d = yp_e R e ↔ zp_e R d = zp_e R e := by
  unfold yp_e
  split <;> omega
theorem yp_lt {R : ru_T} {d e : Nat} : yp_e R d < yp_e R e ↔ zp_e R d < zp_e R e := by
  unfold yp_e
  split <;> omega
theorem yp_sub {R : ru_T} {d e : Nat} : yp_e R d - yp_e R e = zp_e R d - zp_e R e := by
  unfold yp_e
  split <;> omega
theorem yw_period {post : Int32 → Prop} {x : Int32} (d : Nat) (hx : x = nI d) (hd : d < 7305) (hR : ru_ok R) (tb : tb_ok tY tM tD) (h : post (nI (yp_e R d))) : wpY_period post (nI (ru_S R), nI (ru_F R), nI (ru_I R), gM, gD, gL, ru_W R, ru_O R, ru_P R, nI (ru_C R), nI (ru_E R), nI ex, kn, tY, tM, tD, eD, eI, cA, dY) x := by
  subst hx
  have ⟨t1, t2, t3⟩ := tb d hd
  have ⟨k1, k2, _⟩ := zk_ex hd
  have hF := hR.2.1
  unfold wpY_period
  rw [nI_clamp (by omega)]
  unfold yp_e at h
  refine pk_eq (ru_F R) 0 (fun f0 => ?_) (fun f0 => pk_eq (ru_F R) 1 (fun f1 => ⟨by decide, ?_⟩) (fun f1 => pk_eq (ru_F R) 2 (fun f2 => ⟨vp_in_nI hd (by omega), vp_in_nI hd (by omega), ?_⟩) (fun f2 => ⟨vp_in_nI hd (by omega), ?_⟩)))
  · rw [if_neg (by omega), zp_0 f0] at h
    exact h
  · rw [if_neg (by omega), zp_1 f1] at h
    have e : (nI d + 5) / 7 = nI ((d + 5) / 7) := by
      show (nI d + nI 5) / nI 7 = _
      rw [nI_add, pk_div (by omega) (by omega) (by omega)]
    rw [e]; exact h
  · rw [if_pos f2, zp_2 f2] at h
    have e : tY d * 12 + tM d = nI (zq_o d + 1) := by
      rw [t1, t2]
      show nI (zy_o d) * nI 12 + nI (zm_o d + 1) = _
      rw [pk_mul, nI_add]
      rfl
    rw [e]; exact h
  · rw [if_neg (by omega), zp_3 (by omega)] at h
    rw [t1]; exact h
theorem yw_rk112 {post : Int32 → Prop} {x z : Int32} (sz ix : Nat) (hx : x = nI sz) (hz : z = nI ix) (h1 : ix < sz) (h2 : sz < 1000) (hR : ru_ok R) (h0 : ru_O R ≠ 0) (h : post (zb_i (rk_o (ru_O R).toInt sz ix))) : wY_ranks_112 post x z (nI (ru_S R)) (nI (ru_F R)) (nI (ru_I R)) gM gD gL (ru_W R) (ru_O R) (ru_P R) (nI (ru_C R)) (nI (ru_E R)) (nI ex) kn tY tM tD eD eI cA dY := by
  subst hx hz
  have ⟨_, _, _, _, o1, o2, _⟩ := hR
  have n0 : (ru_O R).toInt ≠ 0 := fun e => h0 (Int32.toInt_inj.mp e)
  unfold wY_ranks_112
  unfold rk_o at h
  refine br_c (fun g => ⟨by decide, ?_⟩) (fun g => ⟨by decide, ?_⟩)
  · rw [Int32.le_iff_toInt_le] at g
    change (ru_O R).toInt ≤ 0 at g
    rw [if_neg (by omega)] at h
    have e : ((nI sz - 1) - nI ix) / 7 + 1 = nI ((sz - 1 - ix) / 7 + 1) := by
      show ((nI sz - nI 1) - nI ix) / nI 7 + nI 1 = _
      rw [pk_sub (by omega), pk_sub (by omega), pk_div (by omega) (by omega) (by omega), nI_add]
    have e2 := nI_toInt (show (sz - 1 - ix) / 7 + 1 < 2 ^ 31 by omega)
    have e3 := zi_neg (x := ru_O R) (by omega) (by omega)
    rw [e]
    refine br_c (fun z => ?_) (fun z => ?_)
    · rw [zb_d (by rw [← e2, z, e3])] at h
      exact h
    · rw [zb_dn (fun w => z (Int32.toInt_inj.mp (by rw [e2, w, e3])))] at h
      exact h
  · rw [Int32.le_iff_toInt_le] at g
    change ¬ (ru_O R).toInt ≤ 0 at g
    rw [if_pos (by omega)] at h
    have e : nI ix / 7 + 1 = nI (ix / 7 + 1) := by
      show nI ix / nI 7 + nI 1 = _
      rw [pk_div (by omega) (by omega) (by omega), nI_add]
    have e2 := nI_toInt (show ix / 7 + 1 < 2 ^ 31 by omega)
    rw [e]
    refine br_c (fun z => ?_) (fun z => ?_)
    · rw [zb_d (by rw [← e2, z])] at h
      exact h
    · rw [zb_dn (fun w => z (Int32.toInt_inj.mp (by rw [e2, w])))] at h
      exact h
theorem yw_rk37 {post : Int32 → Prop} {d : Nat} (hd : d < 7305) (b : Bool) (hb : b = true ↔ (ru_F R = 3 ∧ ru_M R = 0)) (hF : 2 ≤ ru_F R) (hR : ru_ok R) (tb : tb_ok tY tM tD) (h0 : ru_O R ≠ 0) (h : post (zb_i (rk_m R (zy_o d) (zm_o d) (zd_o d)))) : wY_ranks_37 post (nI d) (zb_i b) (nI (ru_S R)) (nI (ru_F R)) (nI (ru_I R)) gM gD gL (ru_W R) (ru_O R) (ru_P R) (nI (ru_C R)) (nI (ru_E R)) (nI ex) kn tY tM tD eD eI cA dY := by
  have ⟨t1, t2, t3⟩ := tb d hd
  have kx := zk_ex hd
  have ⟨k1, k2, k3, k4⟩ := kx
  have ⟨b1, b2, b3, b4, b5⟩ := zk_b kx
  have hl := zm_lr (zy_o d) (zm_o d)
  have eo : fu_O R = ru_O R := if_neg (by omega)
  have h0' : fu_O R ≠ 0 := by rw [eo]; exact h0
  have y1 : zy_s (zy_o d + 1) ≤ zy_s (zy_o d) + 366 := by unfold zy_s; omega
  have y2 := zy_b (show zy_o d + 1 ≤ 20 by omega)
  unfold wY_ranks_37
  rw [nI_clamp (by omega), t1, t2]
  refine zb_b0 b rfl (fun hf => ?_) (fun ht => ?_)
  · have hn : ¬ (ru_F R = 3 ∧ ru_M R = 0) := fun z => (by rw [hb.mpr z] at hf; cases hf)
    have er : rk_m R (zy_o d) (zm_o d) (zd_o d) = rk_o (ru_O R).toInt (zm_l (zy_o d) (zm_o d)) (zd_o d) := by
      unfold rk_m
      rw [decide_eq_false h0', Bool.false_or, if_neg hn, eo]
    rw [er] at h
    refine ⟨vp_in_nI hd (by omega), vp_in_nI hd (by omega), yw_length (zy_o d) (zm_o d) rfl rfl (by omega) (by omega) ?_⟩
    unfold wY_ranks_84
    rw [nI_clamp (by omega), t3, hf]
    exact br_t rfl ⟨vp_in_nI hd (by omega), yw_rk112 _ _ rfl (nI_pred _) k3 (by omega) hR h0 h⟩
  · have hn := hb.mp ht
    have er : rk_m R (zy_o d) (zm_o d) (zd_o d) = rk_o (ru_O R).toInt (zy_s (zy_o d + 1) - zy_s (zy_o d)) (d - zy_s (zy_o d)) := by
      unfold rk_m
      rw [decide_eq_false h0', Bool.false_or, if_pos hn, eo, ← k4]
    rw [er] at h
    refine ⟨vp_in_nI hd (by omega), yw_firstOfYear (zy_o d + 1) (nI_1 _) (by omega) ⟨vp_in_nI hd (by omega), yw_firstOfYear (zy_o d) rfl (by omega) ?_⟩⟩
    unfold wY_ranks_84
    rw [nI_clamp (by omega), t1, ht]
    exact br_f (by decide) ⟨vp_in_nI hd (by omega), yw_firstOfYear (zy_o d) rfl (by omega) (yw_rk112 _ _ (pk_sub (by omega)) (pk_sub (by omega)) (by omega) (by omega) hR h0 h)⟩
theorem yw_ranks {post : Int32 → Prop} {d : Nat} (hd : d < 7305) (hR : ru_ok R) (hM : sh_k (ru_M R) gM) (tb : tb_ok tY tM tD) (h : post (zb_i (rk_m R (zy_o d) (zm_o d) (zd_o d)))) : wpY_ranks post (nI (ru_S R), nI (ru_F R), nI (ru_I R), gM, gD, gL, ru_W R, ru_O R, ru_P R, nI (ru_C R), nI (ru_E R), nI ex, kn, tY, tM, tD, eD, eI, cA, dY) (nI d) := by
  have hF := hR.2.1
  have one : fu_O R = 0 → post 1 := fun z => by
    unfold rk_m at h
    rw [decide_eq_true z, Bool.true_or] at h
    exact h
  unfold wpY_ranks
  refine br_c (fun e => one ?_) (fun e => ?_)
  · unfold fu_O
    split
    · rfl
    · exact e
  · refine pk_le 2 (ru_F R) (fun g => pk_eq (ru_F R) 3 (fun f3 => br_c (fun m0 => ?_) (fun m0 => ?_)) (fun f3 => ?_)) (fun g => one (if_pos g))
    · exact yw_rk37 hd true ⟨fun _ => ⟨f3, (sh_0 hM).mp m0⟩, fun _ => rfl⟩ g hR tb e h
    · unfold wY_ranks_36
      exact yw_rk37 hd false ⟨fun z => (by cases z), fun z => absurd ((sh_0 hM).mpr z.2) m0⟩ g hR tb e h
    · unfold wY_ranks_36
      exact yw_rk37 hd false ⟨fun z => (by cases z), fun z => absurd z.1 f3⟩ g hR tb e h
end
end
section
/-! Y: candidates, ranks, the days -/
section
variable {R : ru_T} {ex : Nat} {gM gD gL kn : Int32} {tY tM tD eD eI cA dY : Nat → Int32}
theorem or_0 {a b : Int32} (h : (a ||| b) = 0) : a = 0 ∧ b = 0 := by
  rw [ba_z] at h
  constructor
  · rw [ba_z]
    intro i hi
    have := h i hi
    rw [b_or] at this
    exact (Bool.or_eq_false_iff.mp this).1
  · rw [ba_z]
    intro i hi
    have := h i hi
    rw [b_or] at this
    exact (Bool.or_eq_false_iff.mp this).2
theorem sh_n0 {n : Nat} (hn : n < 32) : ¬ ((1 : Int32) <<< (nI n &&& 31)) = 0 := by
  intro z
  have := ba_z.mp z n hn
  rw [ba_sh n hn hn, decide_eq_true rfl] at this
  cases this
theorem yw_134 {post : Int32 → Prop} {d : Nat} (hd : d < 7305) (hR : ru_ok R) (hM : sh_k (ru_M R) gM) (tb : tb_ok tY tM tD) (b : Bool) (hb : b = true ↔ ¬ (ru_D R ||| ru_L R) = 0) (hA : (decide (ru_M R = 0) || bt (ru_M R) (zm_o d)) = true) (hB : (decide ((ru_D R ||| ru_L R) = 0) || (bt (ru_D R) (zd_o d) || bt (ru_L R) (zm_l (zy_o d) (zm_o d) - 1 - zd_o d))) = true) (h : post (zb_i (zp_d R d))) : wY_isCandidate_134 post (nI d) (zb_i b) (nI (ru_S R)) (nI (ru_F R)) (nI (ru_I R)) gM gD gL (ru_W R) (ru_O R) (ru_P R) (nI (ru_C R)) (nI (ru_E R)) (nI ex) kn tY tM tD eD eI cA dY := by
  have ⟨hS, hF, _⟩ := hR
  have ⟨t1, t2, t3⟩ := tb d hd
  have ⟨s1, s2, s3⟩ := tb (ru_S R) hS
  have ⟨k1, k2, k3, k4⟩ := zk_ex hd
  have ⟨l1, l2, l3, l4⟩ := zk_ex hS
  have hl := zm_lr (zy_o d) (zm_o d)
  have hl2 := zm_lr (zy_o (ru_S R)) (zm_o (ru_S R))
  have ee : ∀ x, (x = 0 → x ||| ru_W R = 0 → ru_W R = 0) := fun x _ z => (or_0 z).2
  unfold zp_d at h
  unfold wY_isCandidate_134
  rw [nI_clamp (by omega), nI_clamp (by omega)]
  refine br_c (fun w0 => ?_) (fun w0 => ?_)
  · refine zb_b0 b rfl (fun bf => ?_) (fun bt' => ?_)
    · have dl : (ru_D R ||| ru_L R) = 0 := by
        by_cases z : (ru_D R ||| ru_L R) = 0
        · exact z
        · rw [hb.mpr z] at bf; cases bf
      have em : ((ru_D R ||| ru_L R) ||| ru_W R) = 0 := by rw [dl, w0]; decide
      refine pk_eq (ru_F R) 0 (fun f0 => ?_) (fun f0 => pk_eq (ru_F R) 1 (fun f1 => ?_) (fun f1 => ⟨vp_in_nI hd (by omega), vp_in_nI hS (by omega), ?_⟩))
      · unfold zp_m at h
        rw [show fu_M R = ru_M R from if_neg (by omega), show fu_D R = ru_D R from if_neg (by omega), show fu_W R = ru_W R from if_neg (by omega), hA, decide_eq_true dl, decide_eq_true w0, Bool.true_or, Bool.true_or] at h
        exact h
      · unfold zp_m at h
        have ro : rk_m R (zy_o d) (zm_o d) (zd_o d) = true := by
          unfold rk_m
          rw [decide_eq_true (show fu_O R = 0 from if_pos (by omega)), Bool.true_or]
        rw [show fu_M R = ru_M R from if_neg (by omega), show fu_D R = ru_D R from if_neg (by omega), show fu_W R = (1 : Int32) <<< (nI ((ru_S R + 5) % 7) &&& 31) from if_pos ⟨em, f1⟩, hA, decide_eq_true dl, Bool.true_or, decide_eq_false (sh_n0 (by omega)), ba_sh _ (by omega) (by omega), ro, ← k4, Bool.true_and, Bool.true_and, Bool.false_or, Bool.and_true] at h
        refine yw_weekday d rfl hd (yw_weekday (ru_S R) rfl hS (pk_eq ((d + 5) % 7) ((ru_S R + 5) % 7) (fun e => ?_) (fun e => ?_)))
        · rw [zb_d e] at h; exact h
        · rw [zb_dn e] at h; exact h
      · have l0 := (or_0 dl).2
        have eD' : fu_D R = (1 : Int32) <<< (nI (zd_o (ru_S R)) &&& 31) := if_pos ⟨em, by omega⟩
        have eW' : fu_W R = ru_W R := if_neg (by omega)
        have nz : ¬ (fu_D R ||| ru_L R) = 0 := fun z => sh_n0 (show zd_o (ru_S R) < 32 by omega) (eD' ▸ (or_0 z).1)
        have ez : zp_m R (zy_o d) (zm_o d) (zd_o d) = ((decide (fu_M R = 0) || bt (fu_M R) (zm_o d)) && decide (zd_o d = zd_o (ru_S R))) := by
          unfold zp_m
          rw [decide_eq_false nz, eD', eW', decide_eq_true w0, ba_sh _ (by omega) (by omega), l0, b_0, Bool.or_false, Bool.false_or, Bool.true_or, Bool.and_true]
        rw [ez] at h
        rw [t3, s3, t2, s2]
        refine pk_eq (zd_o d + 1) (zd_o (ru_S R) + 1) (fun e => ?_) (fun e => ?_)
        · rw [decide_eq_true (show zd_o d = zd_o (ru_S R) by omega), Bool.and_true] at h
          refine pk_eq (ru_F R) 2 (fun f2 => ?_) (fun f2 => br_c (fun m0 => ⟨vp_in_nI hd (by omega), vp_in_nI hS (by omega), ?_⟩) (fun m0 => ?_))
          · rw [show fu_M R = ru_M R from if_neg (by omega), hA] at h
            exact h
          · rw [show fu_M R = (1 : Int32) <<< (nI (zm_o (ru_S R)) &&& 31) from if_pos ⟨em, by omega, (sh_0 hM).mp m0⟩, decide_eq_false (sh_n0 (by omega)), ba_sh _ (by omega) (by omega), Bool.false_or] at h
            refine pk_eq (zm_o d + 1) (zm_o (ru_S R) + 1) (fun e2 => ?_) (fun e2 => ?_)
            · rw [zb_d (by omega)] at h; exact h
            · rw [zb_dn (by omega)] at h; exact h
          · rw [show fu_M R = ru_M R from if_neg (fun z => m0 ((sh_0 hM).mpr z.2.2)), hA] at h
            exact h
        · rw [decide_eq_false (show ¬ zd_o d = zd_o (ru_S R) by omega), Bool.and_false] at h
          exact h
    · have ne : ¬ ((ru_D R ||| ru_L R) ||| ru_W R) = 0 := fun z => hb.mp bt' (or_0 z).1
      unfold zp_m at h
      rw [show fu_M R = ru_M R from if_neg (fun z => ne z.1), show fu_D R = ru_D R from if_neg (fun z => ne z.1), show fu_W R = ru_W R from if_neg (fun z => ne z.1), hA, hB, decide_eq_true w0, Bool.true_or] at h
      exact h
  · have ne : ¬ ((ru_D R ||| ru_L R) ||| ru_W R) = 0 := fun z => w0 (or_0 z).2
    unfold zp_m at h
    rw [show fu_M R = ru_M R from if_neg (fun z => ne z.1), show fu_D R = ru_D R from if_neg (fun z => ne z.1), show fu_W R = ru_W R from if_neg (fun z => ne z.1), hA, hB, decide_eq_false w0, ← k4, Bool.true_and, Bool.true_and, Bool.false_or] at h
    refine yw_weekday d rfl hd (zb_b0 (bt (ru_W R) ((d + 5) % 7)) (ba_s _ (by omega) _) (fun hf => ?_) (fun ht => ?_))
    · rw [hf, Bool.false_and] at h; exact h
    · rw [ht, Bool.true_and] at h
      refine yw_ranks hd hR hM tb (zb_b0 _ rfl (fun hf2 => ?_) (fun ht2 => ?_))
      · rw [hf2] at h; exact h
      · rw [ht2] at h; exact h
theorem yw_98 {post : Int32 → Prop} {d : Nat} (hd : d < 7305) (hR : ru_ok R) (hM : sh_k (ru_M R) gM) (hD : sh_k (ru_D R) gD) (hL : sh_k (ru_L R) gL) (tb : tb_ok tY tM tD) (b : Bool) (hb : b = true ↔ ¬ (ru_D R ||| ru_L R) = 0) (hA : (decide (ru_M R = 0) || bt (ru_M R) (zm_o d)) = true) (h : post (zb_i (zp_d R d))) : wY_isCandidate_98 post (nI d) (nI (zm_l (zy_o d) (zm_o d) - zd_o d)) (zb_i b) (nI (ru_S R)) (nI (ru_F R)) (nI (ru_I R)) gM gD gL (ru_W R) (ru_O R) (ru_P R) (nI (ru_C R)) (nI (ru_E R)) (nI ex) kn tY tM tD eD eI cA dY := by
  have ⟨t1, t2, t3⟩ := tb d hd
  have ⟨k1, k2, k3, k4⟩ := zk_ex hd
  have hl := zm_lr (zy_o d) (zm_o d)
  unfold wY_isCandidate_98
  rw [nI_clamp (by omega), t3]
  refine zb_b0 b rfl (fun bf => ?_) (fun bt' => ⟨vp_in_nI hd (by omega), ?_⟩)
  · have dl : (ru_D R ||| ru_L R) = 0 := by
      by_cases z : (ru_D R ||| ru_L R) = 0
      · exact z
      · rw [hb.mpr z] at bf; cases bf
    exact yw_134 hd hR hM tb b hb hA (by rw [decide_eq_true dl, Bool.true_or]) h
  · have go : (bt (ru_D R) (zd_o d) || bt (ru_L R) (zm_l (zy_o d) (zm_o d) - 1 - zd_o d)) = true → wY_isCandidate_134 post (nI d) (zb_i b) (nI (ru_S R)) (nI (ru_F R)) (nI (ru_I R)) gM gD gL (ru_W R) (ru_O R) (ru_P R) (nI (ru_C R)) (nI (ru_E R)) (nI ex) kn tY tM tD eD eI cA dY := fun z => yw_134 hd hR hM tb b hb hA (by rw [z, Bool.or_true]) h
    refine zb_b0 (bt (ru_D R) (zd_o d)) (by rw [ba_s _ (by omega), hD.2.2 _ (by omega)]) (fun df => ?_) (fun dt => go (by rw [dt, Bool.true_or]))
    refine zb_b0 (bt (ru_L R) (zm_l (zy_o d) (zm_o d) - 1 - zd_o d)) ?_ (fun lf => ?_) (fun lt => go (by rw [lt, Bool.or_true]))
    · rw [ba_s _ (by omega), ← hL.2.2 _ (by omega), show zm_l (zy_o d) (zm_o d) - 1 - zd_o d + 1 = zm_l (zy_o d) (zm_o d) - zd_o d by omega]
    · have ne : ¬ ((ru_D R ||| ru_L R) ||| ru_W R) = 0 := fun z => hb.mp bt' (or_0 z).1
      unfold zp_d zp_m at h
      rw [show fu_D R = ru_D R from if_neg (fun z => ne z.1), decide_eq_false (hb.mp bt'), df, lf, Bool.or_false, Bool.or_false, Bool.false_and, Bool.and_false] at h
      exact h
theorem yw_55 {post : Int32 → Prop} {d : Nat} (hd : d < 7305) (hR : ru_ok R) (hM : sh_k (ru_M R) gM) (hD : sh_k (ru_D R) gD) (hL : sh_k (ru_L R) gL) (tb : tb_ok tY tM tD) (hA : (decide (ru_M R = 0) || bt (ru_M R) (zm_o d)) = true) (h : post (zb_i (zp_d R d))) : wY_isCandidate_55 post (nI d) (nI (ru_S R)) (nI (ru_F R)) (nI (ru_I R)) gM gD gL (ru_W R) (ru_O R) (ru_P R) (nI (ru_C R)) (nI (ru_E R)) (nI ex) kn tY tM tD eD eI cA dY := by
  have ⟨t1, t2, t3⟩ := tb d hd
  have ⟨k1, k2, k3, k4⟩ := zk_ex hd
  have hl := zm_lr (zy_o d) (zm_o d)
  unfold wY_isCandidate_55
  rw [nI_clamp (by omega), t1, t2, t3]
  refine ⟨vp_in_nI hd (by omega), vp_in_nI hd (by omega), yw_length (zy_o d) (zm_o d) rfl rfl (by omega) (by omega) ⟨vp_in_nI hd (by omega), nm_r (e' := nI (zm_l (zy_o d) (zm_o d) - zd_o d)) ?_ ?_⟩⟩
  · rw [pk_sub (by omega), nI_1]
    exact congrArg nI (by omega)
  · refine br_c (fun z => ?_) (fun z => ?_)
    · exact yw_98 hd hR hM hD hL tb false ⟨fun w => (by cases w), fun w => absurd ((sh_0 (sh_or hD hL)).mp z) w⟩ hA h
    · exact yw_98 hd hR hM hD hL tb true ⟨fun _ w => z ((sh_0 (sh_or hD hL)).mpr w), fun _ => rfl⟩ hA h
theorem yw_isCandidate {post : Int32 → Prop} {d : Nat} (hd : d < 7305) (hR : ru_ok R) (hM : sh_k (ru_M R) gM) (hD : sh_k (ru_D R) gD) (hL : sh_k (ru_L R) gL) (tb : tb_ok tY tM tD) (h : post (zb_i (zc_a R d))) : wpY_isCandidate post (nI (ru_S R), nI (ru_F R), nI (ru_I R), gM, gD, gL, ru_W R, ru_O R, ru_P R, nI (ru_C R), nI (ru_E R), nI ex, kn, tY, tM, tD, eD, eI, cA, dY) (nI d) := by
  have ⟨hS, hF, hI1, hI2, _⟩ := hR
  have ⟨t1, t2, t3⟩ := tb d hd
  have ⟨k1, k2, k3, k4⟩ := zk_ex hd
  have b1 := yp_b (R := R) hd
  have b2 := yp_b (R := R) hS
  have b3 := zp_b (R := R) hd
  unfold wpY_isCandidate
  rw [nI_clamp (by omega)]
  refine yw_period d rfl hd hR tb (yw_period (ru_S R) rfl hS hR tb (nm_e ?_))
  by_cases g : yp_e R d < yp_e R (ru_S R)
  · refine br_t (pk_sneg (by omega) g) ?_
    rw [zc_ga (fun z => by have := yp_lt.mp g; omega)] at h
    exact h
  · rw [pk_sub (by omega), yp_sub]
    have g2 : zp_e R (ru_S R) ≤ zp_e R d := by
      have : ¬ zp_e R d < zp_e R (ru_S R) := fun z => g (yp_lt.mpr z)
      omega
    refine br_f (nI_pos (by omega)) ⟨nI_ne0 (by omega) (by omega), ?_⟩
    rw [pk_rem (by omega) (by omega) (by omega)]
    have md := Nat.mod_lt (zp_e R d - zp_e R (ru_S R)) (show 0 < ru_I R by omega)
    refine pk_eq _ 0 (fun e => ?_) (fun e => ?_)
    · rw [zc_ok hd g2 e] at h
      refine br_c (fun m0 => ?_) (fun m0 => ⟨vp_in_nI hd (by omega), ?_⟩)
      · exact yw_55 hd hR hM hD hL tb (by rw [decide_eq_true ((sh_0 hM).mp m0), Bool.true_or]) h
      · refine zb_b0 (bt (ru_M R) (zm_o d)) (by rw [t2, ba_s _ (by omega), hM.2.2 _ (by omega)]) (fun mf => ?_) (fun mt => yw_55 hd hR hM hD hL tb (by rw [mt, Bool.or_true]) h)
        unfold zp_d zp_m at h
        have n0 : ¬ ru_M R = 0 := fun z => m0 ((sh_0 hM).mpr z)
        rw [show fu_M R = ru_M R from if_neg (fun z => n0 z.2.2), decide_eq_false n0, mf, Bool.or_false, Bool.false_and] at h
        exact h
    · rw [zc_ga (fun z => e z.2)] at h
      exact h
/-! counting the candidates of a period -/
theorem yw_63 {post : Int32 → Prop} {k m : Nat} (hk : k < 2 ^ 31) (hm : m < 2 ^ 31) (h : post (zb_i (decide (k = m)))) : wY_has_63 post (nI m) (nI k) (nI (ru_S R)) (nI (ru_F R)) (nI (ru_I R)) gM gD gL (ru_W R) (ru_O R) (ru_P R) (nI (ru_C R)) (nI (ru_E R)) (nI ex) kn tY tM tD eD eI cA dY := by
  unfold wY_has_63
  refine pk_eq k m (fun e => ?_) (fun e => ?_)
  · rw [zb_d e] at h; exact h
  · rw [zb_dn e] at h; exact h
theorem yw_hdn {post : Int32 → Prop} {d m : Nat} (hd : d < 7305) (hm : m < 100) (hR : ru_ok R) (tb : tb_ok tY tM tD) (hc : ∀ e, e < 7305 → cA e = zb_i (zc_a R e)) (h : post (zb_i (decide (zr_k R d = m)))) : ∀ n E k : Nat, E ≤ d → E < n → k + zc_n (zr_f R d) E = zr_k R d → wY_has_15 post (nI m) (-1) (nI (yp_e R d)) (nI (ru_S R)) (nI (ru_F R)) (nI (ru_I R)) gM gD gL (ru_W R) (ru_O R) (ru_P R) (nI (ru_C R)) (nI (ru_E R)) (nI ex) kn tY tM tD eD eI cA dY n (nI k) (nI E - 1) := by
  have hk := zc_le (zr_f R d) d
  change zr_k R d ≤ d at hk
  intro n
  induction n with
  | zero => intro E k h1 h2; omega
  | succ n ih =>
    intro E k h1 h2 h3
    unfold wY_has_15
    have stop : zc_n (zr_f R d) E = 0 → wY_has_63 post (nI m) (nI k) (nI (ru_S R)) (nI (ru_F R)) (nI (ru_I R)) gM gD gL (ru_W R) (ru_O R) (ru_P R) (nI (ru_C R)) (nI (ru_E R)) (nI ex) kn tY tM tD eD eI cA dY := fun z => yw_63 (by omega) (by omega) (by rw [show k = zr_k R d by omega]; exact h)
    cases E with
    | zero =>
      refine yw_isDay (fun e he e2 => ?_) (fun _ => br_t rfl (stop rfl))
      have := congrArg Int32.toInt e2
      rw [nI_toInt (by omega), show (nI 0 - 1).toInt = -1 by decide] at this
      omega
    | succ s =>
      rw [nI_pred, nI_clamp (by omega)]
      refine yw_isDay1 s rfl (by omega) (br_f (by decide) (yw_period s rfl (by omega) hR tb ?_))
      have b1 := yp_b (R := R) hd
      have b2 := yp_b (R := R) (show s < 7305 by omega)
      refine pk_eq (yp_e R s) (yp_e R d) (fun e => pk_lt m k (fun z => ?_) (fun z => ⟨vp_in_nI (by omega) (by omega), ?_⟩)) (fun e => stop ?_)
      · refine yw_63 (by omega) (by omega) ?_
        rw [decide_eq_false (show ¬ k = m by omega)]
        rw [decide_eq_false (show ¬ zr_k R d = m by omega)] at h
        exact h
      · have fe : zr_f R d s = zc_a R s := by
          unfold zr_f
          rw [decide_eq_true (yp_eq.mp e), Bool.and_true]
        refine zb_b0 (zc_a R s) (hc s (by omega)) (fun cf => ?_) (fun ct => ?_)
        · rw [cf] at fe
          rw [zc_sf fe] at h3
          refine nm_r (e' := nI s - 1) (Int32.sub_eq_add_neg _ _).symm (ih s k (by omega) (by omega) h3)
        · rw [ct] at fe
          rw [zc_st fe] at h3
          refine nm_r (nI_1 k) (nm_r (e' := nI s - 1) (Int32.sub_eq_add_neg _ _).symm (ih s (k + 1) (by omega) (by omega) (by omega)))
      · refine zc_z _ (fun i hi => ?_)
        have m1 := zp_mo (R := R) (show i ≤ s by omega) (by omega)
        have m2 := zp_mo (R := R) (show s ≤ d by omega) hd
        have m3 : ¬ zp_e R s = zp_e R d := fun z => e (yp_eq.mpr z)
        unfold zr_f
        rw [decide_eq_false (show ¬ zp_e R i = zp_e R d by omega), Bool.and_false]
theorem yw_hup {post : Int32 → Prop} {d m : Nat} (hd : d < 7305) (hm : m < 100) (hR : ru_ok R) (tb : tb_ok tY tM tD) (hc : ∀ e, e < 7305 → cA e = zb_i (zc_a R e)) (h : post (zb_i (decide (zr_t R d = m + zc_n (zr_f R d) (d + 1))))) : ∀ n E k : Nat, d < E → E ≤ 7305 → 7305 - E < n → k + zc_n (zr_f R d) (d + 1) = zc_n (zr_f R d) E → wY_has_15 post (nI m) 1 (nI (yp_e R d)) (nI (ru_S R)) (nI (ru_F R)) (nI (ru_I R)) gM gD gL (ru_W R) (ru_O R) (ru_P R) (nI (ru_C R)) (nI (ru_E R)) (nI ex) kn tY tM tD eD eI cA dY n (nI k) (nI E) := by
  have hk := zc_le (zr_f R d) 7305
  change zr_t R d ≤ 7305 at hk
  intro n
  induction n with
  | zero => intro E k h0 h1 h2; omega
  | succ n ih =>
    intro E k h0 h1 h2 h3
    have mo := zc_mo (f := zr_f R d) h1
    change _ ≤ zr_t R d at mo
    unfold wY_has_15
    have stop : zr_t R d = zc_n (zr_f R d) E → wY_has_63 post (nI m) (nI k) (nI (ru_S R)) (nI (ru_F R)) (nI (ru_I R)) gM gD gL (ru_W R) (ru_O R) (ru_P R) (nI (ru_C R)) (nI (ru_E R)) (nI ex) kn tY tM tD eD eI cA dY := fun z => by
      refine yw_63 (by omega) (by omega) ?_
      rw [show decide (k = m) = decide (zr_t R d = m + zc_n (zr_f R d) (d + 1)) from decide_eq_decide.mpr (by omega)]
      exact h
    by_cases e7 : E = 7305
    · subst e7
      refine yw_isDay (fun e he e2 => ?_) (fun _ => br_t rfl (stop rfl))
      have := (nI_eq (by omega) (by omega)).mp e2
      omega
    · rw [nI_clamp (by omega)]
      refine yw_isDay1 E rfl (by omega) (br_f (by decide) (yw_period E rfl (by omega) hR tb ?_))
      have b1 := yp_b (R := R) hd
      have b2 := yp_b (R := R) (show E < 7305 by omega)
      refine pk_eq (yp_e R E) (yp_e R d) (fun e => pk_lt m k (fun z => ?_) (fun z => ⟨vp_in_nI (by omega) (by omega), ?_⟩)) (fun e => stop ?_)
      · refine yw_63 (by omega) (by omega) ?_
        rw [decide_eq_false (show ¬ k = m by omega)]
        rw [decide_eq_false (show ¬ zr_t R d = m + zc_n (zr_f R d) (d + 1) by omega)] at h
        exact h
      · have fe : zr_f R d E = zc_a R E := by
          unfold zr_f
          rw [decide_eq_true (yp_eq.mp e), Bool.and_true]
        refine zb_b0 (zc_a R E) (hc E (by omega)) (fun cf => ?_) (fun ct => ?_)
        · rw [cf] at fe
          refine nm_r (nI_1 E) (ih (E + 1) k (by omega) (by omega) (by omega) ?_)
          rw [zc_sf fe]; exact h3
        · rw [ct] at fe
          refine nm_r (nI_1 k) (nm_r (nI_1 E) (ih (E + 1) (k + 1) (by omega) (by omega) (by omega) ?_))
          rw [zc_st fe]; omega
      · refine zc_fl 7305 h1 (fun i hi1 hi2 => ?_)
        have m1 := zp_mo (R := R) (show E ≤ i by omega) hi2
        have m2 := zp_mo (R := R) (show d ≤ E by omega) (by omega)
        have m3 : ¬ zp_e R E = zp_e R d := fun z => e (yp_eq.mpr z)
        unfold zr_f
        rw [decide_eq_false (show ¬ zp_e R i = zp_e R d by omega), Bool.and_false]
theorem yw_stays {post : Int32 → Prop} {d : Nat} (hd : d < 7305) (hR : ru_ok R) (tb : tb_ok tY tM tD) (hc : ∀ e, e < 7305 → cA e = zb_i (zc_a R e)) (h : post (zb_i (zk_p R d))) : wpY_stays post (nI (ru_S R), nI (ru_F R), nI (ru_I R), gM, gD, gL, ru_W R, ru_O R, ru_P R, nI (ru_C R), nI (ru_E R), nI ex, kn, tY, tM, tD, eD, eI, cA, dY) (nI d) := by
  have ⟨hS, hF, _, _, _, _, p1, p2, _, hE⟩ := hR
  unfold wpY_stays
  rw [nI_clamp (by omega)]
  refine ⟨vp_in_nI hd (by omega), zb_b0 (zc_a R d) (hc d hd) (fun cf => ?_) (fun ct => pk_lt d (ru_S R) (fun z => ?_) (fun z1 => pk_le d (ru_E R) (fun z2 => ?_) (fun z2 => ?_)))⟩
  · rw [zk_ca cf] at h; exact h
  · rw [zk_be z] at h; exact h
  · have fd : zr_f R d d = true := by
      unfold zr_f
      rw [ct, decide_eq_true rfl]
      rfl
    have st := zc_st fd
    change zc_n (zr_f R d) (d + 1) = zr_k R d + 1 at st
    unfold zk_p zs_p at h
    rw [ct, decide_eq_true z1, decide_eq_true z2, Bool.true_and, Bool.true_and, Bool.true_and] at h
    have t1 : (1 : Int32).toInt = 1 := by decide
    refine br_c (fun e => ?_) (fun e => ?_)
    · rw [if_pos (by rw [e]; decide)] at h
      exact h
    · have e0 : (ru_P R).toInt ≠ 0 := fun z => e (Int32.toInt_inj.mp z)
      rw [if_neg e0] at h
      refine br_c (fun g => ?_) (fun g => ?_)
      · rw [Int32.le_iff_toInt_le] at g
        change (ru_P R).toInt ≤ 0 at g
        rw [if_neg (by omega)] at h
        have ng := zi_neg (x := ru_P R) (by omega) (by omega)
        obtain ⟨m, em⟩ : ∃ m : Nat, (m : Int) = -(ru_P R).toInt - 1 := ⟨(-(ru_P R).toInt - 1).toNat, by omega⟩
        have e1 : (-ru_P R) - 1 = nI m := zi_eq (by omega) (by rw [zi_sub (by omega) (by omega) (by omega) (by omega), ng, t1, em])
        rw [e1]
        unfold wpY_has
        refine yw_period d rfl hd hR tb (nm_r (nI_1 d) ⟨7306, yw_hup hd (by omega) hR tb hc ?_ 7306 (d + 1) 0 (by omega) (by omega) (by omega) (Nat.zero_add _)⟩)
        rw [show decide (zr_t R d = m + zc_n (zr_f R d) (d + 1)) = decide ((zr_k R d : Int) = zr_t R d + (ru_P R).toInt) from decide_eq_decide.mpr (by omega)]
        exact ⟨zb_now _, h⟩
      · rw [Int32.le_iff_toInt_le] at g
        change ¬ (ru_P R).toInt ≤ 0 at g
        rw [if_pos (by omega)] at h
        obtain ⟨m, em⟩ : ∃ m : Nat, (m : Int) = (ru_P R).toInt - 1 := ⟨((ru_P R).toInt - 1).toNat, by omega⟩
        have e1 : ru_P R - 1 = nI m := zi_eq (by omega) (by rw [zi_sub (by omega) (by omega) (by omega) (by omega), t1, em])
        rw [e1]
        unfold wpY_has
        refine yw_period d rfl hd hR tb (nm_r (e' := nI d - 1) (Int32.sub_eq_add_neg _ _).symm ⟨7306, yw_hdn hd (by omega) hR tb hc ?_ 7306 d 0 (by omega) (by omega) (Nat.zero_add _)⟩)
        rw [show decide (zr_k R d = m) = decide ((zr_k R d : Int) = (ru_P R).toInt - 1) from decide_eq_decide.mpr (by omega)]
        exact ⟨zb_now _, h⟩
  · rw [zk_en z2] at h; exact h
/-! the days -/
theorem yw_104 {post : SY → Prop} (hx : eo_k ex eD eI) (h : ∀ b, yf_ok R ex eD eI b → post (nI (ru_S R), nI (ru_F R), nI (ru_I R), gM, gD, gL, ru_W R, ru_O R, ru_P R, nI (ru_C R), nI (ru_E R), nI ex, kn, tY, tM, tD, eD, eI, cA, b)) : ∀ (n k : Nat) (dY : Nat → Int32), k ≤ ex → ex - k < n → (∀ e, e < 7305 → dY e = zb_i (zo_v (zs_l R) eD eI k e)) → wY_work_104 post (nI (ru_S R)) (nI (ru_F R)) (nI (ru_I R)) gM gD gL (ru_W R) (ru_O R) (ru_P R) (nI (ru_C R)) (nI (ru_E R)) (nI ex) kn n (nI k) tY tM tD eD eI cA dY := by
  have hx1 := hx.1
  intro n
  induction n with
  | zero => intro k dY h1; omega
  | succ n ih =>
    intro k dY h1 h2 hb
    unfold wY_work_104
    rw [nI_clamp (by omega)]
    refine pk_le ex k (fun z => ?_) (fun z => ?_)
    · have e : k = ex := by omega
      subst e
      exact h _ hb
    · obtain ⟨d, hd, ed⟩ := hx.2.1 k z
      rw [ed, nI_clamp (by omega)]
      refine ⟨vp_in_nI (by omega) (by omega), vp_in_nI (by omega) (by omega), vp_in_nI hd (by omega), nm_e (nm_r (nI_1 k) (ih (k + 1) _ (by omega) (by omega) (fun e he => ?_)))⟩
      rw [zo_1, ed]
      by_cases c : e = d
      · rw [c, pk_us, if_pos rfl]
        rcases hx.2.2 k with v | v
        · rw [v]; rfl
        · rw [v]; rfl
      · rw [pk_un c, if_neg (fun z => c ((nI_eq (by omega) (by omega)).mp z).symm)]
        exact hb e he
theorem yw_83 {post : SY → Prop} {J43 : Int32 → Int32 → (Nat → Int32) → (Nat → Int32) → (Nat → Int32) → (Nat → Int32) → (Nat → Int32) → (Nat → Int32) → (Nat → Int32) → Prop} {d k : Nat} (b : Bool) (hd : d < 7305) (h : ∀ dY', dY' = upd dY d (zb_i b) → J43 (nI (k + (if b = true then 1 else 0))) (nI (d + 1)) tY tM tD eD eI cA dY') : wY_work_83 post J43 (nI k) (nI d) (zb_i b) (nI d) (nI (ru_S R)) (nI (ru_F R)) (nI (ru_I R)) gM gD gL (ru_W R) (ru_O R) (ru_P R) (nI (ru_C R)) (nI (ru_E R)) (nI ex) kn tY tM tD eD eI cA dY := by
  unfold wY_work_83
  rw [nI_clamp (by omega), zb_nar]
  refine ⟨vp_in_nI hd (by omega), fun a ea => ⟨vp_in_nI hd (by omega), zb_b0 b (by rw [ea, pk_us]) (fun bf => ?_) (fun bt' => ?_)⟩⟩
  · refine nm_r (nI_1 d) ?_
    have := h a ea
    rw [bf] at this
    exact this
  · refine nm_r (nI_1 k) (nm_r (nI_1 d) ?_)
    have := h a ea
    rw [bt'] at this
    exact this
theorem yw_43 {post : SY → Prop} (hR : ru_ok R) (tb : tb_ok tY tM tD) (hc : ∀ e, e < 7305 → cA e = zb_i (zc_a R e)) (hx : eo_k ex eD eI) (h : ∀ b, yf_ok R ex eD eI b → post (nI (ru_S R), nI (ru_F R), nI (ru_I R), gM, gD, gL, ru_W R, ru_O R, ru_P R, nI (ru_C R), nI (ru_E R), nI ex, kn, tY, tM, tD, eD, eI, cA, b)) : ∀ (n d : Nat) (dY : Nat → Int32), d ≤ 7305 → 7305 - d < n → (∀ e, e < d → dY e = zb_i (zs_l R e)) → wY_work_43 post (nI (ru_S R)) (nI (ru_F R)) (nI (ru_I R)) gM gD gL (ru_W R) (ru_O R) (ru_P R) (nI (ru_C R)) (nI (ru_E R)) (nI ex) kn n (nI (zn_n R d)) (nI d) tY tM tD eD eI cA dY := by
  have hC := hR.2.2.2.2.2.2.2.2.1
  intro n
  induction n with
  | zero => intro d dY h1; omega
  | succ n ih =>
    intro d dY h1 h2 hb
    have zn := zn_le R d
    unfold wY_work_43
    refine pk_le 7305 d (fun z => ?_) (fun z => ?_)
    · have e : d = 7305 := by omega
      subst e
      exact ⟨13, yw_104 hx h 13 0 dY (by omega) (by have := hx.1; omega) hb⟩
    · have put : ∀ b, zs_l R d = b → wY_work_83 post (wY_work_43 post (nI (ru_S R)) (nI (ru_F R)) (nI (ru_I R)) gM gD gL (ru_W R) (ru_O R) (ru_P R) (nI (ru_C R)) (nI (ru_E R)) (nI ex) kn n) (nI (zn_n R d)) (nI d) (zb_i b) (nI d) (nI (ru_S R)) (nI (ru_F R)) (nI (ru_I R)) gM gD gL (ru_W R) (ru_O R) (ru_P R) (nI (ru_C R)) (nI (ru_E R)) (nI ex) kn tY tM tD eD eI cA dY := by
        intro b e
        refine yw_83 b z (fun dY' e2 => ?_)
        rw [← e, ← zn_1]
        refine ih (d + 1) dY' (by omega) (by omega) (fun i hi => ?_)
        rw [e2]
        by_cases c : i = d
        · rw [c, pk_us, e]
        · rw [pk_un c]; exact hb i (by omega)
      have ask : (ru_C R = 0 ∨ zn_n R d < ru_C R) → wY_work_70 post (wY_work_43 post (nI (ru_S R)) (nI (ru_F R)) (nI (ru_I R)) gM gD gL (ru_W R) (ru_O R) (ru_P R) (nI (ru_C R)) (nI (ru_E R)) (nI ex) kn n) (nI (zn_n R d)) (nI d) (nI d) (nI (ru_S R)) (nI (ru_F R)) (nI (ru_I R)) gM gD gL (ru_W R) (ru_O R) (ru_P R) (nI (ru_C R)) (nI (ru_E R)) (nI ex) kn tY tM tD eD eI cA dY := by
        intro w
        have e : zs_l R d = zk_p R d := by
          unfold zs_l
          rw [decide_eq_true w, Bool.true_and]
        unfold wY_work_70
        refine yw_stays z hR tb hc (zb_b0 _ rfl (fun kf => ?_) (fun kt => ?_))
        · unfold wY_work_82
          exact put false (e.trans kf)
        · exact put true (e.trans kt)
      refine pk_eq (ru_C R) 0 (fun c0 => ask (Or.inl c0)) (fun c0 => pk_le (ru_C R) (zn_n R d) (fun c1 => ?_) (fun c1 => ask (Or.inr c1)))
      unfold wY_work_82
      exact put false (zs_nw c0 c1 d (Nat.le_refl _))
theorem yw_17 {post : SY → Prop} (hR : ru_ok R) (hM : sh_k (ru_M R) gM) (hD : sh_k (ru_D R) gD) (hL : sh_k (ru_L R) gL) (tb : tb_ok tY tM tD) (hx : eo_k ex eD eI) (h : ∀ c b, yf_ok R ex eD eI b → post (nI (ru_S R), nI (ru_F R), nI (ru_I R), gM, gD, gL, ru_W R, ru_O R, ru_P R, nI (ru_C R), nI (ru_E R), nI ex, kn, tY, tM, tD, eD, eI, c, b)) : ∀ (n d : Nat) (cA : Nat → Int32), d ≤ 7305 → 7305 - d < n → (∀ e, e < d → cA e = zb_i (zc_a R e)) → wY_work_17 post 0 (nI (ru_S R)) (nI (ru_F R)) (nI (ru_I R)) gM gD gL (ru_W R) (ru_O R) (ru_P R) (nI (ru_C R)) (nI (ru_E R)) (nI ex) kn n (nI d) tY tM tD eD eI cA dY := by
  intro n
  induction n with
  | zero => intro d cA h1; omega
  | succ n ih =>
    intro d cA h1 h2 hc
    unfold wY_work_17
    rw [nI_clamp (by omega)]
    refine pk_le 7305 d (fun z => ?_) (fun z => ?_)
    · have e : d = 7305 := by omega
      subst e
      exact ⟨7306, yw_43 hR tb hc hx (h cA) 7306 0 dY (by omega) (by omega) (fun e he => by omega)⟩
    · refine yw_isCandidate z hR hM hD hL tb ⟨vp_in_nI z (by omega), nm_e (nm_r (nI_1 d) (ih (d + 1) _ (by omega) (by omega) (fun e he => ?_)))⟩
      rw [zb_nar]
      by_cases c : e = d
      · rw [c, pk_us]
      · rw [pk_un c]; exact hc e (by omega)
theorem yw_work {post : SY → Prop} (hR : ru_ok R) (hM : sh_k (ru_M R) gM) (hD : sh_k (ru_D R) gD) (hL : sh_k (ru_L R) gL) (tb : tb_ok tY tM tD) (hx : eo_k ex eD eI) (hk : ¬ kn = 0 → yf_ok R ex eD eI dY) (h : ∀ kn cA dY, yf_ok R ex eD eI dY → post (nI (ru_S R), nI (ru_F R), nI (ru_I R), gM, gD, gL, ru_W R, ru_O R, ru_P R, nI (ru_C R), nI (ru_E R), nI ex, kn, tY, tM, tD, eD, eI, cA, dY)) : wpY_work post (nI (ru_S R), nI (ru_F R), nI (ru_I R), gM, gD, gL, ru_W R, ru_O R, ru_P R, nI (ru_C R), nI (ru_E R), nI ex, kn, tY, tM, tD, eD, eI, cA, dY) := by
  unfold wpY_work
  refine br_c (fun _ => ?_) (fun z => h _ _ _ (hk z))
  exact ⟨7306, yw_17 hR hM hD hL tb hx (fun c b yf => h 1 c b yf) 7306 0 cA (by omega) (by omega) (fun e he => by omega)⟩
end
end
section
/-! Y: the questions -/
section
variable {R : ru_T} {ex : Nat} {gM gD gL kn : Int32} {tY tM tD eD eI cA dY : Nat → Int32} {g : Nat → Bool}
theorem zf_first (g : Nat → Bool) : ∀ n d : Nat, d ≤ 7305 → 7305 - d < n → ∃ t, d ≤ t ∧ t ≤ 7305 ∧ (t < 7305 → g t = true) ∧ ∀ e, d ≤ e → e < t → g e = false := by
  intro n
  induction n with
  | zero => intro d h1 h2; omega
  | succ n ih =>
    intro d h1 h2
    by_cases z : d = 7305
    · exact ⟨d, Nat.le_refl _, h1, fun h => by omega, fun e h3 h4 => by omega⟩
    · cases hg : g d
      · obtain ⟨t, t1, t2, t3, t4⟩ := ih (d + 1) (by omega) (by omega)
        refine ⟨t, by omega, t2, t3, fun e h3 h4 => ?_⟩
        by_cases c : e = d
        · rw [c]; exact hg
        · exact t4 e (by omega) h4
      · exact ⟨d, Nat.le_refl _, h1, fun _ => hg, fun e h3 h4 => by omega⟩
theorem zf_last (g : Nat → Bool) : ∀ p : Nat, ∃ t, t ≤ p ∧ (0 < t → g (t - 1) = true) ∧ ∀ e, t ≤ e → e < p → g e = false := by
  intro p
  induction p with
  | zero => exact ⟨0, Nat.le_refl _, fun h => by omega, fun e h1 h2 => by omega⟩
  | succ p ih =>
    cases hg : g p
    · obtain ⟨t, t1, t2, t3⟩ := ih
      refine ⟨t, by omega, t2, fun e h3 h4 => ?_⟩
      by_cases c : e = p
      · rw [c]; exact hg
      · exact t3 e h3 (by omega)
    · exact ⟨p + 1, Nat.le_refl _, fun _ => hg, fun e h1 h2 => by omega⟩
theorem zf_nth (g : Nat → Bool) (k : Nat) : ∀ N : Nat, ∃ t, t ≤ N ∧ (t < N → g t = true ∧ zc_n g t = k) ∧ (t = N → zc_n g N ≤ k) := by
  intro N
  induction N with
  | zero => exact ⟨0, Nat.le_refl _, fun h => by omega, fun _ => Nat.zero_le _⟩
  | succ N ih =>
    obtain ⟨t, t1, t2, t3⟩ := ih
    by_cases c : t = N
    · subst c
      have h := t3 rfl
      cases hg : g t
      · exact ⟨t + 1, Nat.le_refl _, fun h => by omega, fun _ => by rw [zc_sf hg]; exact h⟩
      · by_cases e : zc_n g t = k
        · exact ⟨t, by omega, fun _ => ⟨hg, e⟩, fun z => by omega⟩
        · exact ⟨t + 1, Nat.le_refl _, fun h => by omega, fun _ => by rw [zc_st hg]; omega⟩
    · exact ⟨t, by omega, fun _ => t2 (by omega), fun z => by omega⟩
theorem yw_next16 {post : Int32 → SY → Prop} (yf : ∀ e, e < 7305 → dY e = zb_i (g e)) (t : Nat) (gt : t < 7305 → g t = true) (ht : t ≤ 7305) (h : post (if t < 7305 then nI t else -4) (nI (ru_S R), nI (ru_F R), nI (ru_I R), gM, gD, gL, ru_W R, ru_O R, ru_P R, nI (ru_C R), nI (ru_E R), nI ex, kn, tY, tM, tD, eD, eI, cA, dY)) : ∀ n d : Nat, d ≤ t → 7305 - d < n → (∀ e, d ≤ e → e < t → g e = false) → wY_next_16 post (nI (ru_S R)) (nI (ru_F R)) (nI (ru_I R)) gM gD gL (ru_W R) (ru_O R) (ru_P R) (nI (ru_C R)) (nI (ru_E R)) (nI ex) kn tY tM tD eD eI cA dY n (nI d) := by
  intro n
  induction n with
  | zero => intro d h1 h2; omega
  | succ n ih =>
    intro d h1 h2 h3
    unfold wY_next_16
    rw [nI_clamp (by omega)]
    refine pk_le 7305 d (fun z => ?_) (fun z => ⟨vp_in_nI z (by omega), ?_⟩)
    · rw [if_neg (by omega)] at h
      exact h
    · refine zb_b0 (g d) (yf d z) (fun hb => ?_) (fun hb => ?_)
      · have c : ¬ d = t := fun c => by rw [c, gt (by omega)] at hb; cases hb
        exact nm_r (nI_1 d) (ih (d + 1) (by omega) (by omega) (fun e h5 h6 => h3 e (by omega) h6))
      · have c : d = t := by
          rcases Nat.lt_or_ge d t with z2 | z2
          · rw [h3 d (by omega) z2] at hb; cases hb
          · omega
        subst c
        rw [if_pos z] at h
        exact h
theorem yw_prev16 {post : Int32 → SY → Prop} (yf : ∀ e, e < 7305 → dY e = zb_i (g e)) (t : Nat) (gt : 0 < t → g (t - 1) = true) (h : post (if 0 < t then nI (t - 1) else -4) (nI (ru_S R), nI (ru_F R), nI (ru_I R), gM, gD, gL, ru_W R, ru_O R, ru_P R, nI (ru_C R), nI (ru_E R), nI ex, kn, tY, tM, tD, eD, eI, cA, dY)) : ∀ n p : Nat, p ≤ 7305 → p < n → t ≤ p → (∀ e, t ≤ e → e < p → g e = false) → wY_previous_16 post (nI (ru_S R)) (nI (ru_F R)) (nI (ru_I R)) gM gD gL (ru_W R) (ru_O R) (ru_P R) (nI (ru_C R)) (nI (ru_E R)) (nI ex) kn tY tM tD eD eI cA dY n (nI p - 1) := by
  intro n
  induction n with
  | zero => intro p h1 h2; omega
  | succ n ih =>
    intro p h1 h2 h3 h4
    unfold wY_previous_16
    cases p with
    | zero =>
      rw [if_neg (by omega)] at h
      exact br_t (by decide) h
    | succ s =>
      rw [nI_pred, nI_clamp (by omega)]
      refine br_f (nI_pos (by omega)) ⟨vp_in_nI (by omega) (by omega), ?_⟩
      refine zb_b0 (g s) (yf s (by omega)) (fun hb => ?_) (fun hb => ?_)
      · have c : ¬ t = s + 1 := fun c => by
          subst c
          rw [show s + 1 - 1 = s from rfl] at gt
          rw [gt (by omega)] at hb; cases hb
        exact nm_r (e' := nI s - 1) (Int32.sub_eq_add_neg _ _).symm (ih s (by omega) (by omega) (by omega) (fun e h5 h6 => h4 e h5 (by omega)))
      · have c : t = s + 1 := by
          rcases Nat.lt_or_ge s t with z2 | z2
          · omega
          · rw [h4 s z2 (by omega)] at hb; cases hb
        subst c
        rw [if_pos (by omega)] at h
        exact h
theorem yw_nth8 {post : Int32 → SY → Prop} (yf : ∀ e, e < 7305 → dY e = zb_i (g e)) {t k : Nat} (hk : k < 2 ^ 31) (ht : t ≤ 7305) (gt : t < 7305 → g t = true ∧ zc_n g t = k) (gn : t = 7305 → zc_n g 7305 ≤ k) (h : post (if t < 7305 then nI t else -4) (nI (ru_S R), nI (ru_F R), nI (ru_I R), gM, gD, gL, ru_W R, ru_O R, ru_P R, nI (ru_C R), nI (ru_E R), nI ex, kn, tY, tM, tD, eD, eI, cA, dY)) : ∀ n d l : Nat, d ≤ t → 7305 - d < n → zc_n g d + l = k → wY_nth_8 post (nI k) (nI (ru_S R)) (nI (ru_F R)) (nI (ru_I R)) gM gD gL (ru_W R) (ru_O R) (ru_P R) (nI (ru_C R)) (nI (ru_E R)) (nI ex) kn tY tM tD eD eI cA dY n (nI l) (nI d) := by
  intro n
  induction n with
  | zero => intro d l h1 h2; omega
  | succ n ih =>
    intro d l h1 h2 h3
    unfold wY_nth_8
    rw [nI_clamp (by omega)]
    refine pk_le 7305 d (fun z => ?_) (fun z => br_f (nI_pos hk) ⟨vp_in_nI z (by omega), ?_⟩)
    · rw [if_neg (by omega)] at h
      exact h
    · refine zb_b0 (g d) (yf d z) (fun hb => ?_) (fun hb => ?_)
      · have c : ¬ d = t := fun c => by rw [c, (gt (by omega)).1] at hb; cases hb
        exact nm_r (nI_1 d) (ih (d + 1) l (by omega) (by omega) (by rw [zc_sf hb]; exact h3))
      · have s := zc_st hb
        refine pk_eq l 0 (fun l0 => ?_) (fun l0 => ?_)
        · have c : d = t := by
            rcases Nat.lt_or_ge d t with z2 | z2
            · have a := zc_mo (f := g) (show d + 1 ≤ t by omega)
              by_cases t7 : t < 7305
              · have := (gt t7).2
                omega
              · have e7 : t = 7305 := by omega
                have := gn e7
                rw [e7] at a
                omega
            · omega
          subst c
          rw [if_pos z] at h
          exact h
        · obtain ⟨c, rfl⟩ : ∃ c, l = c + 1 := ⟨l - 1, by omega⟩
          have ne : ¬ d = t := fun e => by
            subst e
            have := (gt z).2
            omega
          exact nm_r (pk_m1 c) (nm_r (nI_1 d) (ih (d + 1) c (by omega) (by omega) (by rw [s]; omega)))
theorem yw_btw27 {post : Int32 → SY → Prop} (yf : ∀ e, e < 7305 → dY e = zb_i (g e)) {a b : Nat} (hb : b < 7305) (hab : a ≤ b + 1) (h : post (nI (zc_n g (b + 1) - zc_n g a)) (nI (ru_S R), nI (ru_F R), nI (ru_I R), gM, gD, gL, ru_W R, ru_O R, ru_P R, nI (ru_C R), nI (ru_E R), nI ex, kn, tY, tM, tD, eD, eI, cA, dY)) : ∀ n d k : Nat, a ≤ d → d ≤ b + 1 → b + 1 - d < n → k + zc_n g a = zc_n g d → wY_between_27 post (nI b) (nI (ru_S R)) (nI (ru_F R)) (nI (ru_I R)) gM gD gL (ru_W R) (ru_O R) (ru_P R) (nI (ru_C R)) (nI (ru_E R)) (nI ex) kn tY tM tD eD eI cA dY n (nI k) (nI d) := by
  intro n
  induction n with
  | zero => intro d k h1 h2 h3; omega
  | succ n ih =>
    intro d k h1 h2 h3 h4
    unfold wY_between_27
    rw [nI_clamp (by omega)]
    refine pk_lt b d (fun z => ?_) (fun z => ⟨vp_in_nI (by omega) (by omega), ?_⟩)
    · have e : d = b + 1 := by omega
      subst e
      rw [show zc_n g (b + 1) - zc_n g a = k by omega] at h
      exact h
    · refine zb_b0 (g d) (yf d (by omega)) (fun hf => ?_) (fun ht => ?_)
      · exact nm_r (nI_1 d) (ih (d + 1) k (by omega) (by omega) (by omega) (by rw [zc_sf hf]; exact h4))
      · exact nm_r (nI_1 k) (nm_r (nI_1 d) (ih (d + 1) (k + 1) (by omega) (by omega) (by omega) (by rw [zc_st ht]; omega)))
/-- does a day have this year, month, date -/
def do_m (p0 p1 p2 : Int32) (d : Nat) : Prop := nI (zy_o d) + 2000 = p0 ∧ nI (zm_o d + 1) = p1 ∧ nI (zd_o d + 1) = p2
theorem yw_dayOf3 {post : Int32 → Prop} {p0 p1 p2 : Int32} (tb : tb_ok tY tM tD) (t : Nat) (ht : t ≤ 7305) (hm : t < 7305 → do_m p0 p1 p2 t) (hn : ∀ e, e < t → ¬ do_m p0 p1 p2 e) (h : post (if t < 7305 then nI t else -2)) : ∀ n d : Nat, d ≤ t → 7305 - d < n → wY_dayOf_3 post p0 p1 p2 (nI (ru_S R)) (nI (ru_F R)) (nI (ru_I R)) gM gD gL (ru_W R) (ru_O R) (ru_P R) (nI (ru_C R)) (nI (ru_E R)) (nI ex) kn tY tM tD eD eI cA dY n (nI d) := by
  intro n
  induction n with
  | zero => intro d h1 h2; omega
  | succ n ih =>
    intro d h1 h2
    unfold wY_dayOf_3
    rw [nI_clamp (by omega)]
    refine pk_le 7305 d (fun z => ?_) (fun z => ⟨vp_in_nI z (by omega), ?_⟩)
    · rw [if_neg (by omega)] at h
      exact h
    · have ⟨t1, t2, t3⟩ := tb d z
      have go : ¬ do_m p0 p1 p2 d → wY_dayOf_3 post p0 p1 p2 (nI (ru_S R)) (nI (ru_F R)) (nI (ru_I R)) gM gD gL (ru_W R) (ru_O R) (ru_P R) (nI (ru_C R)) (nI (ru_E R)) (nI ex) kn tY tM tD eD eI cA dY n (nI (d + 1)) := fun c => by
        have ne : ¬ d = t := fun e => by
          subst e
          exact c (hm z)
        exact ih (d + 1) (by omega) (by omega)
      rw [t1, t2, t3]
      refine br_c (fun e1 => ⟨vp_in_nI z (by omega), br_c (fun e2 => ⟨vp_in_nI z (by omega), br_c (fun e3 => ?_) (fun e3 => nm_r (nI_1 d) (go (fun c => e3 c.2.2)))⟩) (fun e2 => nm_r (nI_1 d) (go (fun c => e2 c.2.1)))⟩) (fun e1 => nm_r (nI_1 d) (go (fun c => e1 c.1)))
      have e : d = t := by
        rcases Nat.lt_or_ge d t with z2 | z2
        · exact absurd ⟨e1, e2, e3⟩ (hn d z2)
        · omega
      subst e
      rw [if_pos z] at h
      exact h
end
end
section
/-! the relation -/
def rl_k (R : ru_T) (ex : Nat) (rd kn gM gD gL : Int32) (eD eI : Nat → Int32) (dD : Nat → Int64) (tY tM tD dY : Nat → Int32) : Prop := ru_ok R ∧ eo_k ex eD eI ∧ sh_k (ru_M R) gM ∧ sh_k (ru_D R) gD ∧ sh_k (ru_L R) gL ∧ tb_ok tY tM tD ∧ (¬ rd = 0 → xf_ok R ex eD eI dD) ∧ (¬ kn = 0 → yf_ok R ex eD eI dY)
def i_Rel (_ : Nat) (u : SX) (v : SY) : Prop := ∃ (R : ru_T) (ex : Nat) (uM uD uW uO kM kK rd md gM gD gL kn : Int32) (eD eI yM : Nat → Int32) (dD : Nat → Int64) (tY tM tD cA dY : Nat → Int32), rl_k R ex rd kn gM gD gL eD eI dD tY tM tD dY ∧ u = (nI (ru_S R), nI (ru_F R), nI (ru_I R), ru_M R, ru_D R, ru_L R, ru_W R, ru_O R, ru_P R, nI (ru_C R), nI (ru_E R), nI ex, uM, uD, uW, uO, kM, kK, rd, md, eD, eI, yM, dD) ∧ v = (nI (ru_S R), nI (ru_F R), nI (ru_I R), gM, gD, gL, ru_W R, ru_O R, ru_P R, nI (ru_C R), nI (ru_E R), nI ex, kn, tY, tM, tD, eD, eI, cA, dY)
theorem rl_mk {k : Nat} (R : ru_T) (ex : Nat) {uM uD uW uO kM kK rd md gM gD gL kn : Int32} {eD eI yM : Nat → Int32} {dD : Nat → Int64} {tY tM tD cA dY : Nat → Int32} (K : rl_k R ex rd kn gM gD gL eD eI dD tY tM tD dY) : i_Rel k (nI (ru_S R), nI (ru_F R), nI (ru_I R), ru_M R, ru_D R, ru_L R, ru_W R, ru_O R, ru_P R, nI (ru_C R), nI (ru_E R), nI ex, uM, uD, uW, uO, kM, kK, rd, md, eD, eI, yM, dD) (nI (ru_S R), nI (ru_F R), nI (ru_I R), gM, gD, gL, ru_W R, ru_O R, ru_P R, nI (ru_C R), nI (ru_E R), nI ex, kn, tY, tM, tD, eD, eI, cA, dY) :=
  ⟨R, ex, uM, uD, uW, uO, kM, kK, rd, md, gM, gD, gL, kn, eD, eI, yM, dD, tY, tM, tD, cA, dY, K, rfl, rfl⟩
theorem rl_el {P : SX → SY → Prop} {k : Nat} {u : SX} {v : SY} (h : ∀ (R : ru_T) (ex : Nat) (uM uD uW uO kM kK rd md gM gD gL kn : Int32) (eD eI yM : Nat → Int32) (dD : Nat → Int64) (tY tM tD cA dY : Nat → Int32), rl_k R ex rd kn gM gD gL eD eI dD tY tM tD dY → P (nI (ru_S R), nI (ru_F R), nI (ru_I R), ru_M R, ru_D R, ru_L R, ru_W R, ru_O R, ru_P R, nI (ru_C R), nI (ru_E R), nI ex, uM, uD, uW, uO, kM, kK, rd, md, eD, eI, yM, dD) (nI (ru_S R), nI (ru_F R), nI (ru_I R), gM, gD, gL, ru_W R, ru_O R, ru_P R, nI (ru_C R), nI (ru_E R), nI ex, kn, tY, tM, tD, eD, eI, cA, dY)) (I : i_Rel k u v) : P u v := by
  obtain ⟨R, ex, uM, uD, uW, uO, kM, kK, rd, md, gM, gD, gL, kn, eD, eI, yM, dD, tY, tM, tD, cA, dY, K, e1, e2⟩ := I
  rw [e1, e2]
  exact h R ex uM uD uW uO kM kK rd md gM gD gL kn eD eI yM dD tY tM tD cA dY K
theorem i_up {k : Nat} {u : SX} {v : SY} (h : i_Rel k u v) : i_Rel (k + 4) u v := h
/-- a changed rule: nothing is known of the days -/
theorem rl_new {R : ru_T} {ex : Nat} {gM gD gL : Int32} {eD eI : Nat → Int32} {dD : Nat → Int64} {tY tM tD dY : Nat → Int32} (h1 : ru_ok R) (h2 : eo_k ex eD eI) (h3 : sh_k (ru_M R) gM) (h4 : sh_k (ru_D R) gD) (h5 : sh_k (ru_L R) gL) (h6 : tb_ok tY tM tD) : rl_k R ex 0 0 gM gD gL eD eI dD tY tM tD dY := ⟨h1, h2, h3, h4, h5, h6, fun z => absurd rfl z, fun z => absurd rfl z⟩
theorem sh_00 : sh_k 0 0 := ⟨b_0 _, b_0 _, fun i _ => by rw [b_0, b_0]⟩
theorem eo_0 {eD eI : Nat → Int32} (h : ∀ i, eI i = 0 ∨ eI i = 1) : eo_k 0 eD eI := ⟨by omega, fun i hi => by omega, h⟩
def ru_0 : ru_T := (0, 0, 1, 0, 0, 0, 0, 0, 0, 0, 7304)
theorem ru_0k : ru_ok ru_0 := by
  have z : (0 : Int32).toInt = 0 := by decide
  refine ⟨by decide, by decide, by decide, by decide, ?_, ?_, ?_, ?_, by decide, by decide⟩
  · show -5 ≤ (0 : Int32).toInt; omega
  · show (0 : Int32).toInt ≤ 5; omega
  · show -10 ≤ (0 : Int32).toInt; omega
  · show (0 : Int32).toInt ≤ 10; omega
theorem i_vc0 : wpX_init (fun u => wpY_init (fun v => i_Rel 0 u v)) := by
  unfold wpX_init wpX_clear
  refine yw_init (fun tY tM tD tb => ?_)
  exact rl_mk ru_0 0 (rl_new ru_0k (eo_0 (fun _ => Or.inl rfl)) sh_00 sh_00 sh_00 tb)
theorem i_vc_clear {k : Nat} {u : SX} {v : SY} (I : i_Rel k u v) (hk : k + 4 ≤ 2048) : wpX_clear (fun u' => wpY_clear (fun v' => i_Rel (k + 4) u' v') v) u := by
  refine rl_el (P := fun u v => wpX_clear (fun u' => wpY_clear (fun v' => i_Rel (k + 4) u' v') v) u) ?_ I
  intro R ex uM uD uW uO kM kK rd md gM gD gL kn eD eI yM dD tY tM tD cA dY K
  unfold wpX_clear wpY_clear
  exact rl_mk ru_0 0 (rl_new ru_0k (eo_0 K.2.1.2.2) sh_00 sh_00 sh_00 K.2.2.2.2.2.1)
theorem i_vc_start {k : Nat} {u : SX} {v : SY} (I : i_Rel k u v) (hk : k + 4 ≤ 2048) (v1 : Int32) : wpX_start (fun r u' => wpY_start (fun r' v' => r' = r ∧ i_Rel (k + 4) u' v') v v1) u v1 := by
  refine rl_el (P := fun u v => wpX_start (fun r u' => wpY_start (fun r' v' => r' = r ∧ i_Rel (k + 4) u' v') v v1) u v1) ?_ I
  intro R ex uM uD uW uO kM kK rd md gM gD gL kn eD eI yM dD tY tM tD cA dY K
  have ⟨hR, hx, hM, hD, hL, tb, hr, hn⟩ := K
  unfold wpX_start
  refine xw_badDay (fun d hd e => br_t rfl (xw_weekdayOf d e (by omega) ?_)) (fun nb => br_f (by decide) ?_)
  · subst e
    unfold wpY_start
    refine yw_isDay1 d rfl hd (br_f (by decide) (yw_weekday d rfl hd ⟨rfl, ?_⟩))
    exact rl_mk (d, ru_F R, ru_I R, ru_M R, ru_D R, ru_L R, ru_W R, ru_O R, ru_P R, ru_C R, ru_E R) ex (rl_new ⟨hd, hR.2⟩ hx hM hD hL tb)
  · unfold wpY_start
    exact yw_isDay (fun d hd e => absurd ⟨d, hd, e⟩ nb) (fun _ => br_t rfl ⟨rfl, rl_mk R ex K⟩)
theorem i_vc_frequency {k : Nat} {u : SX} {v : SY} (I : i_Rel k u v) (hk : k + 4 ≤ 2048) (v1 : Int32) (v2 : Int32) : wpX_frequency (fun r u' => wpY_frequency (fun r' v' => r' = r ∧ i_Rel (k + 4) u' v') v v1 v2) u v1 v2 := by
  refine rl_el (P := fun u v => wpX_frequency (fun r u' => wpY_frequency (fun r' v' => r' = r ∧ i_Rel (k + 4) u' v') v v1 v2) u v1 v2) ?_ I
  intro R ex uM uD uW uO kM kK rd md gM gD gL kn eD eI yM dD tY tM tD cA dY K
  have ⟨hR, hx, hM, hD, hL, tb, hr, hn⟩ := K
  unfold wpX_frequency wpY_frequency
  by_cases h1 : v1 < 0
  · exact br_t h1 (br_t h1 ⟨rfl, rl_mk R ex K⟩)
  · by_cases h2 : 3 < v1
    · exact br_f h1 (br_t h2 (br_f h1 (br_t h2 ⟨rfl, rl_mk R ex K⟩)))
    · by_cases h3 : v2 < 1
      · exact br_f h1 (br_f h2 (br_t h3 (br_f h1 (br_f h2 (br_t h3 ⟨rfl, rl_mk R ex K⟩)))))
      · by_cases h4 : v2 ≤ 20
        · refine br_f h1 (br_f h2 (br_f h3 (br_t h4 (br_f h1 (br_f h2 (br_f h3 (br_t h4 ⟨rfl, ?_⟩)))))))
          obtain ⟨f, hf, rfl⟩ := nI_of h1
          have hf2 : ¬ 3 < f := fun z => h2 (nI_lt (a := 3) z hf)
          have h5 : ¬ v2 < 0 := fun z => h3 (Int32.lt_trans z (by decide))
          obtain ⟨i, hi, rfl⟩ := nI_of h5
          have hi1 : ¬ i < 1 := fun z => h3 (nI_lt (b := 1) z (by omega))
          have hi2 : i ≤ 20 := (nI_leI (b := 20) hi (by omega)).mp h4
          exact rl_mk (ru_S R, f, i, ru_M R, ru_D R, ru_L R, ru_W R, ru_O R, ru_P R, ru_C R, ru_E R) ex (rl_new ⟨hR.1, show f < 4 by omega, show 1 ≤ i by omega, hi2, hR.2.2.2.2⟩ hx hM hD hL tb)
        · exact br_f h1 (br_f h2 (br_f h3 (br_f h4 (br_f h1 (br_f h2 (br_f h3 (br_f h4 ⟨rfl, rl_mk R ex K⟩)))))))
theorem sh_mo (x : Int32) : sh_k ((x >>> ((1 : Int32) &&& 31)) &&& 4095) (x &&& 8190) := by
  have t : ∀ i, i < 31 → bt 8190 (i + 1) = bt 4095 i := by decide +kernel
  refine ⟨?_, ?_, fun i hi => ?_⟩
  · rw [b_and, show bt 4095 31 = false by decide +kernel, Bool.and_false]
  · rw [b_and, show bt 8190 0 = false by decide +kernel, Bool.and_false]
  · have e : bt (x >>> ((1 : Int32) &&& 31)) i = bt x (1 + i) := (b_sshr 1 (by omega) x (by omega)).trans (if_pos (by omega))
    rw [b_and, b_and, e, t i hi, Nat.add_comm]
theorem sh_da (x : Int32) : sh_k ((x.toUInt32 >>> ((1 : Int32).toUInt32 &&& Int32.toUInt32 31)).toInt32) (x &&& (-2)) := by
  have t : ∀ i, i < 31 → bt (-2) (i + 1) = true := by decide +kernel
  have e : ∀ i, bt ((x.toUInt32 >>> ((1 : Int32).toUInt32 &&& Int32.toUInt32 31)).toInt32) i = bt x (1 + i) := fun i => b_ushr 1 (by omega) x i
  refine ⟨?_, ?_, fun i hi => ?_⟩
  · rw [e, b_big (by omega)]
  · rw [b_and, show bt (-2) 0 = false by decide +kernel, Bool.and_false]
  · rw [b_and, e, t i hi, Bool.and_true, Nat.add_comm]
theorem i_vc_months {k : Nat} {u : SX} {v : SY} (I : i_Rel k u v) (hk : k + 4 ≤ 2048) (v1 : Int32) : wpX_months (fun r u' => wpY_months (fun r' v' => r' = r ∧ i_Rel (k + 4) u' v') v v1) u v1 := by
  refine rl_el (P := fun u v => wpX_months (fun r u' => wpY_months (fun r' v' => r' = r ∧ i_Rel (k + 4) u' v') v v1) u v1) ?_ I
  intro R ex uM uD uW uO kM kK rd md gM gD gL kn eD eI yM dD tY tM tD cA dY K
  have ⟨hR, hx, hM, hD, hL, tb, hr, hn⟩ := K
  unfold wpX_months
  refine nm_e (xw_bits _ ?_)
  unfold wpY_months
  refine nm_e (yw_ones _ ⟨congrArg nI (sh_c (sh_mo v1)), ?_⟩)
  exact rl_mk (ru_S R, ru_F R, ru_I R, (v1 >>> ((1 : Int32) &&& 31)) &&& 4095, ru_D R, ru_L R, ru_W R, ru_O R, ru_P R, ru_C R, ru_E R) ex (rl_new hR hx (sh_mo v1) hD hL tb)
theorem i_vc_monthDays {k : Nat} {u : SX} {v : SY} (I : i_Rel k u v) (hk : k + 4 ≤ 2048) (v1 : Int32) (v2 : Int32) : wpX_monthDays (fun r u' => wpY_monthDays (fun r' v' => r' = r ∧ i_Rel (k + 4) u' v') v v1 v2) u v1 v2 := by
  refine rl_el (P := fun u v => wpX_monthDays (fun r u' => wpY_monthDays (fun r' v' => r' = r ∧ i_Rel (k + 4) u' v') v v1 v2) u v1 v2) ?_ I
  intro R ex uM uD uW uO kM kK rd md gM gD gL kn eD eI yM dD tY tM tD cA dY K
  have ⟨hR, hx, hM, hD, hL, tb, hr, hn⟩ := K
  unfold wpX_monthDays
  refine nm_e (nm_e (xw_bits _ (xw_bits _ ?_)))
  unfold wpY_monthDays
  refine nm_e (nm_e (yw_ones _ (yw_ones _ ⟨?_, ?_⟩)))
  · rw [sh_c (sh_da v1), sh_c (sh_da v2)]
  · exact rl_mk (ru_S R, ru_F R, ru_I R, ru_M R, (v1.toUInt32 >>> ((1 : Int32).toUInt32 &&& Int32.toUInt32 31)).toInt32, (v2.toUInt32 >>> ((1 : Int32).toUInt32 &&& Int32.toUInt32 31)).toInt32, ru_W R, ru_O R, ru_P R, ru_C R, ru_E R) ex (rl_new hR hx hM (sh_da v1) (sh_da v2) tb)
theorem i_vc_weekDays {k : Nat} {u : SX} {v : SY} (I : i_Rel k u v) (hk : k + 4 ≤ 2048) (v1 : Int32) (v2 : Int32) : wpX_weekDays (fun r u' => wpY_weekDays (fun r' v' => r' = r ∧ i_Rel (k + 4) u' v') v v1 v2) u v1 v2 := by
  refine rl_el (P := fun u v => wpX_weekDays (fun r u' => wpY_weekDays (fun r' v' => r' = r ∧ i_Rel (k + 4) u' v') v v1 v2) u v1 v2) ?_ I
  intro R ex uM uD uW uO kM kK rd md gM gD gL kn eD eI yM dD tY tM tD cA dY K
  have ⟨hR, hx, hM, hD, hL, tb, hr, hn⟩ := K
  unfold wpX_weekDays
  by_cases h1 : v2 < -5
  · refine br_t h1 ?_
    unfold wpY_weekDays
    exact br_t h1 ⟨rfl, rl_mk R ex K⟩
  · by_cases h2 : v2 ≤ 5
    · refine br_f h1 (br_t h2 (nm_e (xw_bits _ ?_)))
      unfold wpY_weekDays
      refine br_f h1 (br_t h2 (nm_e (yw_ones _ ⟨rfl, ?_⟩)))
      rw [Int32.lt_iff_toInt_lt, show (-5 : Int32).toInt = -5 by decide] at h1
      rw [Int32.le_iff_toInt_le, show (5 : Int32).toInt = 5 by decide] at h2
      exact rl_mk (ru_S R, ru_F R, ru_I R, ru_M R, ru_D R, ru_L R, v1 &&& 127, v2, ru_P R, ru_C R, ru_E R) ex (rl_new ⟨hR.1, hR.2.1, hR.2.2.1, hR.2.2.2.1, show -5 ≤ v2.toInt by omega, h2, hR.2.2.2.2.2.2⟩ hx hM hD hL tb)
    · refine br_f h1 (br_f h2 ?_)
      unfold wpY_weekDays
      exact br_f h1 (br_f h2 ⟨rfl, rl_mk R ex K⟩)
theorem i_vc_position {k : Nat} {u : SX} {v : SY} (I : i_Rel k u v) (hk : k + 4 ≤ 2048) (v1 : Int32) : wpX_position (fun r u' => wpY_position (fun r' v' => r' = r ∧ i_Rel (k + 4) u' v') v v1) u v1 := by
  refine rl_el (P := fun u v => wpX_position (fun r u' => wpY_position (fun r' v' => r' = r ∧ i_Rel (k + 4) u' v') v v1) u v1) ?_ I
  intro R ex uM uD uW uO kM kK rd md gM gD gL kn eD eI yM dD tY tM tD cA dY K
  have ⟨hR, hx, hM, hD, hL, tb, hr, hn⟩ := K
  unfold wpX_position
  by_cases h1 : v1 < -10
  · refine br_t h1 ?_
    unfold wpY_position
    exact br_t h1 ⟨rfl, rl_mk R ex K⟩
  · by_cases h2 : v1 ≤ 10
    · refine br_f h1 (br_t h2 ?_)
      unfold wpY_position
      refine br_f h1 (br_t h2 ⟨rfl, ?_⟩)
      rw [Int32.lt_iff_toInt_lt, show (-10 : Int32).toInt = -10 by decide] at h1
      rw [Int32.le_iff_toInt_le, show (10 : Int32).toInt = 10 by decide] at h2
      exact rl_mk (ru_S R, ru_F R, ru_I R, ru_M R, ru_D R, ru_L R, ru_W R, ru_O R, v1, ru_C R, ru_E R) ex (rl_new ⟨hR.1, hR.2.1, hR.2.2.1, hR.2.2.2.1, hR.2.2.2.2.1, hR.2.2.2.2.2.1, show -10 ≤ v1.toInt by omega, h2, hR.2.2.2.2.2.2.2.2⟩ hx hM hD hL tb)
    · refine br_f h1 (br_f h2 ?_)
      unfold wpY_position
      exact br_f h1 (br_f h2 ⟨rfl, rl_mk R ex K⟩)
theorem i_vc_limit {k : Nat} {u : SX} {v : SY} (I : i_Rel k u v) (hk : k + 4 ≤ 2048) (v1 : Int32) (v2 : Int32) : wpX_limit (fun r u' => wpY_limit (fun r' v' => r' = r ∧ i_Rel (k + 4) u' v') v v1 v2) u v1 v2 := by
  refine rl_el (P := fun u v => wpX_limit (fun r u' => wpY_limit (fun r' v' => r' = r ∧ i_Rel (k + 4) u' v') v v1 v2) u v1 v2) ?_ I
  intro R ex uM uD uW uO kM kK rd md gM gD gL kn eD eI yM dD tY tM tD cA dY K
  have ⟨hR, hx, hM, hD, hL, tb, hr, hn⟩ := K
  unfold wpX_limit
  by_cases h1 : v1 < 0
  · refine br_t h1 ?_
    unfold wpY_limit
    exact br_t h1 ⟨rfl, rl_mk R ex K⟩
  · by_cases h2 : v1 ≤ 500
    · refine br_f h1 (br_t h2 (xw_badDay (fun d hd e => br_t rfl ?_) (fun nb => br_f (by decide) ?_)))
      · unfold wpY_limit
        refine br_f h1 (br_t h2 (yw_isDay1 d e hd (br_f (by decide) ⟨rfl, ?_⟩)))
        subst e
        obtain ⟨c, hc, rfl⟩ := nI_of h1
        have hc2 : c ≤ 500 := (nI_leI (b := 500) hc (by omega)).mp h2
        exact rl_mk (ru_S R, ru_F R, ru_I R, ru_M R, ru_D R, ru_L R, ru_W R, ru_O R, ru_P R, c, d) ex (rl_new ⟨hR.1, hR.2.1, hR.2.2.1, hR.2.2.2.1, hR.2.2.2.2.1, hR.2.2.2.2.2.1, hR.2.2.2.2.2.2.1, hR.2.2.2.2.2.2.2.1, hc2, hd⟩ hx hM hD hL tb)
      · unfold wpY_limit
        exact br_f h1 (br_t h2 (yw_isDay (fun d hd e => absurd ⟨d, hd, e⟩ nb) (fun _ => br_t rfl ⟨rfl, rl_mk R ex K⟩)))
    · refine br_f h1 (br_f h2 ?_)
      unfold wpY_limit
      exact br_f h1 (br_f h2 ⟨rfl, rl_mk R ex K⟩)
end
section
/-! extra: both sides find the same place -/
section
variable {R : ru_T} {ex : Nat} {kM kK rd md uM uD uW uO gM gD gL kn : Int32} {eD eI yM : Nat → Int32} {dD : Nat → Int64} {tY tM tD cA dY : Nat → Int32}
theorem ex_at (eD : Nat → Int32) (x : Int32) : ∀ ex : Nat, ∃ a, a ≤ ex ∧ (∀ i, i < a → ¬ eD i = x) ∧ (a < ex → eD a = x) := by
  intro ex
  induction ex with
  | zero => exact ⟨0, Nat.le_refl _, fun i hi => by omega, fun h => by omega⟩
  | succ n ih =>
    obtain ⟨a, a1, a2, a3⟩ := ih
    by_cases c : a = n
    · subst c
      by_cases e : eD a = x
      · exact ⟨a, by omega, a2, fun _ => e⟩
      · refine ⟨a + 1, by omega, fun i hi => ?_, fun h => by omega⟩
        by_cases c : i = a
        · rw [c]; exact e
        · exact a2 i (by omega)
    · exact ⟨a, by omega, a2, fun _ => a3 (by omega)⟩
theorem xw_extra11 {post : Int32 → SX → Prop} {x y : Int32} (h12 : ex ≤ 12) {a : Nat} (a1 : a ≤ ex) (a2 : ∀ i, i < a → ¬ eD i = x) (a3 : a < ex → eD a = x) (h : wX_extra_35 post x y (nI a) (nI (ru_S R)) (nI (ru_F R)) (nI (ru_I R)) (ru_M R) (ru_D R) (ru_L R) (ru_W R) (ru_O R) (ru_P R) (nI (ru_C R)) (nI (ru_E R)) (nI ex) uM uD uW uO kM kK rd md eD eI yM dD) : ∀ n j : Nat, j ≤ a → a - j < n → wX_extra_11 post x y (nI (ru_S R)) (nI (ru_F R)) (nI (ru_I R)) (ru_M R) (ru_D R) (ru_L R) (ru_W R) (ru_O R) (ru_P R) (nI (ru_C R)) (nI (ru_E R)) (nI ex) uM uD uW uO kM kK rd md eD eI yM dD n (nI j) := by
  intro n
  induction n with
  | zero => intro j h1 h2; omega
  | succ n ih =>
    intro j h1 h2
    unfold wX_extra_11
    rw [nI_clamp (by omega)]
    refine pk_le ex j (fun z => ?_) (fun z => ⟨vp_in_nI (by omega) (by omega), br_c (fun e => ?_) (fun e => ?_)⟩)
    · rw [show a = j by omega] at h; exact h
    · have c : a = j := by
        rcases Nat.lt_or_ge j a with z2 | z2
        · exact absurd e (a2 j z2)
        · omega
      rw [c] at h; exact h
    · have c : ¬ j = a := fun c => e (by rw [c]; exact a3 (by omega))
      exact nm_r (nI_1 j) (ih (j + 1) (by omega) (by omega))
theorem yw_extra12 {post : Int32 → SY → Prop} {x y : Int32} (h12 : ex ≤ 12) {a : Nat} (a1 : a ≤ ex) (a2 : ∀ i, i < a → ¬ eD i = x) (a3 : a < ex → eD a = x) (h : wY_extra_36 post x y (nI a) (nI (ru_S R)) (nI (ru_F R)) (nI (ru_I R)) gM gD gL (ru_W R) (ru_O R) (ru_P R) (nI (ru_C R)) (nI (ru_E R)) (nI ex) kn tY tM tD eD eI cA dY) : ∀ n j : Nat, j ≤ a → a - j < n → wY_extra_12 post x y (nI (ru_S R)) (nI (ru_F R)) (nI (ru_I R)) gM gD gL (ru_W R) (ru_O R) (ru_P R) (nI (ru_C R)) (nI (ru_E R)) (nI ex) kn tY tM tD eD eI cA dY n (nI j) := by
  intro n
  induction n with
  | zero => intro j h1 h2; omega
  | succ n ih =>
    intro j h1 h2
    unfold wY_extra_12
    rw [nI_clamp (by omega)]
    refine pk_le ex j (fun z => ?_) (fun z => ⟨vp_in_nI (by omega) (by omega), br_c (fun e => ?_) (fun e => ?_)⟩)
    · rw [show a = j by omega] at h; exact h
    · have c : a = j := by
        rcases Nat.lt_or_ge j a with z2 | z2
        · exact absurd e (a2 j z2)
        · omega
      rw [c] at h; exact h
    · have c : ¬ j = a := fun c => e (by rw [c]; exact a3 (by omega))
      exact nm_r (nI_1 j) (ih (j + 1) (by omega) (by omega))
theorem na_01 {x : Int32} (h : x = 0 ∨ x = 1) : vp_nar .boolean x = 0 ∨ vp_nar .boolean x = 1 := by
  rcases h with h | h
  · rw [h]; exact Or.inl rfl
  · rw [h]; exact Or.inr rfl
theorem eo_put {a d : Nat} {w : Int32} (hx : eo_k ex eD eI) (ha : a ≤ ex) (h12 : a < 12) (hd : d < 7305) (hw : w = 0 ∨ w = 1) (ex' : Nat) (he : ex' = if a = ex then ex + 1 else ex) : eo_k ex' (upd eD a (nI d)) (upd eI a (vp_nar .boolean w)) := by
  have h1 := hx.1
  refine ⟨?_, fun i hi => ?_, fun i => ?_⟩
  · rw [he]; split <;> omega
  · by_cases c : i = a
    · exact ⟨d, hd, by rw [c, pk_us]⟩
    · rw [pk_un c]
      refine hx.2.1 i ?_
      rw [he] at hi
      split at hi <;> omega
  · by_cases c : i = a
    · rw [c, pk_us]; exact na_01 hw
    · rw [pk_un c]; exact hx.2.2 i
theorem eo_del {a : Nat} (hx : eo_k ex eD eI) (ha : a < ex) : eo_k (ex - 1) (upd eD a (eD (ex - 1))) (upd eI a (vp_nar .boolean (eI (ex - 1)))) := by
  have h1 := hx.1
  refine ⟨by omega, fun i hi => ?_, fun i => ?_⟩
  · by_cases c : i = a
    · rw [c, pk_us]; exact hx.2.1 _ (by omega)
    · rw [pk_un c]; exact hx.2.1 i (by omega)
  · by_cases c : i = a
    · rw [c, pk_us]; exact na_01 (hx.2.2 _)
    · rw [pk_un c]; exact hx.2.2 i
/-- putting a day: X's walk and Y's, with one outcome -/
theorem xw_ex63 {post : Int32 → SX → Prop} {x y : Int32} {a : Nat} (hx : eo_k ex eD eI) (ha : a ≤ ex) (h1 : a = 12 → post (-3) (nI (ru_S R), nI (ru_F R), nI (ru_I R), ru_M R, ru_D R, ru_L R, ru_W R, ru_O R, ru_P R, nI (ru_C R), nI (ru_E R), nI ex, uM, uD, uW, uO, kM, kK, rd, md, eD, eI, yM, dD)) (h2 : a < 12 → post (nI (if a = ex then ex + 1 else ex)) (nI (ru_S R), nI (ru_F R), nI (ru_I R), ru_M R, ru_D R, ru_L R, ru_W R, ru_O R, ru_P R, nI (ru_C R), nI (ru_E R), nI (if a = ex then ex + 1 else ex), uM, uD, uW, uO, kM, kK, 0, md, upd eD a x, upd eI a (vp_nar .boolean (if y = 1 then 1 else 0)), yM, dD)) : wX_extra_63 post x y (nI a) (nI (ru_S R)) (nI (ru_F R)) (nI (ru_I R)) (ru_M R) (ru_D R) (ru_L R) (ru_W R) (ru_O R) (ru_P R) (nI (ru_C R)) (nI (ru_E R)) (nI ex) uM uD uW uO kM kK rd md eD eI yM dD := by
  have h12 := hx.1
  unfold wX_extra_63
  refine pk_eq a 12 (fun z => h1 z) (fun z => ?_)
  have h3 := h2 (by omega)
  have go : ∀ e : Nat, e = (if a = ex then ex + 1 else ex) → wX_extra_90 post x y (nI a) (nI (ru_S R)) (nI (ru_F R)) (nI (ru_I R)) (ru_M R) (ru_D R) (ru_L R) (ru_W R) (ru_O R) (ru_P R) (nI (ru_C R)) (nI (ru_E R)) (nI e) uM uD uW uO kM kK rd md eD eI yM dD := by
    intro e he
    rw [← he] at h3
    unfold wX_extra_90
    rw [nI_clamp (by omega)]
    refine ⟨vp_in_nI (by omega) (by omega), nm_e (br_c (fun y1 => ⟨vp_in_nI (by omega) (by omega), nm_e ?_⟩) (fun y1 => ⟨vp_in_nI (by omega) (by omega), nm_e ?_⟩))⟩
    · rw [if_pos y1] at h3; exact h3
    · rw [if_neg y1] at h3; exact h3
  refine pk_eq a ex (fun e => nm_r (nI_1 ex) (go (ex + 1) (if_pos e).symm)) (fun e => go ex (if_neg e).symm)
theorem yw_ex46 {post : Int32 → SY → Prop} {x y : Int32} {a : Nat} (hx : eo_k ex eD eI) (ha : a ≤ ex) (h1 : a = 12 → post (-3) (nI (ru_S R), nI (ru_F R), nI (ru_I R), gM, gD, gL, ru_W R, ru_O R, ru_P R, nI (ru_C R), nI (ru_E R), nI ex, kn, tY, tM, tD, eD, eI, cA, dY)) (h2 : a < 12 → post (nI (if a = ex then ex + 1 else ex)) (nI (ru_S R), nI (ru_F R), nI (ru_I R), gM, gD, gL, ru_W R, ru_O R, ru_P R, nI (ru_C R), nI (ru_E R), nI (if a = ex then ex + 1 else ex), 0, tY, tM, tD, upd eD a x, upd eI a (vp_nar .boolean (if y = 1 then 1 else 0)), cA, dY)) : wY_extra_46 post x y (nI a) (nI (ru_S R)) (nI (ru_F R)) (nI (ru_I R)) gM gD gL (ru_W R) (ru_O R) (ru_P R) (nI (ru_C R)) (nI (ru_E R)) (nI ex) kn tY tM tD eD eI cA dY := by
  have h12 := hx.1
  unfold wY_extra_46
  refine pk_eq a 12 (fun z => h1 z) (fun z => ?_)
  have h3 := h2 (by omega)
  have go : ∀ w : Int32, w = (if y = 1 then 1 else 0) → wY_extra_77 post (nI a) w (nI a) (nI (ru_S R)) (nI (ru_F R)) (nI (ru_I R)) gM gD gL (ru_W R) (ru_O R) (ru_P R) (nI (ru_C R)) (nI (ru_E R)) (nI ex) kn tY tM tD (upd eD a x) eI cA dY := by
    intro w hw
    rw [← hw] at h3
    unfold wY_extra_77
    rw [nI_clamp (by omega)]
    refine ⟨vp_in_nI (by omega) (by omega), nm_e (pk_eq a ex (fun e => nm_r (nI_1 ex) ?_) (fun e => ?_))⟩
    · rw [if_pos e] at h3; exact h3
    · rw [if_neg e] at h3; exact h3
  rw [nI_clamp (by omega)]
  exact ⟨vp_in_nI (by omega) (by omega), nm_e (br_c (fun y1 => go 1 (if_pos y1).symm) (fun y1 => go 0 (if_neg y1).symm))⟩
end
theorem i_vc_extra {k : Nat} {u : SX} {v : SY} (I : i_Rel k u v) (hk : k + 4 ≤ 2048) (v1 : Int32) (v2 : Int32) : wpX_extra (fun r u' => wpY_extra (fun r' v' => r' = r ∧ i_Rel (k + 4) u' v') v v1 v2) u v1 v2 := by
  refine rl_el (P := fun u v => wpX_extra (fun r u' => wpY_extra (fun r' v' => r' = r ∧ i_Rel (k + 4) u' v') v v1 v2) u v1 v2) ?_ I
  intro R ex uM uD uW uO kM kK rd md gM gD gL kn eD eI yM dD tY tM tD cA dY K
  have ⟨hR, hx, hM, hD, hL, tb, hr, hn⟩ := K
  have h12 := hx.1
  unfold wpX_extra
  refine xw_badDay (fun d hd e => br_t rfl ?_) (fun nb => br_f (by decide) ?_)
  · subst e
    obtain ⟨a, a1, a2, a3⟩ := ex_at eD (nI d) ex
    refine ⟨14, xw_extra11 h12 a1 a2 a3 ?_ 14 0 (by omega) (by omega)⟩
    have yes : ∀ post : Int32 → SY → Prop, wY_extra_36 post (nI d) v2 (nI a) (nI (ru_S R)) (nI (ru_F R)) (nI (ru_I R)) gM gD gL (ru_W R) (ru_O R) (ru_P R) (nI (ru_C R)) (nI (ru_E R)) (nI ex) kn tY tM tD eD eI cA dY → wpY_extra post (nI (ru_S R), nI (ru_F R), nI (ru_I R), gM, gD, gL, ru_W R, ru_O R, ru_P R, nI (ru_C R), nI (ru_E R), nI ex, kn, tY, tM, tD, eD, eI, cA, dY) (nI d) v2 := by
      intro post h
      unfold wpY_extra
      exact yw_isDay1 d rfl hd (br_f (by decide) ⟨14, yw_extra12 h12 a1 a2 a3 h 14 0 (by omega) (by omega)⟩)
    have w01 : (if v2 = 1 then (1 : Int32) else 0) = 0 ∨ (if v2 = 1 then (1 : Int32) else 0) = 1 := by
      by_cases c : v2 = 1
      · rw [if_pos c]; exact Or.inr rfl
      · rw [if_neg c]; exact Or.inl rfl
    have put : (v2 = 1 ∨ v2 = 2) → wX_extra_63 (fun r u' => wpY_extra (fun r' v' => r' = r ∧ i_Rel (k + 4) u' v') (nI (ru_S R), nI (ru_F R), nI (ru_I R), gM, gD, gL, ru_W R, ru_O R, ru_P R, nI (ru_C R), nI (ru_E R), nI ex, kn, tY, tM, tD, eD, eI, cA, dY) (nI d) v2) (nI d) v2 (nI a) (nI (ru_S R)) (nI (ru_F R)) (nI (ru_I R)) (ru_M R) (ru_D R) (ru_L R) (ru_W R) (ru_O R) (ru_P R) (nI (ru_C R)) (nI (ru_E R)) (nI ex) uM uD uW uO kM kK rd md eD eI yM dD := by
      intro c
      have y46 : ∀ post : Int32 → SY → Prop, wY_extra_46 post (nI d) v2 (nI a) (nI (ru_S R)) (nI (ru_F R)) (nI (ru_I R)) gM gD gL (ru_W R) (ru_O R) (ru_P R) (nI (ru_C R)) (nI (ru_E R)) (nI ex) kn tY tM tD eD eI cA dY → wpY_extra post (nI (ru_S R), nI (ru_F R), nI (ru_I R), gM, gD, gL, ru_W R, ru_O R, ru_P R, nI (ru_C R), nI (ru_E R), nI ex, kn, tY, tM, tD, eD, eI, cA, dY) (nI d) v2 := by
        intro post h
        refine yes post ?_
        unfold wY_extra_36
        rcases c with c | c
        · exact br_t c h
        · exact br_f (by rw [c]; decide) (br_t c h)
      refine xw_ex63 hx a1 (fun z => y46 _ (yw_ex46 hx a1 (fun _ => ⟨rfl, rl_mk R ex K⟩) (fun z2 => absurd z2 (by omega)))) (fun z => y46 _ (yw_ex46 hx a1 (fun z2 => absurd z2 (by omega)) (fun _ => ⟨rfl, ?_⟩)))
      exact rl_mk R (if a = ex then ex + 1 else ex) (rl_new hR (eo_put hx a1 z hd w01 _ rfl) hM hD hL tb)
    unfold wX_extra_35
    by_cases c1 : v2 = 1
    · exact br_t c1 (put (Or.inl c1))
    · by_cases c2 : v2 = 2
      · exact br_f c1 (br_t c2 (put (Or.inr c2)))
      · refine br_f c1 (br_f c2 (pk_le ex a (fun z => ?_) (fun z => ?_)))
        · refine yes _ ?_
          unfold wY_extra_36
          exact br_f c1 (br_f c2 (br_t (nI_le z (by omega)) ⟨rfl, rl_mk R ex ⟨hR, hx, hM, hD, hL, tb, hr, fun z => absurd rfl z⟩⟩))
        · unfold wpX_forgetExtra
          have e : nI ex - 1 = nI (ex - 1) := pk_sub (b := 1) (by omega)
          refine nm_r e ?_
          rw [nI_clamp (by omega), nI_clamp (by omega)]
          refine ⟨vp_in_nI (by omega) (by omega), vp_in_nI (by omega) (by omega), nm_e ⟨vp_in_nI (by omega) (by omega), vp_in_nI (by omega) (by omega), nm_e (yes _ ?_)⟩⟩
          unfold wY_extra_36
          refine br_f c1 (br_f c2 (br_f (nI_ge z (by omega)) (nm_r e ?_)))
          rw [nI_clamp (by omega), nI_clamp (by omega)]
          refine ⟨vp_in_nI (by omega) (by omega), vp_in_nI (by omega) (by omega), nm_e ⟨vp_in_nI (by omega) (by omega), vp_in_nI (by omega) (by omega), nm_e ⟨rfl, ?_⟩⟩⟩
          exact rl_mk R (ex - 1) (rl_new hR (eo_del hx z) hM hD hL tb)
  · unfold wpY_extra
    exact yw_isDay (fun d hd e => absurd ⟨d, hd, e⟩ nb) (fun _ => br_t rfl ⟨rfl, rl_mk R ex K⟩)
end
section
/-! the questions, both sides -/
theorem i_vc_occurs {k : Nat} {u : SX} {v : SY} (I : i_Rel k u v) (hk : k + 4 ≤ 2048) (v1 : Int32) : wpX_occurs (fun r u' => wpY_occurs (fun r' v' => r' = r ∧ i_Rel (k + 4) u' v') v v1) u v1 := by
  refine rl_el (P := fun u v => wpX_occurs (fun r u' => wpY_occurs (fun r' v' => r' = r ∧ i_Rel (k + 4) u' v') v v1) u v1) ?_ I
  intro R ex uM uD uW uO kM kK rd md gM gD gL kn eD eI yM dD tY tM tD cA dY K
  have ⟨hR, hx, hM, hD, hL, tb, hr, hn⟩ := K
  unfold wpX_occurs
  refine xw_badDay (fun d hd e => br_t rfl (xw_prepare hR hx hr ?_)) (fun nb => br_f (by decide) ?_)
  · intro uM uD uW uO kM kK rd md yM dD xf
    refine xw_isIn d e (by omega) ⟨zb_now _, ?_⟩
    rw [xf d (by omega)]
    unfold wpY_occurs
    refine yw_work hR hM hD hL tb hx hn ?_
    intro kn cA dY yf
    refine yw_isDay1 d e hd (br_f (by decide) ?_)
    subst e
    rw [nI_clamp (by omega)]
    have K2 : rl_k R ex rd kn gM gD gL eD eI dD tY tM tD dY := ⟨hR, hx, hM, hD, hL, tb, fun _ => xf, fun _ => yf⟩
    refine ⟨vp_in_nI hd (by omega), zb_b0 _ (yf d hd) (fun hf => ?_) (fun ht => ?_)⟩
    · rw [hf]; exact ⟨rfl, rl_mk R ex K2⟩
    · rw [ht]; exact ⟨rfl, rl_mk R ex K2⟩
  · unfold wpY_occurs
    refine yw_work hR hM hD hL tb hx hn ?_
    intro kn cA dY yf
    exact yw_isDay (fun d hd e => absurd ⟨d, hd, e⟩ nb) (fun _ => br_t rfl ⟨rfl, rl_mk R ex ⟨hR, hx, hM, hD, hL, tb, hr, fun _ => yf⟩⟩)
theorem i_vc_next {k : Nat} {u : SX} {v : SY} (I : i_Rel k u v) (hk : k + 4 ≤ 2048) (v1 : Int32) : wpX_next (fun r u' => wpY_next (fun r' v' => r' = r ∧ i_Rel (k + 4) u' v') v v1) u v1 := by
  refine rl_el (P := fun u v => wpX_next (fun r u' => wpY_next (fun r' v' => r' = r ∧ i_Rel (k + 4) u' v') v v1) u v1) ?_ I
  intro R ex uM uD uW uO kM kK rd md gM gD gL kn eD eI yM dD tY tM tD cA dY K
  have ⟨hR, hx, hM, hD, hL, tb, hr, hn⟩ := K
  unfold wpX_next
  refine xw_badDay (fun d hd e => br_t rfl (xw_prepare hR hx hr ?_)) (fun nb => br_f (by decide) ?_)
  · intro uM uD uW uO kM kK rd md yM dD xf
    subst e
    obtain ⟨t, t1, t2, t3, t4⟩ := zf_first (zf_n R ex eD eI) 7306 d (by omega) (by omega)
    refine ⟨7401, xw_next15 xf t t3 t2 ?_ 7401 d (by omega) (by omega) (Or.inl t1) t4⟩
    unfold wpY_next
    refine yw_isDay1 d rfl hd (br_f (by decide) (yw_work hR hM hD hL tb hx hn ?_))
    intro kn cA dY yf
    refine ⟨7306, yw_next16 yf t t3 t2 ⟨rfl, ?_⟩ 7306 d t1 (by omega) t4⟩
    exact rl_mk R ex ⟨hR, hx, hM, hD, hL, tb, fun _ => xf, fun _ => yf⟩
  · unfold wpY_next
    exact yw_isDay (fun d hd e => absurd ⟨d, hd, e⟩ nb) (fun _ => br_t rfl ⟨rfl, rl_mk R ex K⟩)
theorem i_vc_previous {k : Nat} {u : SX} {v : SY} (I : i_Rel k u v) (hk : k + 4 ≤ 2048) (v1 : Int32) : wpX_previous (fun r u' => wpY_previous (fun r' v' => r' = r ∧ i_Rel (k + 4) u' v') v v1) u v1 := by
  refine rl_el (P := fun u v => wpX_previous (fun r u' => wpY_previous (fun r' v' => r' = r ∧ i_Rel (k + 4) u' v') v v1) u v1) ?_ I
  intro R ex uM uD uW uO kM kK rd md gM gD gL kn eD eI yM dD tY tM tD cA dY K
  have ⟨hR, hx, hM, hD, hL, tb, hr, hn⟩ := K
  unfold wpX_previous
  refine xw_badDay (fun d hd e => br_t rfl (xw_prepare hR hx hr ?_)) (fun nb => br_f (by decide) ?_)
  · intro uM uD uW uO kM kK rd md yM dD xf
    have e2 : v1 = nI (d + 1) - 1 := by rw [nI_pred]; exact e
    obtain ⟨t, t1, t3, t4⟩ := zf_last (zf_n R ex eD eI) (d + 1)
    refine ⟨7307, ?_⟩
    rw [e2]
    refine xw_prev15 xf t t3 ?_ 7307 (d + 1) (by omega) (by omega) t1 t4
    rw [← e2]
    unfold wpY_previous
    refine yw_isDay1 d e hd (br_f (by decide) (yw_work hR hM hD hL tb hx hn ?_))
    intro kn cA dY yf
    refine ⟨7307, ?_⟩
    rw [e2]
    refine yw_prev16 yf t t3 ⟨rfl, ?_⟩ 7307 (d + 1) (by omega) (by omega) t1 t4
    exact rl_mk R ex ⟨hR, hx, hM, hD, hL, tb, fun _ => xf, fun _ => yf⟩
  · unfold wpY_previous
    exact yw_isDay (fun d hd e => absurd ⟨d, hd, e⟩ nb) (fun _ => br_t rfl ⟨rfl, rl_mk R ex K⟩)
theorem i_vc_nth {k : Nat} {u : SX} {v : SY} (I : i_Rel k u v) (hk : k + 4 ≤ 2048) (v1 : Int32) : wpX_nth (fun r u' => wpY_nth (fun r' v' => r' = r ∧ i_Rel (k + 4) u' v') v v1) u v1 := by
  refine rl_el (P := fun u v => wpX_nth (fun r u' => wpY_nth (fun r' v' => r' = r ∧ i_Rel (k + 4) u' v') v v1) u v1) ?_ I
  intro R ex uM uD uW uO kM kK rd md gM gD gL kn eD eI yM dD tY tM tD cA dY K
  have ⟨hR, hx, hM, hD, hL, tb, hr, hn⟩ := K
  unfold wpX_nth
  refine br_c (fun h0 => xw_prepare hR hx hr ?_) (fun h0 => ?_)
  · intro uM uD uW uO kM kK rd md yM dD xf
    obtain ⟨m, hm, rfl⟩ := nI_of (Int32.not_lt.mpr h0)
    obtain ⟨t, t1, t2, t3⟩ := zf_nth (zf_n R ex eD eI) m 7305
    have fl : zc_n (zf_n R ex eD eI) 7360 = zc_n (zf_n R ex eD eI) 7305 := zc_fl 7360 (by omega) (fun i h1 h2 => zf_lt hx h1 h2)
    have go : ∀ t', (t' = if t < 7305 then t else 7360) → t' ≤ 7360 ∧ (t' < 7360 → zf_n R ex eD eI t' = true ∧ zc_n (zf_n R ex eD eI) t' = m) ∧ (t' = 7360 → zc_n (zf_n R ex eD eI) 7360 ≤ m) ∧ (if t' < 7360 then nI t' else -4) = (if t < 7305 then nI t else -4) := by
      intro t' e
      by_cases c : t < 7305
      · rw [if_pos c] at e
        subst e
        exact ⟨by omega, fun _ => t2 c, fun z => by omega, by rw [if_pos (by omega), if_pos c]⟩
      · rw [if_neg c] at e
        subst e
        exact ⟨by omega, fun z => by omega, fun _ => by rw [fl]; exact t3 (by omega), by rw [if_neg (by omega), if_neg c]⟩
    obtain ⟨g1, g2, g3, g4⟩ := go _ rfl
    refine ⟨116, xw_nth15 xf hm g1 g2 g3 ?_ 116 0 m (by omega) (by omega) (by omega) (Nat.zero_add _)⟩
    rw [g4]
    unfold wpY_nth
    refine yw_work hR hM hD hL tb hx hn ?_
    intro kn cA dY yf
    refine ⟨7306, yw_nth8 yf hm t1 t2 t3 ⟨rfl, ?_⟩ 7306 0 m (by omega) (by omega) (Nat.zero_add _)⟩
    exact rl_mk R ex ⟨hR, hx, hM, hD, hL, tb, fun _ => xf, fun _ => yf⟩
  · unfold wpY_nth
    refine yw_work hR hM hD hL tb hx hn ?_
    intro kn cA dY yf
    refine ⟨1, ?_⟩
    unfold wY_nth_8
    exact br_f (by decide) (br_t (Int32.not_le.mp h0) ⟨rfl, rl_mk R ex ⟨hR, hx, hM, hD, hL, tb, hr, fun _ => yf⟩⟩)
theorem i_vc_between {k : Nat} {u : SX} {v : SY} (I : i_Rel k u v) (hk : k + 4 ≤ 2048) (v1 : Int32) (v2 : Int32) : wpX_between (fun r u' => wpY_between (fun r' v' => r' = r ∧ i_Rel (k + 4) u' v') v v1 v2) u v1 v2 := by
  refine rl_el (P := fun u v => wpX_between (fun r u' => wpY_between (fun r' v' => r' = r ∧ i_Rel (k + 4) u' v') v v1 v2) u v1 v2) ?_ I
  intro R ex uM uD uW uO kM kK rd md gM gD gL kn eD eI yM dD tY tM tD cA dY K
  have ⟨hR, hx, hM, hD, hL, tb, hr, hn⟩ := K
  unfold wpX_between
  refine xw_badDay (fun a ha ea => br_t rfl (xw_badDay (fun b hb eb => br_t rfl ?_) (fun nb => br_f (by decide) ?_))) (fun nb => br_f (by decide) ?_)
  · subst ea eb
    refine pk_le a b (fun z => xw_prepare hR hx hr ?_) (fun z => ?_)
    · intro uM uD uW uO kM kK rd md yM dD xf
      refine xw_daysBefore xf a rfl (by omega) (xw_daysBefore xf (b + 1) (nI_1 b) (by omega) ?_)
      have mo := zc_mo (f := zf_n R ex eD eI) (show a ≤ b + 1 by omega)
      rw [pk_sub mo]
      unfold wpY_between
      refine yw_isDay1 a rfl ha (br_f (by decide) (yw_isDay1 b rfl hb (br_f (by decide) (yw_work hR hM hD hL tb hx hn ?_))))
      intro kn cA dY yf
      refine ⟨7307, yw_btw27 yf hb (by omega) ⟨rfl, ?_⟩ 7307 a 0 (by omega) (by omega) (by omega) (Nat.zero_add _)⟩
      exact rl_mk R ex ⟨hR, hx, hM, hD, hL, tb, fun _ => xf, fun _ => yf⟩
    · unfold wpY_between
      refine yw_isDay1 a rfl ha (br_f (by decide) (yw_isDay1 b rfl hb (br_f (by decide) (yw_work hR hM hD hL tb hx hn ?_))))
      intro kn cA dY yf
      refine ⟨1, ?_⟩
      unfold wY_between_27
      exact br_t (nI_lt z (by omega)) ⟨rfl, rl_mk R ex ⟨hR, hx, hM, hD, hL, tb, hr, fun _ => yf⟩⟩
  · unfold wpY_between
    exact yw_isDay1 a ea ha (br_f (by decide) (yw_isDay (fun d hd e => absurd ⟨d, hd, e⟩ nb) (fun _ => br_t rfl ⟨rfl, rl_mk R ex K⟩)))
  · unfold wpY_between
    exact yw_isDay (fun d hd e => absurd ⟨d, hd, e⟩ nb) (fun _ => br_t rfl ⟨rfl, rl_mk R ex K⟩)
theorem i_vc_weekday {k : Nat} {u : SX} {v : SY} (I : i_Rel k u v) (hk : k + 4 ≤ 2048) (v1 : Int32) : wpX_weekday (fun r => wpY_weekday (fun r' => r' = r ∧ i_Rel (k + 4) u v) v v1) u v1 := by
  refine rl_el (P := fun u v => wpX_weekday (fun r => wpY_weekday (fun r' => r' = r ∧ i_Rel (k + 4) u v) v v1) u v1) ?_ I
  intro R ex uM uD uW uO kM kK rd md gM gD gL kn eD eI yM dD tY tM tD cA dY K
  unfold wpX_weekday
  refine xw_badDay (fun d hd e => br_t rfl (xw_weekdayOf d e (by omega) ?_)) (fun nb => br_f (by decide) ?_)
  · exact yw_weekday d e hd ⟨rfl, rl_mk R ex K⟩
  · unfold wpY_weekday
    exact yw_isDay (fun d hd e => absurd ⟨d, hd, e⟩ nb) (fun _ => br_t rfl ⟨rfl, rl_mk R ex K⟩)
theorem do_2000 {y : Nat} (hy : y < 20) {x : Int32} (h : nI y + 2000 = x) : x = nI (y + 2000) := by
  rw [← h]; exact nI_add y 2000
theorem xw_dayOf {post : Int32 → Prop} {R : ru_T} {ex : Nat} {kM kK rd md uM uD uW uO : Int32} {eD eI yM : Nat → Int32} {dD : Nat → Int64} {p0 p1 p2 : Int32} (t : Nat) (ht : t ≤ 7305) (hm : t < 7305 → do_m p0 p1 p2 t) (hn : ∀ e, e < t → ¬ do_m p0 p1 p2 e) (h : post (if t < 7305 then nI t else -2)) : wpX_dayOf post (nI (ru_S R), nI (ru_F R), nI (ru_I R), ru_M R, ru_D R, ru_L R, ru_W R, ru_O R, ru_P R, nI (ru_C R), nI (ru_E R), nI ex, uM, uD, uW, uO, kM, kK, rd, md, eD, eI, yM, dD) p0 p1 p2 := by
  unfold wpX_dayOf
  by_cases c : t < 7305
  · rw [if_pos c] at h
    have ⟨m1, m2, m3⟩ := hm c
    have ⟨k1, k2, k3, k4⟩ := zk_ex c
    have hl := zm_lr (zy_o t) (zm_o t)
    have e0 := do_2000 k1 m1
    subst e0
    subst m2
    subst m3
    refine br_f (nI_nlt (b := 2000) (by omega) (by omega)) (br_f (nI_nlt (a := 2019) (by omega) (by omega)) (br_f (nI_nlt (b := 1) (by omega) (by omega)) (br_f (nI_nlt (a := 12) (by omega) (by omega)) (br_t (nI_le (a := 1) (by omega) (by omega)) ?_))))
    have q0 : nI (zy_o t + 2000) - 2000 = nI (zy_o t) := pk_sub (a := zy_o t + 2000) (b := 2000) (by omega)
    have q1 : nI (zm_o t + 1) - 1 = nI (zm_o t) := nI_pred _
    refine xw_monthLength (zy_o t) (zm_o t) q0 q1 (by omega) (by omega) (br_t (nI_le (by omega) (by omega)) ?_)
    refine xw_monthStart (zy_o t) (zm_o t) q0 q1 (by omega) (by omega) ?_
    have q2 : nI (zm_s (zy_o t) (zm_o t)) + nI (zd_o t + 1) - 1 = nI t := by
      rw [nI_add]
      refine (pk_sub (b := 1) (by omega)).trans (congrArg nI (by omega))
    rw [q2]
    exact h
  · rw [if_neg c] at h
    refine br_c (fun _ => h) (fun h1 => br_c (fun _ => h) (fun h2 => br_c (fun _ => h) (fun h3 => br_c (fun _ => h) (fun h4 => br_c (fun h5 => ?_) (fun _ => h)))))
    have p0n : ¬ p0 < 0 := fun z => h1 (Int32.lt_trans z (by decide))
    have p1n : ¬ p1 < 0 := fun z => h3 (Int32.lt_trans z (by decide))
    have p2n : ¬ p2 < 0 := fun z => by
      have := Int32.le_trans h5 (Int32.le_of_lt z)
      exact absurd this (by decide)
    obtain ⟨a, ha, rfl⟩ := nI_of p0n
    obtain ⟨b, hb, rfl⟩ := nI_of p1n
    obtain ⟨e, he, rfl⟩ := nI_of p2n
    have a1 : ¬ a < 2000 := fun z => h1 (nI_lt (b := 2000) z (by omega))
    have a2 : ¬ 2019 < a := fun z => h2 (nI_lt (a := 2019) z ha)
    have b1 : ¬ b < 1 := fun z => h3 (nI_lt (b := 1) z (by omega))
    have b2 : ¬ 12 < b := fun z => h4 (nI_lt (a := 12) z hb)
    have e1 : 1 ≤ e := (nI_leI (a := 1) (by omega) he).mp h5
    have q0 : nI a - 2000 = nI (a - 2000) := pk_sub (b := 2000) (by omega)
    have q1 : nI b - 1 = nI (b - 1) := pk_sub (b := 1) (by omega)
    have hl := zm_lr (a - 2000) (b - 1)
    refine xw_monthLength (a - 2000) (b - 1) q0 q1 (by omega) (by omega) (pk_le e (zm_l (a - 2000) (b - 1)) (fun z => ?_) (fun _ => h))
    exfalso
    have kd : zk_d (zm_s (a - 2000) (b - 1) + (e - 1)) (a - 2000) (b - 1) (e - 1) := zk_mk (by omega) (by omega) (by omega)
    have ⟨u1, u2, u3⟩ := zk_un kd
    refine hn _ (Nat.lt_of_lt_of_le (zk_b kd).2.2.2.2 (by omega)) ⟨?_, ?_, ?_⟩
    · rw [u1]; exact (nI_add _ 2000).trans (congrArg nI (by omega))
    · rw [u2]; exact congrArg nI (by omega)
    · rw [u3]; exact congrArg nI (by omega)
theorem do_ex (p0 p1 p2 : Int32) : ∃ t, t ≤ 7305 ∧ (t < 7305 → do_m p0 p1 p2 t) ∧ ∀ e, e < t → ¬ do_m p0 p1 p2 e := by
  by_cases c : ∃ d, do_m p0 p1 p2 d
  · obtain ⟨d, h1, h2⟩ := pk_least _ c
    by_cases z : d < 7305
    · exact ⟨d, by omega, fun _ => h1, h2⟩
    · exact ⟨7305, Nat.le_refl _, fun h => by omega, fun e he => h2 e (by omega)⟩
  · exact ⟨7305, Nat.le_refl _, fun h => by omega, fun e he z => c ⟨e, z⟩⟩
theorem i_vc_dayOf {k : Nat} {u : SX} {v : SY} (I : i_Rel k u v) (hk : k + 4 ≤ 2048) (v1 : Int32) (v2 : Int32) (v3 : Int32) : wpX_dayOf (fun r => wpY_dayOf (fun r' => r' = r ∧ i_Rel (k + 4) u v) v v1 v2 v3) u v1 v2 v3 := by
  refine rl_el (P := fun u v => wpX_dayOf (fun r => wpY_dayOf (fun r' => r' = r ∧ i_Rel (k + 4) u v) v v1 v2 v3) u v1 v2 v3) ?_ I
  intro R ex uM uD uW uO kM kK rd md gM gD gL kn eD eI yM dD tY tM tD cA dY K
  have tb := K.2.2.2.2.2.1
  obtain ⟨t, t1, t2, t3⟩ := do_ex v1 v2 v3
  refine xw_dayOf t t1 t2 t3 ?_
  unfold wpY_dayOf
  exact ⟨7306, yw_dayOf3 tb t t1 t2 t3 ⟨rfl, rl_mk R ex K⟩ 7306 0 (by omega) (by omega)⟩
end
