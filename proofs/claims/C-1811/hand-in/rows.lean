section
/-! pure rows to paste: stores, nI and lN arithmetic, masks, shifts, narrowing, branches by naturals (pk_le, pk_lt, pk_eq), loops (lp1 .. lp16: the measure of the state; rp1 ..: recursion), negatives. Take what you need -/
theorem pk_us {f : Nat → Int32} {k : Nat} {x : Int32} : upd f k x k = x := if_pos rfl
theorem pk_un {f : Nat → Int32} {k j : Nat} {x : Int32} (h : j ≠ k) : upd f k x j = f j := if_neg h
theorem pk_uLs {f : Nat → Int64} {k : Nat} {x : Int64} : vp_updL f k x k = x := if_pos rfl
theorem pk_uLn {f : Nat → Int64} {k j : Nat} {x : Int64} (h : j ≠ k) : vp_updL f k x j = f j := if_neg h
theorem pk_sub {a b : Nat} (h : b ≤ a) : nI a - nI b = nI (a - b) := by
  obtain ⟨c, rfl⟩ : ∃ c, a = c + b := ⟨a - b, by omega⟩
  rw [← nI_add, Int32.add_sub_cancel, Nat.add_sub_cancel]
theorem pk_m1 (n : Nat) : nI (n + 1) + (-1) = nI n := by
  rw [← nI_1, Int32.add_assoc, show (1 : Int32) + (-1) = 0 from rfl, Int32.add_zero]
theorem pk_mul (a b : Nat) : nI a * nI b = nI (a * b) := (Int32.ofNat_mul a b).symm
theorem pk_div {a d : Nat} (ha : a < 2 ^ 31) (h0 : 0 < d) (hd : d < 2 ^ 31) : nI a / nI d = nI (a / d) := by
  apply Int32.toInt_inj.mp
  rw [lg_idiv_nonneg (by rw [nI_toInt ha]; omega) (by rw [nI_toInt hd]; omega), nI_toInt ha, nI_toInt hd, nI_toInt (Nat.lt_of_le_of_lt (Nat.div_le_self a d) ha)]
  first | rfl | exact (Int.natCast_ediv _ _).symm
theorem pk_rem {a d : Nat} (ha : a < 2 ^ 31) (h0 : 0 < d) (hd : d < 2 ^ 31) : nI a - nI a / nI d * nI d = nI (a % d) := by
  rw [pk_div ha h0 hd, pk_mul, pk_sub (Nat.div_mul_le_self a d)]
  exact congrArg nI (by have := Nat.div_add_mod' a d; omega)
theorem pk_sub_toInt {a b : Nat} (ha : a < 2 ^ 30) (hb : b < 2 ^ 30) : (nI a - nI b).toInt = (a : Int) - b := by
  rw [Int32.toInt_sub, nI_toInt (by omega), nI_toInt (by omega)]
  exact Int.bmod_eq_of_le (by omega) (by omega)
theorem pk_sneg {a b : Nat} (hb : b < 2 ^ 30) (h : a < b) : nI a - nI b < 0 := by
  rw [Int32.lt_iff_toInt_lt, pk_sub_toInt (by omega) hb, show (0 : Int32).toInt = 0 from by decide]
  omega
theorem pk_ix (x : Int32) {n : Nat} (hn : n < 2 ^ 31) : x < 0 ∨ nI n ≤ x ∨ ∃ j : Nat, j < n ∧ x = nI j := by
  by_cases h : x < 0
  · exact Or.inl h
  · obtain ⟨j, hj, rfl⟩ := nI_of h
    by_cases h2 : j < n
    · exact Or.inr (Or.inr ⟨j, h2, rfl⟩)
    · exact Or.inr (Or.inl (nI_le (by omega) hj))
theorem pk_le {x y : Int32} {A B : Prop} (a b : Nat) (f : a ≤ b → A) (g : b < a → B) (hx : x = nI a := by rfl) (hy : y = nI b := by rfl) (ha : a < 2 ^ 31 := by omega) (hb : b < 2 ^ 31 := by omega) : (x ≤ y → A) ∧ (¬ x ≤ y → B) := by
  subst hx hy
  rw [nI_leI ha hb]
  exact ⟨f, fun z => g (by omega)⟩
theorem pk_lt {x y : Int32} {A B : Prop} (a b : Nat) (f : a < b → A) (g : b ≤ a → B) (hx : x = nI a := by rfl) (hy : y = nI b := by rfl) (ha : a < 2 ^ 31 := by omega) (hb : b < 2 ^ 31 := by omega) : (x < y → A) ∧ (¬ x < y → B) := by
  subst hx hy
  rw [nI_ltI ha hb]
  exact ⟨f, fun z => g (by omega)⟩
theorem pk_eq {x y : Int32} {A B : Prop} (a b : Nat) (f : a = b → A) (g : a ≠ b → B) (hx : x = nI a := by rfl) (hy : y = nI b := by rfl) (ha : a < 2 ^ 31 := by omega) (hb : b < 2 ^ 31 := by omega) : (x = y → A) ∧ (¬ x = y → B) := by
  subst hx hy
  rw [nI_eq ha hb]
  exact ⟨f, g⟩
theorem pk_in {x : Int32} (n N : Nat) (h : n < N) (hx : x = nI n := by rfl) (hN : N < 2 ^ 31 := by omega) : vp_in x N := by
  subst hx
  exact vp_in_nI h hN
theorem pk_cl {x : Int32} (n : Nat) (hx : x = nI n := by rfl) (h : n < 2 ^ 31 := by omega) : x.toNatClampNeg = n := by
  subst hx
  exact nI_clamp h
theorem pk_tn {n : Nat} (h : n < 2 ^ 32) : (nI n).toBitVec.toNat = n := Nat.mod_eq_of_lt h
theorem pk_and (x : Int32) {m : Int32} (k : Nat) (hm : m.toBitVec.toNat = 2 ^ k - 1) : x &&& m = nI (x.toBitVec.toNat % 2 ^ k) := by
  apply Int32.toBitVec_inj.mp
  apply BitVec.eq_of_toNat_eq
  rw [Int32.toBitVec_and, BitVec.toNat_and, hm, Nat.and_two_pow_sub_one_eq_mod]
  show _ = (BitVec.ofNat 32 _).toNat
  rw [BitVec.toNat_ofNat]
  exact (Nat.mod_eq_of_lt (Nat.lt_of_le_of_lt (Nat.mod_le _ _) x.toBitVec.isLt)).symm
theorem pk_andN {n : Nat} (h : n < 2 ^ 32) {m : Int32} (k : Nat) (hm : m.toBitVec.toNat = 2 ^ k - 1) : nI n &&& m = nI (n % 2 ^ k) := by
  rw [pk_and _ k hm, pk_tn h]
theorem pk_andE (x : Int32) {m : Int32} (k : Nat) (hm : m.toBitVec.toNat = 2 ^ k - 1) : ∃ j : Nat, j < 2 ^ k ∧ x &&& m = nI j := ⟨_, Nat.mod_lt _ (Nat.two_pow_pos k), pk_and x k hm⟩
theorem pk_andIn (x : Int32) {m : Int32} (k : Nat) (hm : m.toBitVec.toNat = 2 ^ k - 1) (hk : k ≤ 30) : vp_in (x &&& m) (2 ^ k) := by
  obtain ⟨j, hj, e⟩ := pk_andE x k hm
  rw [e]
  exact vp_in_nI hj (Nat.lt_of_le_of_lt (Nat.pow_le_pow_right (by decide) hk) (by decide))
theorem pk_shl (a s : Int32) (k : Nat) (hs : (s.toBitVec.smod 32).toNat = k) : (a <<< s).toBitVec.toNat = a.toBitVec.toNat * 2 ^ k % 2 ^ 32 := by
  show (a.toBitVec <<< (s.toBitVec.smod 32).toNat).toNat = _
  rw [hs, BitVec.toNat_shiftLeft, Nat.shiftLeft_eq]
theorem pk_shlN {n : Nat} (s : Int32) (k : Nat) (hs : (s.toBitVec.smod 32).toNat = k) (h : n * 2 ^ k < 2 ^ 32) : nI n <<< s = nI (n * 2 ^ k) := by
  apply Int32.toBitVec_inj.mp
  apply BitVec.eq_of_toNat_eq
  have hn : n < 2 ^ 32 := Nat.lt_of_le_of_lt (Nat.le_mul_of_pos_right n (Nat.two_pow_pos k)) h
  rw [pk_shl _ _ k hs, pk_tn hn, pk_tn h, Nat.mod_eq_of_lt h]
theorem pk_shr (a s : Int32) (k : Nat) (hs : (s.toBitVec.smod 32).toNat = k) : (a >>> s).toInt = a.toInt >>> k := by
  show (a.toBitVec.sshiftRight (s.toBitVec.smod 32).toNat).toInt = _
  rw [hs, BitVec.toInt_sshiftRight]
  rfl
theorem pk_shrN {n : Nat} (h : n < 2 ^ 31) (s : Int32) (k : Nat) (hs : (s.toBitVec.smod 32).toNat = k) : nI n >>> s = nI (n / 2 ^ k) := by
  apply Int32.toInt_inj.mp
  have h2 : n / 2 ^ k ≤ n := Nat.div_le_self _ _
  rw [pk_shr _ _ k hs, nI_toInt h, nI_toInt (by omega), Int.shiftRight_eq_div_pow]
  rfl
theorem pk_ushr (x s : Int32) (k : Nat) (hs : ((s.toUInt32 &&& Int32.toUInt32 31).toBitVec % 32).toNat = k) : (x.toUInt32 >>> (s.toUInt32 &&& Int32.toUInt32 31)).toInt32.toBitVec.toNat = x.toBitVec.toNat / 2 ^ k := by
  have e : (x.toUInt32 >>> (s.toUInt32 &&& Int32.toUInt32 31)).toInt32.toBitVec = x.toBitVec >>> k := by
    rw [← hs]
    exact UInt32.toBitVec_shiftRight _ _
  rw [e, BitVec.toNat_ushiftRight, Nat.shiftRight_eq_div_pow]
theorem pk_ushrN {n : Nat} (hn : n < 2 ^ 32) (s : Int32) (k : Nat) (hs : ((s.toUInt32 &&& Int32.toUInt32 31).toBitVec % 32).toNat = k) : ((nI n).toUInt32 >>> (s.toUInt32 &&& Int32.toUInt32 31)).toInt32 = nI (n / 2 ^ k) := by
  apply Int32.toBitVec_inj.mp
  apply BitVec.eq_of_toNat_eq
  rw [pk_ushr _ s k hs, pk_tn hn, pk_tn (Nat.lt_of_le_of_lt (Nat.div_le_self _ _) hn)]
theorem pk_vb (z : Int32) : vp_nar .byte z.toInt8.toInt32 = z.toInt8.toInt32 := by rw [vp_nar_byte]; simp
/-! ===== Int32 by its bits: bt x i ===== -/
def bt (x : Int32) (i : Nat) : Bool := x.toBitVec.getLsbD i
theorem b_ext {x y : Int32} (h : ∀ i, i < 32 → bt x i = bt y i) : x = y := Int32.toBitVec_inj.mp (BitVec.eq_of_getLsbD_eq (fun i hi => h i hi))
theorem b_or (x y : Int32) (i : Nat) : bt (x ||| y) i = (bt x i || bt y i) := by unfold bt; rw [Int32.toBitVec_or, BitVec.getLsbD_or]
theorem b_and (x y : Int32) (i : Nat) : bt (x &&& y) i = (bt x i && bt y i) := by unfold bt; rw [Int32.toBitVec_and, BitVec.getLsbD_and]
theorem b_xor (x y : Int32) (i : Nat) : bt (x ^^^ y) i = (bt x i ^^ bt y i) := by unfold bt; rw [Int32.toBitVec_xor, BitVec.getLsbD_xor]
theorem b_big {x : Int32} {i : Nat} (h : 32 ≤ i) : bt x i = false := BitVec.getLsbD_of_ge _ _ h
theorem b_255 (i : Nat) : bt 255 i = decide (i < 8) := by
  rcases Nat.lt_or_ge i 32 with h | h
  · exact (by decide +kernel : ∀ i, i < 32 → bt 255 i = decide (i < 8)) i h
  · rw [b_big h, decide_eq_false (by omega)]
theorem b_65535 (i : Nat) : bt 65535 i = decide (i < 16) := by
  rcases Nat.lt_or_ge i 32 with h | h
  · exact (by decide +kernel : ∀ i, i < 32 → bt 65535 i = decide (i < 16)) i h
  · rw [b_big h, decide_eq_false (by omega)]
theorem b_m1 : ∀ i, i < 32 → bt (-1) i = true := by decide +kernel
theorem b_0 (i : Nat) : bt 0 i = false := BitVec.getLsbD_zero
theorem s_l : ∀ n, n < 32 → ((nI n &&& 31).toBitVec.smod 32).toNat = n := by decide +kernel
theorem s_u : ∀ n, n < 32 → (((nI n).toUInt32 &&& Int32.toUInt32 31).toBitVec % 32).toNat = n := by decide +kernel
theorem b_shl (n : Nat) (hn : n < 32) (x : Int32) {i : Nat} (hi : i < 32) : bt (x <<< (nI n &&& 31)) i = (decide (n ≤ i) && bt x (i - n)) := by
  unfold bt
  rw [Int32.toBitVec_shiftLeft]
  show (x.toBitVec <<< ((nI n &&& 31).toBitVec.smod 32).toNat).getLsbD i = _
  rw [s_l n hn, BitVec.getLsbD_shiftLeft]
  rcases Nat.lt_or_ge i n with h | h
  · simp [h, Nat.not_le.mpr h]
  · simp [hi, h, Nat.not_lt.mpr h]
theorem b_ushr (n : Nat) (hn : n < 32) (x : Int32) (i : Nat) : bt ((x.toUInt32 >>> ((nI n).toUInt32 &&& Int32.toUInt32 31)).toInt32) i = bt x (n + i) := by
  show (x.toUInt32 >>> ((nI n).toUInt32 &&& Int32.toUInt32 31)).toBitVec.getLsbD i = x.toUInt32.toBitVec.getLsbD (n + i)
  rw [UInt32.toBitVec_shiftRight]
  show (x.toUInt32.toBitVec >>> (((nI n).toUInt32 &&& Int32.toUInt32 31).toBitVec % 32).toNat).getLsbD i = _
  rw [s_u n hn, BitVec.getLsbD_ushiftRight]
theorem b_sshr (n : Nat) (hn : n < 32) (x : Int32) {i : Nat} (hi : i < 32) : bt (x >>> (nI n &&& 31)) i = if n + i < 32 then bt x (n + i) else bt x 31 := by
  unfold bt
  rw [Int32.toBitVec_shiftRight]
  show (x.toBitVec.sshiftRight ((nI n &&& 31).toBitVec.smod 32).toNat).getLsbD i = _
  rw [s_l n hn, BitVec.getLsbD_sshiftRight, BitVec.msb_eq_getLsbD_last]
  simp [hi]
end
section
/-! ===== sets of places as bits ===== -/
theorem ty_b1 : ∀ j, j < 32 → bt 1 j = decide (j = 0) := by decide +kernel
theorem ty_bm2 : ∀ j, j < 32 → bt (-2) j = !decide (j = 0) := by decide +kernel
theorem ty_pow : ∀ z, z < 7 → ∀ i, i < 32 → bt (((1 : Int32) <<< (nI z &&& 31)) - 1) i = decide (i < z) := by decide +kernel
theorem ty_one {k i : Nat} (hk : k < 32) (hi : i < 32) : bt ((1 : Int32) <<< (nI k &&& 31)) i = decide (i = k) := by
  rw [b_shl k hk 1 hi, ty_b1 (i - k) (by omega)]
  by_cases h : i = k
  · subst h; simp
  · rcases Nat.lt_or_ge i k with g | g
    · simp [h, Nat.not_le.mpr g]
    · have h2 : ¬ i - k = 0 := by omega
      simp [h, decide_eq_false h2]
theorem ty_s1 (x : Int32) {i : Nat} (hi : i < 32) : bt (x <<< ((1 : Int32) &&& 31)) i = (decide (1 ≤ i) && bt x (i - 1)) := b_shl 1 (by omega) x hi
/-- the places below n at which P holds -/
def ty_set (P : Nat → Bool) : Nat → Int32
  | 0 => 0
  | n + 1 => if P n = true then ty_set P n ||| ((1 : Int32) <<< (nI n &&& 31)) else ty_set P n
theorem ty_bset (P : Nat → Bool) : ∀ n, n ≤ 32 → ∀ i, i < 32 → bt (ty_set P n) i = (decide (i < n) && P i) := by
  intro n
  induction n with
  | zero => intro _ i _; rw [ty_set, b_0]; simp
  | succ n ih =>
    intro hn i hi
    have e := ih (by omega) i hi
    rw [ty_set]
    by_cases hP : P n = true
    · rw [if_pos hP, b_or, e, ty_one (by omega) hi]
      by_cases h : i = n
      · subst h; simp [hP]
      · have h2 : (i < n + 1) = (i < n) := by apply propext; omega
        simp [h, h2]
    · rw [if_neg hP, e]
      by_cases h : i = n
      · subst h; simp [hP]
      · have h2 : (i < n + 1) = (i < n) := by apply propext; omega
        simp [h2]
theorem ty_tst (x : Int32) {w : Nat} (hw : w < 31) : ((x >>> (nI w &&& 31)) &&& 1) = if bt x w = true then 1 else 0 := by
  apply b_ext
  intro i hi
  rw [b_and, b_sshr w (by omega) x hi, ty_b1 i hi]
  by_cases h : i = 0
  · subst h
    rw [if_pos (by omega), Nat.add_zero]
    cases bt x w
    · rw [if_neg (by decide), b_0]; rfl
    · rw [if_pos rfl, ty_b1 0 (by omega)]; rfl
  · rw [decide_eq_false h, Bool.and_false]
    cases bt x w
    · rw [if_neg (by decide), b_0]
    · rw [if_pos rfl, ty_b1 i hi, decide_eq_false h]
theorem ty_tst0 (x : Int32) {w : Nat} (hw : w < 31) : ((x >>> (nI w &&& 31)) &&& 1) = 0 ↔ bt x w = false := by
  rw [ty_tst x hw]
  cases bt x w <;> decide
theorem ty_tst1 (x : Int32) {w : Nat} (hw : w < 31) : ((x >>> (nI w &&& 31)) &&& 1) = 1 ↔ bt x w = true := by
  rw [ty_tst x hw]
  cases bt x w <;> decide
theorem ty_msk (x : Int32) {w : Nat} (hw : w < 32) : (x &&& ((1 : Int32) <<< (nI w &&& 31))) = 0 ↔ bt x w = false := by
  constructor
  · intro h
    have e : bt (x &&& ((1 : Int32) <<< (nI w &&& 31))) w = false := by rw [h, b_0]
    rw [b_and, ty_one hw hw, decide_eq_true rfl, Bool.and_true] at e
    exact e
  · intro h
    apply b_ext
    intro i hi
    rw [b_and, ty_one hw hi, b_0]
    by_cases g : i = w
    · subst g; rw [h]; rfl
    · rw [decide_eq_false g, Bool.and_false]
theorem ty_seq {P : Nat → Bool} {x : Int32} {n : Nat} (hn : n ≤ 32) (h : ∀ i, i < 32 → bt x i = (decide (i < n) && P i)) : x = ty_set P n := b_ext (fun i hi => by rw [h i hi, ty_bset P n hn i hi])
theorem ty_setc {P R : Nat → Bool} : ∀ n, (∀ i, i < n → P i = R i) → ty_set P n = ty_set R n := by
  intro n
  induction n with
  | zero => intro _; rfl
  | succ n ih =>
    intro h
    rw [ty_set, ty_set, ih (fun i hi => h i (by omega)), h n (by omega)]
theorem ty_sin {P : Nat → Bool} {n w : Nat} (hn : n ≤ 31) (hw : w < n) : (((ty_set P n) >>> (nI w &&& 31)) &&& 1) = 0 ↔ P w = false := by
  rw [ty_tst0 _ (by omega), ty_bset P n (by omega) w (by omega), decide_eq_true hw, Bool.true_and]
theorem ty_sin1 {P : Nat → Bool} {n w : Nat} (hn : n ≤ 31) (hw : w < n) : (((ty_set P n) >>> (nI w &&& 31)) &&& 1) = 1 ↔ P w = true := by
  rw [ty_tst1 _ (by omega), ty_bset P n (by omega) w (by omega), decide_eq_true hw, Bool.true_and]
theorem ty_sadd {P : Nat → Bool} {n w : Nat} (hn : n ≤ 32) (hw : w < n) : ty_set P n ||| ((1 : Int32) <<< (nI w &&& 31)) = ty_set (fun i => P i || decide (i = w)) n := by
  apply ty_seq hn
  intro i hi
  rw [b_or, ty_bset P n hn i hi, ty_one (by omega) hi]
  by_cases h : i = w
  · subst h; simp [hw]
  · simp [h]
theorem ty_sdel {P : Nat → Bool} {n w : Nat} (hn : n ≤ 32) (hw : w < n) : ty_set P n &&& (((1 : Int32) <<< (nI w &&& 31)) ^^^ (-1)) = ty_set (fun i => P i && !decide (i = w)) n := by
  apply ty_seq hn
  intro i hi
  rw [b_and, b_xor, ty_bset P n hn i hi, ty_one (by omega) hi, b_m1 i hi]
  by_cases h : i = w
  · subst h; simp
  · simp [h]
theorem ty_sz {P : Nat → Bool} {n : Nat} (hn : n ≤ 32) : ty_set P n = 0 ↔ ∀ w, w < n → P w = false := by
  constructor
  · intro h w hw
    have e := ty_bset P n hn w (by omega)
    rw [h, b_0, decide_eq_true hw, Bool.true_and] at e
    exact e.symm
  · intro h
    apply b_ext
    intro i hi
    rw [ty_bset P n hn i hi, b_0]
    by_cases g : i < n
    · rw [h i g, Bool.and_false]
    · rw [decide_eq_false g, Bool.false_and]
/-! ===== the costs ===== -/
def ty_f (i : Nat) : Nat := if i = 0 then 2 else 1
def ty_row (f : Nat) (p : Nat → Nat) (s : Nat → Bool) : Nat → Nat
  | 0 => p 0 + f
  | j + 1 => min (min (p (j + 1) + f) (ty_row f p s j + 1)) (p j + if s j = true then 0 else f)
/-- the least cost of editing the first i symbols of the query into the first j of the word; sm i j: symbols i and j are the same -/
def ty_D (sm : Nat → Nat → Bool) : Nat → Nat → Nat
  | 0 => fun j => 2 * j
  | i + 1 => ty_row (ty_f i) (ty_D sm i) (sm i)
theorem ty_D0 (sm : Nat → Nat → Bool) (j : Nat) : ty_D sm 0 j = 2 * j := rfl
theorem ty_Dn (sm : Nat → Nat → Bool) (i : Nat) : ty_D sm (i + 1) 0 = ty_D sm i 0 + ty_f i := rfl
theorem ty_Dc (sm : Nat → Nat → Bool) (i j : Nat) : ty_D sm (i + 1) (j + 1) = min (min (ty_D sm i (j + 1) + ty_f i) (ty_D sm (i + 1) j + 1)) (ty_D sm i j + if sm i j = true then 0 else ty_f i) := rfl
theorem ty_f_le (i : Nat) : 1 ≤ ty_f i ∧ ty_f i ≤ 2 := by unfold ty_f; split <;> omega
theorem ty_Dle (sm : Nat → Nat → Bool) : ∀ i j, ty_D sm i j ≤ 2 * i + 2 * j := by
  intro i
  induction i with
  | zero => intro j; rw [ty_D0]; omega
  | succ i ih =>
    intro j
    have f := ty_f_le i
    cases j with
    | zero => have := ih 0; rw [ty_Dn]; omega
    | succ j =>
      have := ih (j + 1)
      rw [ty_Dc]
      generalize (ty_D sm i j + if sm i j = true then 0 else ty_f i) = q
      omega
/-- a cell's cost against the three sets' bits: no, one, two typos -/
def ty_iv (d : Nat) (a b c : Bool) : Prop := (a = true ↔ d = 0) ∧ ((a = true ∨ b = true) ↔ d ≤ 1) ∧ ((a = true ∨ b = true ∨ c = true) ↔ d ≤ 2)
theorem ty_p0 {d : Nat} {a b c : Bool} (h : ty_iv d a b c) : ty_iv (d + 2) false false a := by
  obtain ⟨h1, h2, h3⟩ := h
  refine ⟨?_, ?_, ?_⟩
  · constructor
    · intro z; cases z
    · intro z; omega
  · constructor
    · intro z; rcases z with z | z <;> cases z
    · intro z; omega
  · constructor
    · intro z
      rcases z with z | z | z
      · cases z
      · cases z
      · have := h1.mp z; omega
    · intro z; exact Or.inr (Or.inr (h1.mpr (by omega)))
theorem ty_p1 {d e : Nat} {a b c a' b' c' : Bool} (s : Bool) (h : ty_iv d a b c) (h' : ty_iv e a' b' c') : ty_iv (min (e + 1) (d + if s = true then 0 else 2)) (a && s) ((b && s) || a') ((c && s) || b' || a) := by
  unfold ty_iv at *
  cases s <;> cases a <;> cases b <;> cases c <;> cases a' <;> cases b' <;> simp at h h' ⊢ <;> omega
theorem ty_p2 {d e : Nat} {a b c a' b' c' : Bool} (s : Bool) (h : ty_iv d a b c) (h' : ty_iv e a' b' c') : ty_iv (min (e + 1) (d + if s = true then 0 else 1)) (a && s) ((b && s) || a || a') ((c && s) || b || b') := by
  unfold ty_iv at *
  cases s <;> cases a <;> cases b <;> cases c <;> cases a' <;> cases b' <;> simp at h h' ⊢ <;> omega
theorem ty_l1 {p e : Nat} {a b c a' b' c' : Bool} (h : ty_iv p a b c) (h' : ty_iv e a' b' c') : ty_iv (min p (e + 2)) a b (c || a') := by
  unfold ty_iv at *
  cases a <;> cases b <;> cases c <;> cases a' <;> simp at h h' ⊢ <;> omega
theorem ty_l2 {p e : Nat} {a b c a' b' c' : Bool} (h : ty_iv p a b c) (h' : ty_iv e a' b' c') : ty_iv (min p (e + 1)) a (b || a') (c || b') := by
  unfold ty_iv at *
  cases a <;> cases b <;> cases c <;> cases a' <;> cases b' <;> simp at h h' ⊢ <;> omega
theorem ty_far {d : Nat} (h : 3 ≤ d) : ty_iv d false false false := by
  unfold ty_iv
  simp
  omega
end
section
/-! ===== the three sets, column by column ===== -/
def ty_m0 (z : Nat) (x : Int32) : Int32 := (x &&& (((1 : Int32) <<< (nI z &&& 31)) - 1)) &&& (-2)
def ty_m1 (z : Nat) (x : Int32) : Int32 := (x &&& (((1 : Int32) <<< (nI z &&& 31)) - 1)) &&& 1
theorem ty_bm0 {z i : Nat} (hz : z < 7) (hi : i < 32) (x : Int32) : bt (ty_m0 z x) i = (bt x i && decide (i < z) && !decide (i = 0)) := by
  rw [ty_m0, b_and, b_and, ty_pow z hz i hi, ty_bm2 i hi]
theorem ty_bm1 {z i : Nat} (hz : z < 7) (hi : i < 32) (x : Int32) : bt (ty_m1 z x) i = (bt x i && decide (i < z) && decide (i = 0)) := by
  rw [ty_m1, b_and, b_and, ty_pow z hz i hi, ty_b1 i hi]
def ty_lo1 (z : Nat) (n o : Int32) : Int32 := o ||| (ty_m0 z n <<< ((1 : Int32) &&& 31))
def ty_lo2 (z : Nat) (n o t : Int32) : Int32 := (t ||| (ty_m0 z (ty_lo1 z n o) <<< ((1 : Int32) &&& 31))) ||| (ty_m1 z n <<< ((1 : Int32) &&& 31))
theorem ty_z0 (x : Int32) : bt (x <<< ((1 : Int32) &&& 31)) 0 = false := by rw [ty_s1 x (by omega)]; rfl
theorem ty_zs (x : Int32) {i : Nat} (hi : i + 1 < 32) : bt (x <<< ((1 : Int32) &&& 31)) (i + 1) = bt x i := by
  rw [ty_s1 x hi, decide_eq_true (by omega), Bool.true_and, Nat.add_sub_cancel]
theorem ty_m00 {z : Nat} (hz : z < 7) (x : Int32) : bt (ty_m0 z x) 0 = false := by rw [ty_bm0 hz (by omega)]; simp
theorem ty_m0s {z i : Nat} (hz : z < 7) (hi : i + 1 < z) (x : Int32) : bt (ty_m0 z x) (i + 1) = bt x (i + 1) := by rw [ty_bm0 hz (by omega)]; simp [hi]
theorem ty_m10 {z : Nat} (hz : z < 7) (h0 : 0 < z) (x : Int32) : bt (ty_m1 z x) 0 = bt x 0 := by rw [ty_bm1 hz (by omega)]; simp [h0]
theorem ty_m1s {z i : Nat} (hz : z < 7) (hi : i + 1 < 32) (x : Int32) : bt (ty_m1 z x) (i + 1) = false := by rw [ty_bm1 hz hi]; simp
theorem ty_leave {z : Nat} (hz : z < 7) (P F : Nat → Nat) (n o t : Int32) (hp : ∀ i, i ≤ z → ty_iv (P i) (bt n i) (bt o i) (bt t i)) (h0 : F 0 = P 0) (hs : ∀ i, i < z → F (i + 1) = min (P (i + 1)) (F i + ty_f i)) :
    ∀ i, i ≤ z → ty_iv (F i) (bt n i) (bt (ty_lo1 z n o) i) (bt (ty_lo2 z n o t) i) := by
  intro i
  induction i with
  | zero =>
    intro _
    have e := hp 0 (by omega)
    rw [h0, ty_lo1, ty_lo2, b_or, b_or, b_or, ty_z0, ty_z0, ty_z0, Bool.or_false, Bool.or_false, Bool.or_false]
    exact e
  | succ i ih =>
    intro hi
    have e := ih (by omega)
    have q := hp (i + 1) hi
    cases i with
    | zero =>
      have r := ty_l1 q e
      rw [hs 0 (by omega)]
      have a1 : bt (ty_lo1 z n o) (0 + 1) = bt o (0 + 1) := by
        rw [ty_lo1, b_or, ty_zs _ (by omega), ty_m00 hz, Bool.or_false]
      have a2 : bt (ty_lo2 z n o t) (0 + 1) = (bt t (0 + 1) || bt n 0) := by
        rw [ty_lo2, b_or, b_or, ty_zs _ (by omega), ty_zs _ (by omega), ty_m00 hz, Bool.or_false, ty_m10 hz (by omega)]
      rw [a1, a2]
      exact r
    | succ k =>
      have r := ty_l2 q e
      rw [hs (k + 1) (by omega)]
      have a1 : bt (ty_lo1 z n o) (k + 1 + 1) = (bt o (k + 1 + 1) || bt n (k + 1)) := by
        rw [ty_lo1, b_or, ty_zs _ (by omega), ty_m0s hz (by omega)]
      have a2 : bt (ty_lo2 z n o t) (k + 1 + 1) = (bt t (k + 1 + 1) || bt (ty_lo1 z n o) (k + 1)) := by
        rw [ty_lo2, b_or, b_or, ty_zs _ (by omega), ty_zs _ (by omega), ty_m0s hz (by omega), ty_m1s hz (by omega), Bool.or_false]
      rw [a1, a2]
      exact r
def ty_col (sm : Nat → Nat → Bool) (z j : Nat) (n o t : Int32) : Prop := ∀ i, i ≤ z → ty_iv (ty_D sm i j) (bt n i) (bt o i) (bt t i)
def ty_P0 (sm : Nat → Nat → Bool) : Nat → Nat
  | 0 => 0
  | i + 1 => ty_D sm i 0 + ty_f i + 3
theorem ty_col0 (sm : Nat → Nat → Bool) {z : Nat} (hz : z < 7) : ty_col sm z 0 1 (ty_lo1 z 1 0) (ty_lo2 z 1 0 0) := by
  refine ty_leave hz (ty_P0 sm) (fun i => ty_D sm i 0) 1 0 0 ?_ rfl ?_
  · intro i hi
    rw [b_0, ty_b1 i (by omega)]
    cases i with
    | zero => unfold ty_P0 ty_iv; simp
    | succ i => exact ty_far (by show 3 ≤ ty_D sm i 0 + ty_f i + 3; omega)
  · intro i hi
    show ty_D sm (i + 1) 0 = min (ty_D sm i 0 + ty_f i + 3) (ty_D sm i 0 + ty_f i)
    rw [ty_Dn]
    omega
def ty_a0 (h n : Int32) : Int32 := (n &&& h) <<< ((1 : Int32) &&& 31)
def ty_a1 (z : Nat) (h n o : Int32) : Int32 := (((o &&& h) <<< ((1 : Int32) &&& 31)) ||| (ty_m0 z n <<< ((1 : Int32) &&& 31))) ||| (n &&& (-2))
def ty_a2 (z : Nat) (h n o t : Int32) : Int32 := ((((t &&& h) <<< ((1 : Int32) &&& 31)) ||| (ty_m0 z o <<< ((1 : Int32) &&& 31))) ||| (o &&& (-2))) ||| ((ty_m1 z n <<< ((1 : Int32) &&& 31)) ||| (n &&& 1))
def ty_P1 (sm : Nat → Nat → Bool) (j : Nat) : Nat → Nat
  | 0 => ty_D sm 0 j + 2
  | i + 1 => min (ty_D sm (i + 1) j + 1) (ty_D sm i j + if sm i j = true then 0 else ty_f i)
theorem ty_bm20 : bt (-2) 0 = false := by decide +kernel
theorem ty_bm2s {i : Nat} (hi : i + 1 < 32) : bt (-2) (i + 1) = true := by rw [ty_bm2 _ hi]; simp
theorem ty_b10 : bt 1 0 = true := by decide +kernel
theorem ty_b1s {i : Nat} (hi : i + 1 < 32) : bt 1 (i + 1) = false := by rw [ty_b1 _ hi]; simp
theorem ty_adv (sm : Nat → Nat → Bool) {z j : Nat} (hz : z < 7) {h n o t : Int32} (hc : ty_col sm z j n o t) (hh : ∀ i, i < z → bt h i = sm i j) :
    ty_col sm z (j + 1) (ty_a0 h n) (ty_lo1 z (ty_a0 h n) (ty_a1 z h n o)) (ty_lo2 z (ty_a0 h n) (ty_a1 z h n o) (ty_a2 z h n o t)) := by
  refine ty_leave hz (ty_P1 sm j) (fun i => ty_D sm i (j + 1)) _ _ _ ?_ ?_ ?_
  · intro i hi
    cases i with
    | zero =>
      have e := ty_p0 (hc 0 (by omega))
      have a0 : bt (ty_a0 h n) 0 = false := by rw [ty_a0, ty_z0]
      have a1 : bt (ty_a1 z h n o) 0 = false := by
        rw [ty_a1, b_or, b_or, b_and, ty_z0, ty_z0, ty_bm20, Bool.and_false]; rfl
      have a2 : bt (ty_a2 z h n o t) 0 = bt n 0 := by
        rw [ty_a2, b_or, b_or, b_or, b_or, b_and o, b_and n 1, ty_z0, ty_z0, ty_z0, ty_bm20, ty_b10, Bool.and_false, Bool.and_true]; rfl
      rw [a0, a1, a2]
      exact e
    | succ i =>
      have c1 := hc (i + 1) hi
      have c0 := hc i (by omega)
      have hs := hh i (by omega)
      have a0 : bt (ty_a0 h n) (i + 1) = (bt n i && sm i j) := by rw [ty_a0, ty_zs _ (by omega), b_and, hs]
      cases i with
      | zero =>
        have r := ty_p1 (sm 0 j) c0 c1
        have a1 : bt (ty_a1 z h n o) (0 + 1) = ((bt o 0 && sm 0 j) || bt n (0 + 1)) := by
          rw [ty_a1, b_or, b_or, ty_zs _ (by omega), ty_zs _ (by omega), ty_m00 hz, b_and o, b_and n, ty_bm2s (by omega), hs, Bool.and_true, Bool.or_false]
        have a2 : bt (ty_a2 z h n o t) (0 + 1) = ((bt t 0 && sm 0 j) || bt o (0 + 1) || bt n 0) := by
          rw [ty_a2, b_or, b_or, b_or, b_or, ty_zs _ (by omega), ty_zs _ (by omega), ty_zs _ (by omega), ty_m00 hz, ty_m10 hz (by omega), b_and t, b_and o, b_and n, ty_bm2s (by omega), ty_b1s (by omega), hs, Bool.and_true, Bool.or_false, Bool.and_false, Bool.or_false]
        rw [a0, a1, a2]
        exact r
      | succ k =>
        have r := ty_p2 (sm (k + 1) j) c0 c1
        have a1 : bt (ty_a1 z h n o) (k + 1 + 1) = ((bt o (k + 1) && sm (k + 1) j) || bt n (k + 1) || bt n (k + 1 + 1)) := by
          rw [ty_a1, b_or, b_or, ty_zs _ (by omega), ty_zs _ (by omega), ty_m0s hz (by omega), b_and o, b_and n, ty_bm2s (by omega), hs, Bool.and_true]
        have a2 : bt (ty_a2 z h n o t) (k + 1 + 1) = ((bt t (k + 1) && sm (k + 1) j) || bt o (k + 1) || bt o (k + 1 + 1)) := by
          rw [ty_a2, b_or, b_or, b_or, b_or, ty_zs _ (by omega), ty_zs _ (by omega), ty_zs _ (by omega), ty_m0s hz (by omega), ty_m1s hz (by omega), b_and t, b_and o, b_and n, ty_bm2s (by omega), ty_b1s (by omega), hs, Bool.and_true, Bool.and_false, Bool.or_false, Bool.or_false]
        rw [a0, a1, a2]
        exact r
  · show ty_D sm 0 (j + 1) = ty_D sm 0 j + 2
    rw [ty_D0, ty_D0]; omega
  · intro i hi
    show ty_D sm (i + 1) (j + 1) = min (min (ty_D sm (i + 1) j + 1) (ty_D sm i j + if sm i j = true then 0 else ty_f i)) (ty_D sm i (j + 1) + ty_f i)
    rw [ty_Dc]
    generalize (ty_D sm i j + if sm i j = true then 0 else ty_f i) = q
    omega
/-- the least of g at 0 .. n - 1, and 100 -/
def ty_ms (g : Nat → Nat) : Nat → Nat
  | 0 => 100
  | j + 1 => min (ty_ms g j) (g j)
theorem ty_ms_le (g : Nat → Nat) : ∀ n, ty_ms g n ≤ 100
  | 0 => Nat.le_refl _
  | n + 1 => by have := ty_ms_le g n; rw [ty_ms]; omega
end
section
/-! ===== the component's typos of one word ===== -/
theorem ty_i8b (x : Int32) {i : Nat} (hi : i < 32) : bt (x.toInt8.toInt32) i = if i < 8 then bt x i else bt x 7 := by
  unfold bt
  rw [Int8.toBitVec_toInt32, Int32.toBitVec_toInt8, BitVec.getLsbD_signExtend, BitVec.msb_eq_getLsbD_last, BitVec.getLsbD_signExtend, BitVec.getLsbD_signExtend]
  by_cases h : i < 8 <;> simp [h, hi]
theorem ty_set8 (P : Nat → Bool) {n : Nat} (hn : n ≤ 7) : (ty_set P n).toInt8.toInt32 = ty_set P n := by
  apply b_ext
  intro i hi
  rw [ty_i8b _ hi, ty_bset P n (by omega) 7 (by omega)]
  by_cases h : i < 8
  · rw [if_pos h]
  · rw [if_neg h, ty_bset P n (by omega) i hi, decide_eq_false (by omega), decide_eq_false (by omega), Bool.false_and, Bool.false_and]
theorem ty_rch {d : Nat} {a b c : Bool} (h : ty_iv d a b c) : (¬ a = false → d = 0) ∧ (a = false → ¬ b = false → d = 1) ∧ (a = false → b = false → ¬ c = false → d = 2) ∧ (a = false → b = false → c = false → 3 ≤ d) := by
  unfold ty_iv at h
  cases a <;> cases b <;> cases c <;> simp at h ⊢ <;> omega
section
variable {fp fs fn fo ft fk ff : Int32} {le we sy qu hv tc : Nat → Int32}
theorem tx_mov0 {post : Int32 → Prop} {x : Int32} (z : Nat) (h : post (ty_m0 z x)) : wpX_movable post (fp, nI z, fn, fo, ft, fk, ff, le, we, sy, qu, hv, tc) x 0 := by
  unfold wpX_movable
  exact nm_e (br_t rfl h)
theorem tx_mov1 {post : Int32 → Prop} {x : Int32} (z : Nat) (h : post (ty_m1 z x)) : wpX_movable post (fp, nI z, fn, fo, ft, fk, ff, le, we, sy, qu, hv, tc) x 1 := by
  unfold wpX_movable
  exact nm_e (br_f (by decide) h)
theorem tx_leave {post : SX → Prop} (z : Nat) (h : post (fp, nI z, fn, ty_lo1 z fn fo, ty_lo2 z fn fo ft, fk, ff, le, we, sy, qu, hv, tc)) : wpX_leaveOut post (fp, nI z, fn, fo, ft, fk, ff, le, we, sy, qu, hv, tc) := by
  unfold wpX_leaveOut
  refine tx_mov0 z (nm_e ?_)
  refine tx_mov0 z (nm_e ?_)
  refine tx_mov1 z (nm_e ?_)
  exact h
theorem tx_so22 {post : SX → Prop} {z : Nat} (hz : z < 7) (hq : ∀ i, ∃ s : Nat, s < 4 ∧ qu i = nI s)
    (hpost : ∀ hv' : Nat → Int32, (∀ s, s < 4 → hv' s = ty_set (fun j => decide (qu j = nI s)) z) → post (fp, nI z, 1, ty_lo1 z 1 0, ty_lo2 z 1 0 0, fk, ff, le, we, sy, qu, hv', tc)) :
    ∀ (d i : Nat) (hv : Nat → Int32) (n : Nat), i + d = z → d < n → (∀ s, s < 4 → hv s = ty_set (fun j => decide (qu j = nI s)) i) → wX_setOut_22 post fp (nI z) fn fo ft fk ff n (nI i) le we sy qu hv tc := by
  intro d
  induction d with
  | zero =>
    intro i hv n hi hn hh
    obtain ⟨m, rfl⟩ : ∃ m, n = m + 1 := ⟨n - 1, by omega⟩
    have e : i = z := by omega
    refine pk_le z i (fun _ => ?_) (fun h => absurd h (by omega))
    exact tx_leave z (hpost hv (by rw [← e]; exact hh))
  | succ d ih =>
    intro i hv n hi hn hh
    obtain ⟨m, rfl⟩ : ∃ m, n = m + 1 := ⟨n - 1, by omega⟩
    obtain ⟨s, hs, es⟩ := hq i
    have ec : qu (nI i).toNatClampNeg = nI s := by rw [nI_clamp (by omega)]; exact es
    refine pk_le z i (fun h => absurd h (by omega)) (fun _ => And.intro (pk_in i 6 (by omega)) (nm_r ec (And.intro (vp_in_nI hs (by omega)) (And.intro (vp_in_nI hs (by omega)) (nm_e (nm_r (nI_1 i) ?_))))))
    refine ih (i + 1) _ m (by omega) (by omega) ?_
    intro s' hs'
    rw [nI_clamp (by omega), pk_vb]
    by_cases h : s' = s
    · subst h
      rw [pk_us, hh s' hs']
      have e2 : ty_set (fun j => decide (qu j = nI s')) (i + 1) = ty_set (fun j => decide (qu j = nI s')) i ||| ((1 : Int32) <<< (nI i &&& 31)) := by
        rw [ty_set, if_pos (by simp [es])]
      rw [← e2]
      exact ty_set8 _ (by omega)
    · rw [pk_un h, hh s' hs', ty_set, if_neg]
      rw [es, decide_eq_true_eq, nI_eq (by omega) (by omega)]
      omega
theorem tx_so2 {post : SX → Prop} {z : Nat} (hz : z < 7) (hq : ∀ i, ∃ s : Nat, s < 4 ∧ qu i = nI s)
    (hpost : ∀ hv' : Nat → Int32, (∀ s, s < 4 → hv' s = ty_set (fun j => decide (qu j = nI s)) z) → post (fp, nI z, 1, ty_lo1 z 1 0, ty_lo2 z 1 0 0, fk, ff, le, we, sy, qu, hv', tc)) :
    ∀ (d i : Nat) (hv : Nat → Int32) (n : Nat), i + d = 4 → d < n → (∀ s, s < i → hv s = 0) → wX_setOut_2 post fp (nI z) fn fo ft fk ff n (nI i) le we sy qu hv tc := by
  intro d
  induction d with
  | zero =>
    intro i hv n hi hn hh
    obtain ⟨m, rfl⟩ : ∃ m, n = m + 1 := ⟨n - 1, by omega⟩
    refine pk_le 4 i (fun _ => ?_) (fun h => absurd h (by omega))
    exact ⟨z + 1, tx_so22 hz hq hpost z 0 hv (z + 1) (by omega) (by omega) (fun s hs => hh s (by omega))⟩
  | succ d ih =>
    intro i hv n hi hn hh
    obtain ⟨m, rfl⟩ : ∃ m, n = m + 1 := ⟨n - 1, by omega⟩
    refine pk_le 4 i (fun h => absurd h (by omega)) (fun _ => And.intro (pk_in i 4 (by omega)) (nm_e (nm_r (nI_1 i) ?_)))
    refine ih (i + 1) _ m (by omega) (by omega) ?_
    intro s hs
    rw [nI_clamp (by omega)]
    by_cases h : s = i
    · subst h
      rw [pk_us, vp_nar_byte]
      decide
    · rw [pk_un h, hh s (by omega)]
theorem tx_setOut {post : SX → Prop} {z : Nat} (hz : z < 7) (hq : ∀ i, ∃ s : Nat, s < 4 ∧ qu i = nI s)
    (hpost : ∀ hv' : Nat → Int32, (∀ s, s < 4 → hv' s = ty_set (fun j => decide (qu j = nI s)) z) → post (fp, nI z, 1, ty_lo1 z 1 0, ty_lo2 z 1 0 0, fk, ff, le, we, sy, qu, hv', tc)) :
    wpX_setOut post (fp, nI z, fn, fo, ft, fk, ff, le, we, sy, qu, hv, tc) := by
  unfold wpX_setOut
  exact ⟨5, tx_so2 hz hq hpost 4 0 hv 5 (by omega) (by omega) (fun s hs => absurd hs (by omega))⟩
theorem tx_advance {post : SX → Prop} {z s : Nat} {x : Int32} (hs : s < 4) (hx : x = nI s)
    (h : post (fp, nI z, ty_a0 (hv s) fn, ty_lo1 z (ty_a0 (hv s) fn) (ty_a1 z (hv s) fn fo), ty_lo2 z (ty_a0 (hv s) fn) (ty_a1 z (hv s) fn fo) (ty_a2 z (hv s) fn fo ft), fk, ff, le, we, sy, qu, hv, tc)) :
    wpX_advance post (fp, nI z, fn, fo, ft, fk, ff, le, we, sy, qu, hv, tc) x := by
  subst hx
  unfold wpX_advance
  refine And.intro (vp_in_nI hs (by omega)) (nm_r (congrArg hv (nI_clamp (by omega))) ?_)
  refine tx_mov0 z (nm_e ?_)
  refine tx_mov1 z (nm_e ?_)
  refine tx_mov0 z (nm_e (nm_e ?_))
  exact tx_leave z h
theorem tx_reached {post : Int32 → Prop} {z d : Nat} (hz : z < 32) (h : ty_iv d (bt fn z) (bt fo z) (bt ft z)) (hp : post (nI (min 3 d))) : wpX_reached post (fp, nI z, fn, fo, ft, fk, ff, le, we, sy, qu, hv, tc) := by
  obtain ⟨h0, h1, h2, h3⟩ := ty_rch h
  rw [← ty_msk fn hz] at h0 h1 h2 h3
  rw [← ty_msk fo hz] at h1 h2 h3
  rw [← ty_msk ft hz] at h2 h3
  have go : ∀ r : Nat, min 3 d = r → post (nI r) := fun r e => e ▸ hp
  unfold wpX_reached
  refine nm_e (br_c (fun a => br_c (fun b => br_c (fun c => ?_) (fun c => ?_)) (fun b => ?_)) (fun a => ?_))
  · exact go 3 (by have := h3 a b c; omega)
  · exact go 2 (by have := h2 a b c; omega)
  · exact go 1 (by have := h1 a b; omega)
  · exact go 0 (by have := h0 a; omega)
theorem tx_to11 {post : Int32 → SX → Prop} {z w l : Nat} (hz : z < 7) (hw : w < 10) (hl : l ≤ 6) (hle : le w = nI l) (hsy : ∀ i, ∃ s : Nat, s < 4 ∧ sy i = nI s)
    (hhv : ∀ s, s < 4 → hv s = ty_set (fun j => decide (qu j = nI s)) z) (sm : Nat → Nat → Bool) (hsm : ∀ i j, sm i j = decide (qu i = sy (6 * w + j)))
    (hpost : ∀ n o t, post (nI (min 3 (ty_ms (ty_D sm z) (l + 1)))) (fp, nI z, n, o, t, fk, ff, le, we, sy, qu, hv, tc)) :
    ∀ (d j : Nat) (n o t : Int32) (m r : Nat), j + d = l → d < m → ty_col sm z j n o t → r = min 3 (ty_ms (ty_D sm z) (j + 1)) →
      wX_typosOf_11 post (nI w) m (nI r) (nI j) fp (nI z) n o t fk ff le we sy qu hv tc := by
  intro d
  induction d with
  | zero =>
    intro j n o t m r hj hm hc hr
    obtain ⟨m, rfl⟩ : ∃ q, m = q + 1 := ⟨m - 1, by omega⟩
    have ec : le (nI w).toNatClampNeg = nI l := by rw [nI_clamp (by omega)]; exact hle
    refine And.intro (vp_in_nI hw (by omega)) (pk_le l j (fun _ => ?_) (fun h => absurd h (by omega)) ec)
    have e : j = l := by omega
    rw [hr, e]
    exact hpost n o t
  | succ d ih =>
    intro j n o t m r hj hm hc hr
    obtain ⟨m, rfl⟩ : ∃ q, m = q + 1 := ⟨m - 1, by omega⟩
    have ec : le (nI w).toNatClampNeg = nI l := by rw [nI_clamp (by omega)]; exact hle
    have ix : nI w * 6 + nI j = nI (6 * w + j) := by
      rw [show (6 : Int32) = nI 6 from rfl, pk_mul, nI_add, Nat.mul_comm w 6]
    obtain ⟨s, hs, es⟩ := hsy (6 * w + j)
    have ey : sy (nI w * 6 + nI j).toNatClampNeg = nI s := by rw [ix, nI_clamp (by omega)]; exact es
    refine And.intro (vp_in_nI hw (by omega)) (pk_le l j (fun h => absurd h (by omega)) (fun _ => And.intro (pk_in (6 * w + j) 60 (by omega) ix) ?_) ec)
    have hc' := ty_adv sm hz (h := hv s) hc (by
      intro i hi
      rw [hhv s hs, ty_bset _ z (by omega) i (by omega), decide_eq_true hi, Bool.true_and, hsm, es])
    have e2 : ty_ms (ty_D sm z) (j + 1 + 1) = min (ty_ms (ty_D sm z) (j + 1)) (ty_D sm z (j + 1)) := rfl
    refine tx_advance hs ey ?_
    refine tx_reached (by omega) (hc' z (Nat.le_refl z)) ?_
    refine pk_le r (min 3 (ty_D sm z (j + 1))) (fun h => nm_r (nI_1 j) ?_) (fun h => nm_r (nI_1 j) ?_)
    · exact ih (j + 1) _ _ _ m r (by omega) (by omega) hc' (by omega)
    · exact ih (j + 1) _ _ _ m _ (by omega) (by omega) hc' (by omega)
theorem tx_typosOf {post : Int32 → SX → Prop} {z w l : Nat} (hz : z < 7) (hw : w < 10) (hl : l ≤ 6) (hle : le w = nI l) (hq : ∀ i, ∃ s : Nat, s < 4 ∧ qu i = nI s) (hsy : ∀ i, ∃ s : Nat, s < 4 ∧ sy i = nI s)
    (hpost : ∀ n o t hv', post (nI (min 3 (ty_ms (ty_D (fun i j => decide (qu i = sy (6 * w + j))) z) (l + 1)))) (fp, nI z, n, o, t, fk, ff, le, we, sy, qu, hv', tc)) :
    wpX_typosOf post (fp, nI z, fn, fo, ft, fk, ff, le, we, sy, qu, hv, tc) (nI w) := by
  unfold wpX_typosOf
  refine tx_setOut hz hq (fun hv' hh => ?_)
  have hc := ty_col0 (fun i j => decide (qu i = sy (6 * w + j))) hz
  refine tx_reached (by omega) (hc z (Nat.le_refl z)) ?_
  refine ⟨l + 1, ?_⟩
  refine tx_to11 hz hw hl hle hsy hh (fun i j => decide (qu i = sy (6 * w + j))) (fun _ _ => rfl) (fun n o t => hpost n o t hv') l 0 1 _ _ (l + 1) _ (by omega) (by omega) hc ?_
  have e2 : ∀ g : Nat → Nat, g 0 ≤ 100 → ty_ms g (0 + 1) = g 0 := fun g hg => by show min 100 (g 0) = g 0; omega
  rw [e2 _ (Nat.le_trans (ty_Dle _ z 0) (by omega))]
end
end
section
/-! ===== what both sides mean: L lengths (0: no word), S symbols, W weights, Q the query, z its size ===== -/
def ty_ed (L : Nat → Nat) (S Q : Nat → Int32) (z w : Nat) : Nat := ty_ms (ty_D (fun i j => decide (Q i = S (6 * w + j))) z) (L w + 1)
def ty_fg (z : Nat) : Nat := if 3 ≤ z then (if 5 ≤ z then 2 else 1) else 0
def ty_fd (L : Nat → Nat) (S Q : Nat → Int32) (z w : Nat) : Bool := decide (0 < L w) && decide (ty_ed L S Q z w ≤ ty_fg z)
def ty_ok (L : Nat → Nat) (S Q : Nat → Int32) (z : Nat) : Prop := z < 7 ∧ (∀ w, L w ≤ 6) ∧ (∀ i, ∃ s : Nat, s < 4 ∧ Q i = nI s) ∧ (∀ i, ∃ s : Nat, s < 4 ∧ S i = nI s)
def ty_hs (L : Nat → Nat) (w : Nat) : Bool := decide (0 < L w)
def tx_R (L : Nat → Nat) (S W Q : Nat → Int32) (z : Nat) (u : SX) : Prop := match u with
  | (fp, fs, _, _, _, fk, ff, le, we, sy, qu, _, tc) => fp = ty_set (ty_hs L) 10 ∧ fs = nI z ∧ we = W ∧ sy = S ∧ qu = Q ∧ (∀ w, w < 10 → 0 < L w → le w = nI (L w)) ∧ (fk = 0 ∨ (ff = ty_set (ty_fd L S Q z) 10 ∧ ∀ w, w < 10 → 0 < L w → tc w = nI (min 3 (ty_ed L S Q z w))))
def tx_K (L : Nat → Nat) (S W Q : Nat → Int32) (z : Nat) (u : SX) : Prop := match u with
  | (fp, fs, _, _, _, _, ff, le, we, sy, qu, _, tc) => fp = ty_set (ty_hs L) 10 ∧ fs = nI z ∧ we = W ∧ sy = S ∧ qu = Q ∧ (∀ w, w < 10 → 0 < L w → le w = nI (L w)) ∧ ff = ty_set (ty_fd L S Q z) 10 ∧ ∀ w, w < 10 → 0 < L w → tc w = nI (min 3 (ty_ed L S Q z w))
theorem ty_nf {b : Bool} (h : ¬ b = false) : b = true := by cases b <;> simp at h ⊢
theorem ty_n8 : ∀ s, s < 128 → (nI s).toInt8.toInt32 = nI s := by decide +kernel
theorem ty_v8 {s : Nat} (h : s < 128) : vp_nar .byte (nI s).toInt8.toInt32 = nI s := by rw [pk_vb]; exact ty_n8 s h
theorem ty_fg_le (z : Nat) : ty_fg z ≤ 2 := by unfold ty_fg; split <;> (try split) <;> omega
theorem ty_o0 (x : Int32) : x ||| 0 = x := b_ext (fun i _ => by rw [b_or, b_0, Bool.or_false])
theorem ty_ed_le (L : Nat → Nat) (S Q : Nat → Int32) (z w : Nat) : ty_ed L S Q z w ≤ 100 := ty_ms_le _ _
theorem tx_KR {L : Nat → Nat} {S W Q : Nat → Int32} {z : Nat} {u : SX} (h : tx_K L S W Q z u) : tx_R L S W Q z u := by
  obtain ⟨fp, fs, fn, fo, ft, fk, ff, le, we, sy, qu, hv, tc⟩ := u
  obtain ⟨h1, h2, h3, h4, h5, h6, h7, h8⟩ := h
  exact ⟨h1, h2, h3, h4, h5, h6, Or.inr ⟨h7, h8⟩⟩
theorem tx_has0 {L : Nat → Nat} {w : Nat} {post : Int32 → Prop} {fs fn fo ft fk ff : Int32} {le we sy qu hv tc : Nat → Int32} (hw : w < 10) (h1 : 0 < L w → post 1) (h0 : L w = 0 → post 0) : wpX_has post (ty_set (ty_hs L) 10, fs, fn, fo, ft, fk, ff, le, we, sy, qu, hv, tc) (nI w) := by
  have q : ((ty_set (ty_hs L) 10) >>> (nI w &&& 31)) &&& 1 = 0 ↔ ty_hs L w = false := ty_sin (by omega) hw
  unfold wpX_has
  refine br_f (nI_pos (by omega)) (br_f (nI_ge (b := 10) hw (by omega)) (br_c (fun e => ?_) (fun e => ?_)))
  · have e' := q.mp e
    rw [ty_hs, decide_eq_false_iff_not] at e'
    exact h0 (by omega)
  · have e' := ty_nf (fun y => e (q.mpr y))
    rw [ty_hs, decide_eq_true_eq] at e'
    exact h1 e'
theorem tx_has {L : Nat → Nat} {S W Q : Nat → Int32} {z w : Nat} {u : SX} {post : Int32 → Prop} (h : tx_R L S W Q z u) (hw : w < 10) (h1 : 0 < L w → post 1) (h0 : L w = 0 → post 0) : wpX_has post u (nI w) := by
  obtain ⟨fp, fs, fn, fo, ft, fk, ff, le, we, sy, qu, hv, tc⟩ := u
  obtain ⟨e1, _⟩ := h
  subst e1
  exact tx_has0 hw h1 h0
theorem tx_hasx {u : SX} {post : Int32 → Prop} {x : Int32} (hx : x < 0 ∨ nI 10 ≤ x) (h0 : post 0) : wpX_has post u x := by
  obtain ⟨fp, fs, fn, fo, ft, fk, ff, le, we, sy, qu, hv, tc⟩ := u
  unfold wpX_has
  refine br_c (fun _ => h0) (fun hn => ?_)
  rcases hx with h | h
  · exact absurd h hn
  · exact br_t h h0
section
variable {fp fs fn fo ft fk ff : Int32} {le we sy qu hv tc : Nat → Int32}
theorem tx_forg {post : Int32 → Prop} {z : Nat} (hz : z < 7) (h : post (nI (ty_fg z))) : wpX_forgiven post (fp, nI z, fn, fo, ft, fk, ff, le, we, sy, qu, hv, tc) := by
  have go : ∀ r : Nat, ty_fg z = r → post (nI r) := fun r e => e ▸ h
  unfold wpX_forgiven
  refine pk_le 3 z (fun a => pk_le 5 z (fun b => ?_) (fun b => ?_)) (fun a => ?_)
  · exact go 2 (by unfold ty_fg; rw [if_pos a, if_pos b])
  · exact go 1 (by unfold ty_fg; rw [if_pos a, if_neg (by omega)])
  · exact go 0 (by unfold ty_fg; rw [if_neg (by omega)])
theorem tx_learn20 {L : Nat → Nat} {S Q : Nat → Int32} {z : Nat} (g : ty_ok L S Q z) (hle : ∀ w, w < 10 → 0 < L w → le w = nI (L w)) {post : SX → Prop}
    (hpost : ∀ n o t hv tc, (∀ w, w < 10 → 0 < L w → tc w = nI (min 3 (ty_ed L S Q z w))) → post (ty_set (ty_hs L) 10, nI z, n, o, t, fk, ty_set (ty_fd L S Q z) 10, le, we, S, Q, hv, tc)) :
    ∀ (d w : Nat) (n o t ff : Int32) (hv tc : Nat → Int32) (m : Nat), w + d = 10 → d < m → ff = ty_set (ty_fd L S Q z) w → (∀ v, v < w → 0 < L v → tc v = nI (min 3 (ty_ed L S Q z v))) →
      wX_learn_20 post m (nI w) (ty_set (ty_hs L) 10) (nI z) n o t fk ff le we S Q hv tc := by
  obtain ⟨hz, hL, hq, hsy⟩ := g
  intro d
  induction d with
  | zero =>
    intro w n o t ff hv tc m hw hm hf ht
    obtain ⟨m, rfl⟩ : ∃ q, m = q + 1 := ⟨m - 1, by omega⟩
    have e : w = 10 := by omega
    refine pk_le 10 w (fun _ => ?_) (fun h => absurd h (by omega))
    rw [hf, e]
    rw [e] at ht
    exact hpost n o t hv tc ht
  | succ d ih =>
    intro w n o t ff hv tc m hw hm hf ht
    obtain ⟨m, rfl⟩ : ∃ q, m = q + 1 := ⟨m - 1, by omega⟩
    have hfg := ty_fg_le z
    refine pk_le 10 w (fun h => absurd h (by omega)) (fun _ => ?_)
    refine tx_has0 (by omega) (fun h => br_f (by decide) ?_) (fun h => br_t rfl (nm_r (nI_1 w) ?_))
    · have ec : ∀ e : Nat, e ≤ 3 → upd tc (nI w).toNatClampNeg (vp_nar .byte (nI e).toInt8.toInt32) = upd tc w (nI e) := fun e he => by
        rw [nI_clamp (by omega), ty_v8 (by omega)]
      refine tx_typosOf hz (by omega) (hL w) (hle w (by omega) h) hq hsy (fun n' o' t' hv' => ?_)
      have hed : ty_ms (ty_D (fun i j => decide (Q i = S (6 * w + j))) z) (L w + 1) = ty_ed L S Q z w := rfl
      rw [hed]
      have ht' : ∀ v, v < w + 1 → 0 < L v → upd tc w (nI (min 3 (ty_ed L S Q z w))) v = nI (min 3 (ty_ed L S Q z v)) := by
        intro v hv1 hv2
        by_cases q : v = w
        · subst q; rw [pk_us]
        · rw [pk_un q]; exact ht v (by omega) hv2
      refine And.intro (vp_in_nI (by omega) (by omega)) (nm_r (ec _ (by omega)) (And.intro (vp_in_nI (by omega) (by omega)) (tx_forg hz ?_)))
      refine pk_lt (ty_fg z) (min 3 (ty_ed L S Q z w)) (fun hlt => nm_r (ty_o0 ff) (nm_r (nI_1 w) ?_)) (fun hge => nm_e (nm_r (nI_1 w) ?_)) rfl (by rw [nI_clamp (by omega), pk_us])
      · refine ih (w + 1) _ _ _ _ _ _ m (by omega) (by omega) ?_ ht'
        rw [hf, ty_set, if_neg]
        rw [ty_fd, decide_eq_false (by omega : ¬ ty_ed L S Q z w ≤ ty_fg z), Bool.and_false]
        decide
      · refine ih (w + 1) _ _ _ _ _ _ m (by omega) (by omega) ?_ ht'
        rw [hf, ty_set, if_pos]
        rw [ty_fd, decide_eq_true h, decide_eq_true (by omega : ty_ed L S Q z w ≤ ty_fg z)]
        rfl
    · refine ih (w + 1) _ _ _ _ _ _ m (by omega) (by omega) ?_ ?_
      · rw [hf, ty_set, if_neg]
        rw [ty_fd, decide_eq_false (by omega : ¬ 0 < L w), Bool.false_and]
        decide
      · intro v hv1 hv2
        exact ht v (by by_cases q : v = w; (subst q; omega); omega) hv2
end
theorem tx_learn {L : Nat → Nat} {S W Q : Nat → Int32} {z : Nat} {u : SX} {post : SX → Prop} (g : ty_ok L S Q z) (h : tx_R L S W Q z u) (hp : ∀ u', tx_K L S W Q z u' → post u') : wpX_learn post u := by
  obtain ⟨fp, fs, fn, fo, ft, fk, ff, le, we, sy, qu, hv, tc⟩ := u
  obtain ⟨e1, e2, e3, e4, e5, hle, hk⟩ := h
  subst e1 e2 e3 e4 e5
  unfold wpX_learn
  refine br_c (fun _ => ⟨11, ?_⟩) (fun e => ?_)
  · exact tx_learn20 g hle (fun n o t hv' tc' ht => hp _ ⟨rfl, rfl, rfl, rfl, rfl, hle, rfl, ht⟩) 10 0 _ _ _ _ _ _ 11 (by omega) (by omega) rfl (fun v hv => absurd hv (by omega))
  · rcases hk with hk | hk
    · exact absurd hk e
    · exact hp _ ⟨rfl, rfl, rfl, rfl, rfl, hle, hk.1, hk.2⟩
end
section
/-! ===== the component: counting, typing, ranking ===== -/
def ty_cnt (p : Nat → Bool) : Nat → Nat
  | 0 => 0
  | n + 1 => ty_cnt p n + if p n = true then 1 else 0
theorem ty_cnt_le (p : Nat → Bool) : ∀ n, ty_cnt p n ≤ n
  | 0 => Nat.le_refl _
  | n + 1 => by have := ty_cnt_le p n; rw [ty_cnt]; split <;> omega
theorem ty_cnt_z (p : Nat → Bool) : ∀ n, ty_cnt p n = 0 ↔ ∀ w, w < n → p w = false
  | 0 => ⟨fun _ w hw => absurd hw (by omega), fun _ => rfl⟩
  | n + 1 => by
    have ih := ty_cnt_z p n
    rw [ty_cnt]
    constructor
    · intro h w hw
      by_cases e : p n = true
      · rw [if_pos e] at h; omega
      · by_cases q : w = n
        · subst q; cases hp : p w
          · rfl
          · exact absurd hp e
        · exact ih.mp (by omega) w (by omega)
    · intro h
      rw [h n (by omega), if_neg (by decide), ih.mpr (fun w hw => h w (by omega))]
theorem ty_cT {p : Nat → Bool} {w : Nat} (h : p w = true) : nI (ty_cnt p w) + 1 = nI (ty_cnt p (w + 1)) := by rw [nI_1, ty_cnt, if_pos h]
theorem ty_cF {p : Nat → Bool} {w : Nat} (h : p w = false) : nI (ty_cnt p w) + 0 = nI (ty_cnt p (w + 1)) := by rw [Int32.add_zero, ty_cnt, h, if_neg (by decide), Nat.add_zero]
theorem ty_cG {p : Nat → Bool} {w : Nat} (h : p w = false) : nI (ty_cnt p w) = nI (ty_cnt p (w + 1)) := by rw [ty_cnt, h, if_neg (by decide), Nat.add_zero]
/-- word w is the query -/
def ty_ex (L : Nat → Nat) (S Q : Nat → Int32) (z w : Nat) : Bool := decide (L w = z ∧ ∀ k, k < z → S (6 * w + k) = Q k)
def ty_b4 (L : Nat → Nat) (W : Nat → Int32) (v w : Nat) : Bool := if L v = L w then (if W v = W w then decide (v < w) else decide (W w < W v)) else decide (L v < L w)
def ty_bf (L : Nat → Nat) (S W Q : Nat → Int32) (z v w : Nat) : Bool := if ty_ed L S Q z v = ty_ed L S Q z w then (if ty_ex L S Q z v = ty_ex L S Q z w then ty_b4 L W v w else ty_ex L S Q z v) else decide (ty_ed L S Q z v < ty_ed L S Q z w)
def ty_pv (L : Nat → Nat) (S W Q : Nat → Int32) (z w v : Nat) : Bool := !decide (v = w) && ty_fd L S Q z v && ty_bf L S W Q z v w
def ty_pl (L : Nat → Nat) (S W Q : Nat → Int32) (z w : Nat) : Nat := ty_cnt (ty_pv L S W Q z w) 10
theorem ty_fd_pos {L : Nat → Nat} {S Q : Nat → Int32} {z w : Nat} (h : ty_fd L S Q z w = true) : 0 < L w ∧ ty_ed L S Q z w ≤ 2 := by
  rw [ty_fd, Bool.and_eq_true, decide_eq_true_eq, decide_eq_true_eq] at h
  have := ty_fg_le z
  exact ⟨h.1, by omega⟩
theorem ty_ix (w k : Nat) : nI w * 6 + nI k = nI (6 * w + k) := by rw [show (6 : Int32) = nI 6 from rfl, pk_mul, nI_add, Nat.mul_comm w 6]
theorem tx_isf {L : Nat → Nat} {S W Q : Nat → Int32} {z w : Nat} {u : SX} {post : Int32 → Prop} (h : tx_K L S W Q z u) (hw : w < 10) (h1 : ty_fd L S Q z w = true → post 1) (h0 : ty_fd L S Q z w = false → post 0) : wpX_isFound post u (nI w) := by
  obtain ⟨fp, fs, fn, fo, ft, fk, ff, le, we, sy, qu, hv, tc⟩ := u
  obtain ⟨_, _, _, _, _, _, e, _⟩ := h
  subst e
  unfold wpX_isFound
  exact br_c (fun q => h0 ((ty_sin (by omega) hw).mp q)) (fun q => h1 (ty_nf (fun y => q ((ty_sin (by omega) hw).mpr y))))
theorem tx_sym {post : Int32 → Prop} {x : Int32} (h1 : ∀ s : Nat, s < 4 → x = nI s → post 1) (h0 : (x < 0 ∨ nI 4 ≤ x) → post 0) : wpX_isSymbol post x := by
  unfold wpX_isSymbol
  refine br_c (fun a => h0 (Or.inl a)) (fun a => br_c (fun b => h0 (Or.inr b)) (fun b => ?_))
  rcases pk_ix x (n := 4) (by omega) with c | c | ⟨j, hj, e⟩
  · exact absurd c a
  · exact absurd c b
  · exact h1 j hj e
section
variable {fp fs fn fo ft fk ff : Int32} {le we sy qu hv tc : Nat → Int32}
theorem tx_fc8 {L : Nat → Nat} {S W Q : Nat → Int32} {z : Nat} {post : Int32 → SX → Prop} (hK : tx_K L S W Q z (fp, fs, fn, fo, ft, fk, ff, le, we, sy, qu, hv, tc))
    (hp : post (nI (ty_cnt (ty_fd L S Q z) 10)) (fp, fs, fn, fo, ft, fk, ff, le, we, sy, qu, hv, tc)) :
    ∀ d w m : Nat, w + d = 10 → d < m → wX_foundCount_8 post fp fs fn fo ft fk ff le we sy qu hv tc m (nI (ty_cnt (ty_fd L S Q z) w)) (nI w) := by
  intro d
  induction d with
  | zero =>
    intro w m hw hm
    obtain ⟨m, rfl⟩ : ∃ q, m = q + 1 := ⟨m - 1, by omega⟩
    refine pk_le 10 w (fun _ => ?_) (fun h => absurd h (by omega))
    have e : w = 10 := by omega
    rw [e]
    exact hp
  | succ d ih =>
    intro w m hw hm
    obtain ⟨m, rfl⟩ : ∃ q, m = q + 1 := ⟨m - 1, by omega⟩
    refine pk_le 10 w (fun h => absurd h (by omega)) (fun _ => ?_)
    refine tx_isf hK (by omega) (fun h => br_f (by decide) (nm_r (ty_cT h) (nm_r (nI_1 w) ?_))) (fun h => br_t rfl (nm_r (ty_cF h) (nm_r (nI_1 w) ?_)))
    · exact ih (w + 1) m (by omega) (by omega)
    · exact ih (w + 1) m (by omega) (by omega)
end
theorem tx_fcount {L : Nat → Nat} {S W Q : Nat → Int32} {z : Nat} {u : SX} {post : Int32 → SX → Prop} (g : ty_ok L S Q z) (h : tx_R L S W Q z u) (hp : ∀ u', tx_K L S W Q z u' → post (nI (ty_cnt (ty_fd L S Q z) 10)) u') : wpX_foundCount post u := by
  obtain ⟨fp, fs, fn, fo, ft, fk, ff, le, we, sy, qu, hv, tc⟩ := u
  unfold wpX_foundCount
  refine tx_learn g h (fun u' hK => ?_)
  obtain ⟨fp, fs, fn, fo, ft, fk, ff, le, we, sy, qu, hv, tc⟩ := u'
  exact ⟨11, tx_fc8 hK (hp _ hK) 10 0 11 (by omega) (by omega)⟩
theorem ty_okt {L : Nat → Nat} {S Q : Nat → Int32} {z s : Nat} (g : ty_ok L S Q z) (hz : z < 6) (hs : s < 4) : ty_ok L S (upd Q z (nI s)) (z + 1) := by
  obtain ⟨_, hL, hq, hsy⟩ := g
  refine ⟨by omega, hL, ?_, hsy⟩
  intro i
  by_cases e : i = z
  · subst e; exact ⟨s, hs, pk_us⟩
  · obtain ⟨t, ht, et⟩ := hq i
    exact ⟨t, ht, by rw [pk_un e]; exact et⟩
theorem ty_okz {L : Nat → Nat} {S Q : Nat → Int32} {z y : Nat} (g : ty_ok L S Q z) (hy : y < 7) : ty_ok L S Q y := ⟨hy, g.2⟩
theorem tx_typeg {L : Nat → Nat} {S W Q : Nat → Int32} {z s : Nat} {u : SX} {post : Int32 → SX → Prop} (g : ty_ok L S Q z) (h : tx_R L S W Q z u) (hz : z < 6) (hs : s < 4)
    (hp : ∀ u', tx_K L S W (upd Q z (nI s)) (z + 1) u' → post (nI (ty_cnt (ty_fd L S (upd Q z (nI s)) (z + 1)) 10)) u') : wpX_type post u (nI s) := by
  obtain ⟨fp, fs, fn, fo, ft, fk, ff, le, we, sy, qu, hv, tc⟩ := u
  obtain ⟨e1, e2, e3, e4, e5, hle, hk⟩ := h
  subst e1 e2 e3 e4 e5
  unfold wpX_type
  refine tx_sym (fun _ _ _ => br_f (by decide) ?_) (fun hx => ?_)
  · refine pk_lt z 6 (fun _ => ?_) (fun h => absurd h (by omega))
    refine And.intro (pk_in z 6 hz) (nm_r (e' := upd qu z (nI s)) (by rw [nI_clamp (by omega), ty_v8 (by omega)]) (nm_r (nI_1 z) ?_))
    refine tx_fcount (ty_okt g hz hs) ⟨rfl, rfl, rfl, rfl, rfl, hle, Or.inl rfl⟩ (fun u' hK => ?_)
    obtain ⟨fp, fs, fn, fo, ft, fk, ff, le, we, sy, qu, hv, tc⟩ := u'
    exact hp _ hK
  · rcases hx with hx | hx
    · exact absurd hx (nI_pos (by omega))
    · exact absurd hx (nI_ge hs (by omega))
theorem tx_type {L : Nat → Nat} {S W Q : Nat → Int32} {z : Nat} {u : SX} {x : Int32} {post : Int32 → SX → Prop} (g : ty_ok L S Q z) (h : tx_R L S W Q z u)
    (hn : (x < 0 ∨ nI 4 ≤ x) → post (-1) u) (hf : ∀ s : Nat, s < 4 → x = nI s → ¬ z < 6 → post (-2) u)
    (hp : ∀ s : Nat, s < 4 → x = nI s → z < 6 → ∀ u', tx_K L S W (upd Q z (nI s)) (z + 1) u' → post (nI (ty_cnt (ty_fd L S (upd Q z (nI s)) (z + 1)) 10)) u') : wpX_type post u x := by
  rcases pk_ix x (n := 4) (by omega) with c | c | ⟨s, hs, e⟩
  · obtain ⟨fp, fs, fn, fo, ft, fk, ff, le, we, sy, qu, hv, tc⟩ := u
    unfold wpX_type
    exact tx_sym (fun s hs e => absurd c (by rw [e]; exact nI_pos (by omega))) (fun hx => br_t rfl (hn hx))
  · obtain ⟨fp, fs, fn, fo, ft, fk, ff, le, we, sy, qu, hv, tc⟩ := u
    unfold wpX_type
    exact tx_sym (fun s hs e => absurd c (by rw [e]; exact nI_ge hs (by omega))) (fun hx => br_t rfl (hn hx))
  · by_cases hz : z < 6
    · subst e
      exact tx_typeg g h hz hs (hp s hs rfl hz)
    · have hf' := hf s hs e hz
      obtain ⟨fp, fs, fn, fo, ft, fk, ff, le, we, sy, qu, hv, tc⟩ := u
      obtain ⟨_, e2, _⟩ := h
      subst e e2
      have hz7 := g.1
      unfold wpX_type
      refine tx_sym (fun _ _ _ => br_f (by decide) ?_) (fun hx => ?_)
      · exact pk_lt z 6 (fun h => absurd h hz) (fun _ => hf')
      · rcases hx with hx | hx
        · exact absurd hx (nI_pos (by omega))
        · exact absurd hx (nI_ge hs (by omega))
theorem tx_rub {L : Nat → Nat} {S W Q : Nat → Int32} {z : Nat} {u : SX} {post : Int32 → SX → Prop} (g : ty_ok L S Q z) (h : tx_R L S W Q z u) (h0 : z = 0 → post (-1) u) (hp : ∀ k, z = k + 1 → ∀ u', tx_R L S W Q k u' → post (Q k) u') : wpX_rub post u := by
  obtain ⟨fp, fs, fn, fo, ft, fk, ff, le, we, sy, qu, hv, tc⟩ := u
  obtain ⟨e1, e2, e3, e4, e5, hle, hk⟩ := h
  subst e1 e2 e3 e4 e5
  have hz := g.1
  unfold wpX_rub
  refine pk_eq z 0 (fun e => h0 e) (fun e => ?_)
  obtain ⟨k, rfl⟩ : ∃ k, z = k + 1 := ⟨z - 1, by omega⟩
  refine nm_r (nI_pred k) (And.intro (pk_in k 6 (by omega)) ?_)
  rw [nI_clamp (by omega)]
  exact hp k rfl _ ⟨rfl, rfl, rfl, rfl, rfl, hle, Or.inl rfl⟩
section
variable {fp fs fn fo ft fk ff : Int32} {le we sy qu hv tc : Nat → Int32}
theorem tx_iq17 {z w : Nat} {post : Int32 → Prop} (hz : z < 7) (hw : w < 10) (h1 : (∀ k, k < z → sy (6 * w + k) = qu k) → post 1) (h0 : ¬ (∀ k, k < z → sy (6 * w + k) = qu k) → post 0) :
    ∀ d k m : Nat, k + d = z → d < m → (∀ i, i < k → sy (6 * w + i) = qu i) → wX_isQuery_17 post (nI w) fp (nI z) fn fo ft fk ff le we sy qu hv tc m (nI k) := by
  intro d
  induction d with
  | zero =>
    intro k m hk hm hh
    obtain ⟨m, rfl⟩ : ∃ q, m = q + 1 := ⟨m - 1, by omega⟩
    refine pk_le z k (fun _ => h1 ?_) (fun h => absurd h (by omega))
    intro i hi
    exact hh i (by omega)
  | succ d ih =>
    intro k m hk hm hh
    obtain ⟨m, rfl⟩ : ∃ q, m = q + 1 := ⟨m - 1, by omega⟩
    refine pk_le z k (fun h => absurd h (by omega)) (fun _ => And.intro (pk_in (6 * w + k) 60 (by omega) (ty_ix w k)) (And.intro (pk_in k 6 (by omega)) (br_c (fun e => nm_r (nI_1 k) ?_) (fun e => h0 ?_))))
    · rw [ty_ix, nI_clamp (by omega), nI_clamp (by omega)] at e
      refine ih (k + 1) m (by omega) (by omega) ?_
      intro i hi
      by_cases q : i = k
      · subst q; exact e
      · exact hh i (by omega)
    · rw [ty_ix, nI_clamp (by omega), nI_clamp (by omega)] at e
      exact fun a => e (a k (by omega))
end
theorem tx_isq {L : Nat → Nat} {S W Q : Nat → Int32} {z w : Nat} {u : SX} {post : Int32 → Prop} (g : ty_ok L S Q z) (h : tx_K L S W Q z u) (hw : w < 10) (hl : 0 < L w) (h1 : ty_ex L S Q z w = true → post 1) (h0 : ty_ex L S Q z w = false → post 0) : wpX_isQuery post u (nI w) := by
  obtain ⟨fp, fs, fn, fo, ft, fk, ff, le, we, sy, qu, hv, tc⟩ := u
  obtain ⟨e1, e2, e3, e4, e5, hle, hk⟩ := h
  subst e1 e2 e3 e4 e5
  obtain ⟨hz, hL, _⟩ := g
  have h6 := hL w
  unfold wpX_isQuery
  refine And.intro (vp_in_nI hw (by omega)) (pk_eq (L w) z (fun e => ⟨z + 1, ?_⟩) (fun e => h0 ?_) (by rw [nI_clamp (by omega)]; exact hle w hw hl))
  · refine tx_iq17 hz hw (fun a => h1 ?_) (fun a => h0 ?_) z 0 (z + 1) (by omega) (by omega) (fun i hi => absurd hi (by omega))
    · exact decide_eq_true ⟨e, a⟩
    · exact decide_eq_false (fun b => a b.2)
  · exact decide_eq_false (fun b => e b.1)
end
section
/-! ===== the component: ranking, answers ===== -/
theorem tx_gbr {post : Int32 → Prop} {L : Nat → Nat} {le we : Nat → Int32} {v w : Nat} (hv : v < 10) (hw : w < 10) (ev : le v = nI (L v)) (ew : le w = nI (L w)) (hlv : L v ≤ 6) (hlw : L w ≤ 6)
    (h1 : ty_b4 L we v w = true → post 1) (h0 : ty_b4 L we v w = false → post 0) :
    (vp_in (nI v) 10 ∧ (vp_in (nI w) 10 ∧ ((((le (nI v).toNatClampNeg) = (le (nI w).toNatClampNeg) → (vp_in (nI v) 10 ∧ (vp_in (nI w) 10 ∧ ((((we (nI v).toNatClampNeg) = (we (nI w).toNatClampNeg) → (((nI w ≤ nI v → (post 0)) ∧ (¬ nI w ≤ nI v → (post 1))))) ∧ (¬ (we (nI v).toNatClampNeg) = (we (nI w).toNatClampNeg) → (vp_in (nI v) 10 ∧ (vp_in (nI w) 10 ∧ ((((we (nI v).toNatClampNeg) ≤ (we (nI w).toNatClampNeg) → (post 0)) ∧ (¬ (we (nI v).toNatClampNeg) ≤ (we (nI w).toNatClampNeg) → (post 1)))))))))))) ∧ (¬ (le (nI v).toNatClampNeg) = (le (nI w).toNatClampNeg) → (vp_in (nI v) 10 ∧ (vp_in (nI w) 10 ∧ ((((le (nI w).toNatClampNeg) ≤ (le (nI v).toNatClampNeg) → (post 0)) ∧ (¬ (le (nI w).toNatClampNeg) ≤ (le (nI v).toNatClampNeg) → (post 1))))))))))) := by
  rw [nI_clamp (by omega : v < 2 ^ 31), nI_clamp (by omega : w < 2 ^ 31)]
  have iv : vp_in (nI v) 10 := vp_in_nI hv (by omega)
  have iw : vp_in (nI w) 10 := vp_in_nI hw (by omega)
  refine ⟨iv, iw, pk_eq (L v) (L w) (fun e => ⟨iv, iw, br_c (fun c => ?_) (fun c => ⟨iv, iw, br_c (fun q => ?_) (fun q => ?_)⟩)⟩) (fun e => ⟨iv, iw, pk_le (L w) (L v) (fun q => ?_) (fun q => ?_) ew ev⟩) ev ew⟩
  · refine pk_le w v (fun q => h0 ?_) (fun q => h1 ?_)
    · rw [ty_b4, if_pos e, if_pos c, decide_eq_false (by omega)]
    · rw [ty_b4, if_pos e, if_pos c, decide_eq_true q]
  · exact h0 (by rw [ty_b4, if_pos e, if_neg c, decide_eq_false (Int32.not_lt.mpr q)])
  · exact h1 (by rw [ty_b4, if_pos e, if_neg c, decide_eq_true (Int32.not_le.mp q)])
  · exact h0 (by rw [ty_b4, if_neg e, decide_eq_false (by omega)])
  · exact h1 (by rw [ty_b4, if_neg e, decide_eq_true q])
theorem tx_gb {L : Nat → Nat} {S W Q : Nat → Int32} {z v w : Nat} {u : SX} {post : Int32 → Prop} (g : ty_ok L S Q z) (h : tx_K L S W Q z u) (hv : v < 10) (hw : w < 10) (fv : ty_fd L S Q z v = true) (fw : ty_fd L S Q z w = true)
    (h1 : ty_bf L S W Q z v w = true → post 1) (h0 : ty_bf L S W Q z v w = false → post 0) : wpX_goesBefore post u (nI v) (nI w) := by
  obtain ⟨lv, dv⟩ := ty_fd_pos fv
  obtain ⟨lw, dw⟩ := ty_fd_pos fw
  have hK := h
  obtain ⟨fp, fs, fn, fo, ft, fk, ff, le, we, sy, qu, hh, tc⟩ := u
  obtain ⟨e1, e2, e3, e4, e5, hle, e6, ht⟩ := h
  have hL := g.2.1
  have iv : vp_in (nI v) 10 := vp_in_nI hv (by omega)
  have iw : vp_in (nI w) 10 := vp_in_nI hw (by omega)
  have tv : tc (nI v).toNatClampNeg = nI (ty_ed L S Q z v) := by rw [nI_clamp (by omega), ht v hv lv, Nat.min_eq_right (by omega)]
  have tw : tc (nI w).toNatClampNeg = nI (ty_ed L S Q z w) := by rw [nI_clamp (by omega), ht w hw lw, Nat.min_eq_right (by omega)]
  unfold wpX_goesBefore
  refine And.intro iv (And.intro iw (pk_eq (ty_ed L S Q z v) (ty_ed L S Q z w) (fun e => ?_) (fun e => And.intro iv (And.intro iw (pk_le (ty_ed L S Q z w) (ty_ed L S Q z v) (fun q => ?_) (fun q => ?_) tw tv))) tv tw))
  · have rest : ∀ (c : ty_ex L S Q z v = ty_ex L S Q z w), _ := fun c => tx_gbr (post := post) (we := we) hv hw (hle v hv lv) (hle w hw lw) (hL v) (hL w) (fun b => h1 (by rw [ty_bf, if_pos e, if_pos c, ← e3]; exact b)) (fun b => h0 (by rw [ty_bf, if_pos e, if_pos c, ← e3]; exact b))
    refine tx_isq g hK hv lv (fun a => ?_) (fun a => ?_)
    · refine tx_isq g hK hw lw (fun b => br_t rfl (rest (by rw [a, b]))) (fun b => br_f (by decide) (And.intro rfl (h1 ?_)))
      rw [ty_bf, if_pos e, if_neg (by rw [a, b]; decide), a]
    · refine tx_isq g hK hw lw (fun b => br_f (by decide) (And.intro rfl (h0 ?_))) (fun b => br_t rfl (rest (by rw [a, b])))
      rw [ty_bf, if_pos e, if_neg (by rw [a, b]; decide), a]
  · exact h0 (by rw [ty_bf, if_neg e, decide_eq_false (by omega)])
  · exact h1 (by rw [ty_bf, if_neg e, decide_eq_true q])
section
variable {fp fs fn fo ft fk ff : Int32} {le we sy qu hv tc : Nat → Int32}
theorem tx_pl28 {L : Nat → Nat} {S W Q : Nat → Int32} {z w : Nat} {post : Int32 → SX → Prop} (g : ty_ok L S Q z) (hK : tx_K L S W Q z (fp, fs, fn, fo, ft, fk, ff, le, we, sy, qu, hv, tc)) (hw : w < 10) (fw : ty_fd L S Q z w = true)
    (hp : post (nI (ty_pl L S W Q z w)) (fp, fs, fn, fo, ft, fk, ff, le, we, sy, qu, hv, tc)) :
    ∀ d v m : Nat, v + d = 10 → d < m → wX_place_28 post (nI w) fp fs fn fo ft fk ff le we sy qu hv tc m (nI (ty_cnt (ty_pv L S W Q z w) v)) (nI v) := by
  intro d
  induction d with
  | zero =>
    intro v m hv' hm
    obtain ⟨m, rfl⟩ : ∃ q, m = q + 1 := ⟨m - 1, by omega⟩
    refine pk_le 10 v (fun _ => ?_) (fun h => absurd h (by omega))
    have e : v = 10 := by omega
    rw [e]
    exact hp
  | succ d ih =>
    intro v m hv' hm
    obtain ⟨m, rfl⟩ : ∃ q, m = q + 1 := ⟨m - 1, by omega⟩
    have nx := ih (v + 1) m (by omega) (by omega)
    refine pk_le 10 v (fun h => absurd h (by omega)) (fun _ => pk_eq v w (fun e => nm_r (ty_cF ?_) (nm_r (nI_1 v) nx)) (fun e => ?_))
    · rw [ty_pv, decide_eq_true e]; rfl
    · refine tx_isf hK (by omega) (fun a => br_f (by decide) ?_) (fun a => br_t rfl (nm_r (ty_cF ?_) (nm_r (nI_1 v) nx)))
      · refine tx_gb g hK (by omega) hw a fw (fun b => br_f (by decide) (nm_r (ty_cT ?_) (nm_r (nI_1 v) nx))) (fun b => br_t rfl (nm_r (ty_cF ?_) (nm_r (nI_1 v) nx)))
        · rw [ty_pv, decide_eq_false e, a, b]; rfl
        · rw [ty_pv, b, Bool.and_false]
      · rw [ty_pv, a, Bool.and_false, Bool.false_and]
end
theorem tx_place {L : Nat → Nat} {S W Q : Nat → Int32} {z w : Nat} {u : SX} {post : Int32 → SX → Prop} (g : ty_ok L S Q z) (h : tx_R L S W Q z u) (hw : w < 10)
    (h0 : ty_fd L S Q z w = false → ∀ u', tx_R L S W Q z u' → post (-1) u') (h1 : ty_fd L S Q z w = true → ∀ u', tx_K L S W Q z u' → post (nI (ty_pl L S W Q z w)) u') : wpX_place post u (nI w) := by
  have hR := h
  obtain ⟨fp, fs, fn, fo, ft, fk, ff, le, we, sy, qu, hv, tc⟩ := u
  unfold wpX_place
  refine tx_has h hw (fun hl => br_f (by decide) ?_) (fun hl => br_t rfl (h0 ?_ _ hR))
  · refine tx_learn g h (fun u' hK => ?_)
    obtain ⟨fp, fs, fn, fo, ft, fk, ff, le, we, sy, qu, hv, tc⟩ := u'
    refine tx_isf hK hw (fun a => br_f (by decide) ⟨11, ?_⟩) (fun a => br_t rfl (h0 a _ (tx_KR hK)))
    exact tx_pl28 g hK hw a (h1 a _ hK) 10 0 11 (by omega) (by omega)
  · rw [ty_fd, decide_eq_false (by omega), Bool.false_and]
theorem tx_placex {u : SX} {x : Int32} {post : Int32 → SX → Prop} (hx : x < 0 ∨ nI 10 ≤ x) (h0 : post (-1) u) : wpX_place post u x := by
  obtain ⟨fp, fs, fn, fo, ft, fk, ff, le, we, sy, qu, hv, tc⟩ := u
  unfold wpX_place
  exact tx_hasx hx (br_t rfl h0)
/-- the first place from i on, within n, that p holds; -1 for none -/
def ty_fst (p : Nat → Bool) : Nat → Nat → Int32
  | 0, _ => -1
  | n + 1, i => if p i = true then nI i else ty_fst p n (i + 1)
def ty_pk (L : Nat → Nat) (S W Q : Nat → Int32) (z : Nat) (x : Int32) (w : Nat) : Bool := ty_fd L S Q z w && decide (nI (ty_pl L S W Q z w) = x)
theorem ty_fT {p : Nat → Bool} {n i : Nat} {r : Int32} (h : p i = true) (e : ty_fst p (n + 1) i = r) : nI i = r := by rw [ty_fst, if_pos h] at e; exact e
theorem ty_fF {p : Nat → Bool} {n i : Nat} {r : Int32} (h : p i = false) (e : ty_fst p (n + 1) i = r) : ty_fst p n (i + 1) = r := by rw [ty_fst, h, if_neg (by decide)] at e; exact e
theorem tx_at6 {L : Nat → Nat} {S W Q : Nat → Int32} {z : Nat} {x r : Int32} {post : Int32 → SX → Prop} (g : ty_ok L S Q z) (hp : ∀ u', tx_K L S W Q z u' → post r u') :
    ∀ (d w m : Nat) (fp fs fn fo ft fk ff : Int32) (le we sy qu hv tc : Nat → Int32), w + d = 10 → d < m → tx_K L S W Q z (fp, fs, fn, fo, ft, fk, ff, le, we, sy, qu, hv, tc) → ty_fst (ty_pk L S W Q z x) d w = r →
      wX_at_6 post x m (nI w) fp fs fn fo ft fk ff le we sy qu hv tc := by
  intro d
  induction d with
  | zero =>
    intro w m fp fs fn fo ft fk ff le we sy qu hv tc hw hm hK hr
    obtain ⟨m, rfl⟩ : ∃ q, m = q + 1 := ⟨m - 1, by omega⟩
    refine pk_le 10 w (fun _ => ?_) (fun h => absurd h (by omega))
    have e : (-1 : Int32) = r := hr
    rw [e]
    exact hp _ hK
  | succ d ih =>
    intro w m fp fs fn fo ft fk ff le we sy qu hv tc hw hm hK hr
    obtain ⟨m, rfl⟩ : ∃ q, m = q + 1 := ⟨m - 1, by omega⟩
    refine pk_le 10 w (fun h => absurd h (by omega)) (fun _ => ?_)
    refine tx_isf hK (by omega) (fun a => br_f (by decide) ?_) (fun a => br_t rfl (nm_r (nI_1 w) ?_))
    · refine tx_place g (tx_KR hK) (by omega) (fun b => absurd (a.symm.trans b) (by decide)) (fun _ u' hK' => ?_)
      obtain ⟨fp, fs, fn, fo, ft, fk, ff, le, we, sy, qu, hv, tc⟩ := u'
      refine br_c (fun e => ?_) (fun e => nm_r (nI_1 w) ?_)
      · have q : nI w = r := ty_fT (by rw [ty_pk, a, decide_eq_true e]; rfl) hr
        rw [q]
        exact hp _ hK'
      · exact ih (w + 1) m _ _ _ _ _ _ _ _ _ _ _ _ _ (by omega) (by omega) hK' (ty_fF (by rw [ty_pk, decide_eq_false e, Bool.and_false]) hr)
    · exact ih (w + 1) m _ _ _ _ _ _ _ _ _ _ _ _ _ (by omega) (by omega) hK (ty_fF (by rw [ty_pk, a, Bool.false_and]) hr)
theorem tx_at {L : Nat → Nat} {S W Q : Nat → Int32} {z : Nat} {x : Int32} {u : SX} {post : Int32 → SX → Prop} (g : ty_ok L S Q z) (h : tx_R L S W Q z u) (hp : ∀ u', tx_K L S W Q z u' → post (ty_fst (ty_pk L S W Q z x) 10 0) u') : wpX_at post u x := by
  obtain ⟨fp, fs, fn, fo, ft, fk, ff, le, we, sy, qu, hv, tc⟩ := u
  unfold wpX_at
  refine tx_learn g h (fun u' hK => ?_)
  obtain ⟨fp, fs, fn, fo, ft, fk, ff, le, we, sy, qu, hv, tc⟩ := u'
  exact ⟨11, tx_at6 g hp 10 0 11 _ _ _ _ _ _ _ _ _ _ _ _ _ (by omega) (by omega) hK rfl⟩
theorem tx_typos {L : Nat → Nat} {S W Q : Nat → Int32} {z w : Nat} {u : SX} {post : Int32 → SX → Prop} (g : ty_ok L S Q z) (h : tx_R L S W Q z u) (hw : w < 10) (h0 : L w = 0 → post (-1) u) (h1 : 0 < L w → ∀ u', tx_K L S W Q z u' → post (nI (min 3 (ty_ed L S Q z w))) u') : wpX_typos post u (nI w) := by
  obtain ⟨fp, fs, fn, fo, ft, fk, ff, le, we, sy, qu, hv, tc⟩ := u
  unfold wpX_typos
  refine tx_has h hw (fun hl => br_f (by decide) ?_) (fun hl => br_t rfl (h0 hl))
  refine tx_learn g h (fun u' hK => ?_)
  obtain ⟨fp, fs, fn, fo, ft, fk, ff, le, we, sy, qu, hv, tc⟩ := u'
  refine And.intro (vp_in_nI hw (by omega)) ?_
  have ht := hK
  obtain ⟨_, _, _, _, _, _, _, ht⟩ := ht
  rw [nI_clamp (by omega), ht w hw hl]
  exact h1 hl _ hK
theorem tx_typosx {u : SX} {x : Int32} {post : Int32 → SX → Prop} (hx : x < 0 ∨ nI 10 ≤ x) (h0 : post (-1) u) : wpX_typos post u x := by
  obtain ⟨fp, fs, fn, fo, ft, fk, ff, le, we, sy, qu, hv, tc⟩ := u
  unfold wpX_typos
  exact tx_hasx hx (br_t rfl h0)
theorem tx_found {L : Nat → Nat} {S W Q : Nat → Int32} {z : Nat} {u : SX} {post : Int32 → SX → Prop} (g : ty_ok L S Q z) (h : tx_R L S W Q z u) (hp : ∀ u', tx_K L S W Q z u' → post (ty_set (ty_fd L S Q z) 10) u') : wpX_found post u := by
  obtain ⟨fp, fs, fn, fo, ft, fk, ff, le, we, sy, qu, hv, tc⟩ := u
  unfold wpX_found
  refine tx_learn g h (fun u' hK => ?_)
  obtain ⟨fp, fs, fn, fo, ft, fk, ff, le, we, sy, qu, hv, tc⟩ := u'
  have ht := hK
  obtain ⟨_, _, _, _, _, _, e, _⟩ := ht
  subst e
  exact hp _ hK
end
section
/-! ===== the component: hints, the common beginning ===== -/
def ty_hb (L : Nat → Nat) (S Q : Nat → Int32) (z s : Nat) : Bool := decide (0 < ty_cnt (ty_fd L S (upd Q z (nI s)) (z + 1)) 10)
theorem ty_uu (Q : Nat → Int32) (z : Nat) (a b : Int32) : upd (upd Q z a) z b = upd Q z b := by
  funext j
  by_cases e : j = z
  · subst e; rw [pk_us, pk_us]
  · rw [pk_un e, pk_un e, pk_un e]
theorem tx_hi4 {L : Nat → Nat} {S W Q : Nat → Int32} {z : Nat} {post : Int32 → SX → Prop} (hz : z < 6) (hp : ∀ u', ty_ok L S (upd Q z (nI 3)) z → tx_R L S W (upd Q z (nI 3)) z u' → post (ty_set (ty_hb L S Q z) 4) u') :
    ∀ (d s m : Nat) (Q' : Nat → Int32) (fp fs fn fo ft fk ff : Int32) (le we sy qu hv tc : Nat → Int32), s + d = 4 → d < m → ty_ok L S Q' z → (∀ a, upd Q' z a = upd Q z a) → (s = 4 → Q' = upd Q z (nI 3)) → tx_R L S W Q' z (fp, fs, fn, fo, ft, fk, ff, le, we, sy, qu, hv, tc) →
      wX_hints_4 post m (ty_set (ty_hb L S Q z) s) (nI s) fp fs fn fo ft fk ff le we sy qu hv tc := by
  intro d
  induction d with
  | zero =>
    intro s m Q' fp fs fn fo ft fk ff le we sy qu hv tc hs hm g hu h4 hR
    obtain ⟨m, rfl⟩ : ∃ q, m = q + 1 := ⟨m - 1, by omega⟩
    refine pk_le 4 s (fun _ => ?_) (fun h => absurd h (by omega))
    have e : s = 4 := by omega
    rw [h4 e] at hR g
    rw [e]
    exact hp _ g hR
  | succ d ih =>
    intro s m Q' fp fs fn fo ft fk ff le we sy qu hv tc hs hm g hu h4 hR
    obtain ⟨m, rfl⟩ : ∃ q, m = q + 1 := ⟨m - 1, by omega⟩
    have ez : fs = nI z := hR.2.1
    refine pk_le 4 s (fun h => absurd h (by omega)) (fun _ => pk_le 6 z (fun h => absurd h (by omega)) (fun _ => ?_) rfl ez)
    refine tx_typeg (s := s) g hR hz (by omega) (fun u' hK => ?_)
    have g' := ty_okt (s := s) g hz (by omega)
    rw [hu] at hK g' ⊢
    have c10 := ty_cnt_le (ty_fd L S (upd Q z (nI s)) (z + 1)) 10
    obtain ⟨fp, fs, fn, fo, ft, fk, ff, le, we, sy, qu, hv, tc⟩ := u'
    refine tx_rub g' (tx_KR hK) (fun h => absurd h (by omega)) (fun k hk u'' hR' => ?_)
    have ek : k = z := by omega
    subst ek
    obtain ⟨fp, fs, fn, fo, ft, fk, ff, le, we, sy, qu, hv, tc⟩ := u''
    have h5 : s + 1 = 4 → upd Q k (nI s) = upd Q k (nI 3) := fun e => by rw [show s = 3 by omega]
    refine pk_le (ty_cnt (ty_fd L S (upd Q k (nI s)) (k + 1)) 10) 0 (fun c => nm_r (e' := ty_set (ty_hb L S Q k) (s + 1)) ?_ (nm_r (nI_1 s) ?_)) (fun c => nm_r (e' := ty_set (ty_hb L S Q k) (s + 1)) ?_ (nm_r (nI_1 s) ?_))
    · rw [ty_o0, ty_set, if_neg]
      rw [ty_hb, decide_eq_true_eq]; omega
    · exact ih (s + 1) m (upd Q k (nI s)) _ _ _ _ _ _ _ _ _ _ _ _ _ (by omega) (by omega) (ty_okz g' (by omega)) (fun a => ty_uu Q k _ a) h5 hR'
    · rw [ty_set, if_pos]
      rw [ty_hb, decide_eq_true_eq]; omega
    · exact ih (s + 1) m (upd Q k (nI s)) _ _ _ _ _ _ _ _ _ _ _ _ _ (by omega) (by omega) (ty_okz g' (by omega)) (fun a => ty_uu Q k _ a) h5 hR'
theorem tx_hints {L : Nat → Nat} {S W Q : Nat → Int32} {z : Nat} {u : SX} {post : Int32 → SX → Prop} (g : ty_ok L S Q z) (h : tx_R L S W Q z u) (h6 : ¬ z < 6 → post 0 u) (hp : z < 6 → ∀ u', ty_ok L S (upd Q z (nI 3)) z → tx_R L S W (upd Q z (nI 3)) z u' → post (ty_set (ty_hb L S Q z) 4) u') : wpX_hints post u := by
  obtain ⟨fp, fs, fn, fo, ft, fk, ff, le, we, sy, qu, hv, tc⟩ := u
  unfold wpX_hints
  by_cases hz : z < 6
  · exact ⟨5, tx_hi4 hz (hp hz) 4 0 5 Q _ _ _ _ _ _ _ _ _ _ _ _ _ (by omega) (by omega) g (fun _ => rfl) (fun h => absurd h (by omega)) h⟩
  · have ez : fs = nI z := h.2.1
    have h7 := g.1
    refine ⟨1, ?_⟩
    exact pk_le 4 0 (fun h => absurd h (by omega)) (fun _ => pk_le 6 z (fun _ => h6 hz) (fun h => absurd h (by omega)) rfl ez)
/-- n is the most symbols that all words below w in F have in common with word f, none more than its length -/
def ty_G (L : Nat → Nat) (S : Nat → Int32) (F : Nat → Bool) (f w n : Nat) : Prop := ∀ m, m ≤ n ↔ ∀ v, v < w → F v = true → m ≤ L v ∧ ∀ k, k < m → S (6 * f + k) = S (6 * v + k)
def ty_sh (S : Nat → Int32) (a b v w n : Nat) : Prop := ∀ m, m ≤ n ↔ m ≤ a ∧ m ≤ b ∧ ∀ k, k < m → S (6 * v + k) = S (6 * w + k)
theorem ty_sh_end {S : Nat → Int32} {a b v w n : Nat} (ha : n ≤ a) (hb : n ≤ b) (hh : ∀ k, k < n → S (6 * v + k) = S (6 * w + k)) (he : n = a ∨ n = b ∨ ¬ S (6 * v + n) = S (6 * w + n)) : ty_sh S a b v w n := by
  intro m
  constructor
  · intro h
    exact ⟨by omega, by omega, fun k hk => hh k (by omega)⟩
  · intro h
    obtain ⟨h1, h2, h3⟩ := h
    rcases he with e | e | e
    · omega
    · omega
    · rcases Nat.lt_or_ge n m with q | q
      · exact absurd (h3 n q) e
      · exact q
section
variable {fp fs fn fo ft fk ff : Int32} {le we sy qu hv tc : Nat → Int32}
theorem tx_sh3 {v w a l : Nat} {post : Int32 → Prop} (hv' : v < 10) (hw : w < 10) (ha : a ≤ 6) (hl : l ≤ 6) (hle : le w = nI l) (hp : ∀ n, n ≤ a → ty_sh sy a l v w n → post (nI n)) :
    ∀ d n m : Nat, n + d = a → d < m → n ≤ l → (∀ k, k < n → sy (6 * v + k) = sy (6 * w + k)) → wX_shared_3 post (nI v) (nI w) (nI a) fp fs fn fo ft fk ff le we sy qu hv tc m (nI n) := by
  intro d
  induction d with
  | zero =>
    intro n m hn hm hnl hh
    obtain ⟨m, rfl⟩ : ∃ q, m = q + 1 := ⟨m - 1, by omega⟩
    exact pk_le a n (fun _ => hp n (by omega) (ty_sh_end (by omega) hnl hh (Or.inl (by omega)))) (fun h => absurd h (by omega))
  | succ d ih =>
    intro n m hn hm hnl hh
    obtain ⟨m, rfl⟩ : ∃ q, m = q + 1 := ⟨m - 1, by omega⟩
    have ec : le (nI w).toNatClampNeg = nI l := by rw [nI_clamp (by omega)]; exact hle
    refine pk_le a n (fun h => absurd h (by omega)) (fun _ => And.intro (vp_in_nI hw (by omega)) (pk_le l n (fun q => hp n (by omega) (ty_sh_end (by omega) hnl hh (Or.inr (Or.inl (by omega))))) (fun q => And.intro (pk_in (6 * v + n) 60 (by omega) (ty_ix v n)) (And.intro (pk_in (6 * w + n) 60 (by omega) (ty_ix w n)) (br_c (fun e => nm_r (nI_1 n) ?_) (fun e => ?_)))) ec))
    · rw [ty_ix, ty_ix, nI_clamp (by omega), nI_clamp (by omega)] at e
      refine ih (n + 1) m (by omega) (by omega) (by omega) ?_
      intro k hk
      by_cases q : k = n
      · subst q; exact e
      · exact hh k (by omega)
    · rw [ty_ix, ty_ix, nI_clamp (by omega), nI_clamp (by omega)] at e
      exact hp n (by omega) (ty_sh_end (by omega) hnl hh (Or.inr (Or.inr e)))
theorem tx_shared {v w a l : Nat} {post : Int32 → Prop} (hv' : v < 10) (hw : w < 10) (ha : a ≤ 6) (hl : l ≤ 6) (hle : le w = nI l) (hp : ∀ n, n ≤ a → ty_sh sy a l v w n → post (nI n)) : wpX_shared post (fp, fs, fn, fo, ft, fk, ff, le, we, sy, qu, hv, tc) (nI v) (nI w) (nI a) := by
  unfold wpX_shared
  exact ⟨a + 1, tx_sh3 hv' hw ha hl hle hp a 0 (a + 1) (by omega) (by omega) (by omega) (fun k hk => absurd hk (by omega))⟩
theorem ty_G_skip {L : Nat → Nat} {S : Nat → Int32} {F : Nat → Bool} {f w n : Nat} (h : ty_G L S F f w n) (hF : F w = false) : ty_G L S F f (w + 1) n := by
  intro m
  rw [h m]
  constructor
  · intro a v hv hF'
    by_cases e : v = w
    · subst e; rw [hF] at hF'; cases hF'
    · exact a v (by omega) hF'
  · intro a v hv hF'
    exact a v (by omega) hF'
theorem ty_G_add {L : Nat → Nat} {S : Nat → Int32} {F : Nat → Bool} {f w n n' : Nat} (h : ty_G L S F f w n) (hF : F w = true) (hs : ty_sh S n (L w) f w n') : ty_G L S F f (w + 1) n' := by
  intro m
  rw [hs m, h m]
  constructor
  · intro a v hv hF'
    obtain ⟨a1, a2, a3⟩ := a
    by_cases e : v = w
    · subst e; exact ⟨a2, a3⟩
    · exact a1 v (by omega) hF'
  · intro a
    exact ⟨fun v hv hF' => a v (by omega) hF', (a w (by omega) hF).1, (a w (by omega) hF).2⟩
theorem ty_G_new {L : Nat → Nat} {S : Nat → Int32} {F : Nat → Bool} {w : Nat} (h : ∀ v, v < w → F v = false) (hF : F w = true) : ty_G L S F w (w + 1) (L w) := by
  intro m
  constructor
  · intro a v hv hF'
    by_cases e : v = w
    · subst e; exact ⟨a, fun _ _ => rfl⟩
    · have := h v (by omega); rw [hF'] at this; cases this
  · intro a
    exact (a w (by omega) hF).1
theorem tx_co10b {L : Nat → Nat} {S W Q : Nat → Int32} {z : Nat} {post : Int32 → SX → Prop} (g : ty_ok L S Q z) (hK : tx_K L S W Q z (fp, fs, fn, fo, ft, fk, ff, le, we, sy, qu, hv, tc)) {f : Nat} (hf : f < 10) (hff : ty_fd L S Q z f = true)
    (hp : ∀ n, n ≤ 6 → ty_G L S (ty_fd L S Q z) f 10 n → post (nI n) (fp, fs, fn, fo, ft, fk, ff, le, we, sy, qu, hv, tc)) :
    ∀ d w n m : Nat, w + d = 10 → d < m → n ≤ 6 → ty_G L S (ty_fd L S Q z) f w n → wX_common_10 post fp fs fn fo ft fk ff le we sy qu hv tc m (nI f) (nI n) (nI w) := by
  have hK' := hK
  obtain ⟨e1, e2, e3, e4, e5, hle, e6, ht⟩ := hK'
  intro d
  induction d with
  | zero =>
    intro w n m hw hm hn hG
    obtain ⟨m, rfl⟩ : ∃ q, m = q + 1 := ⟨m - 1, by omega⟩
    have e : w = 10 := by omega
    refine pk_le 10 w (fun _ => ?_) (fun h => absurd h (by omega))
    rw [e] at hG
    exact hp n hn hG
  | succ d ih =>
    intro w n m hw hm hn hG
    obtain ⟨m, rfl⟩ : ∃ q, m = q + 1 := ⟨m - 1, by omega⟩
    have mid : wX_common_40 post (wX_common_10 post fp fs fn fo ft fk ff le we sy qu hv tc m) (nI f) (nI n) (nI w) fp fs fn fo ft fk ff le we sy qu hv tc := by
      unfold wX_common_40
      refine tx_isf hK (by omega) (fun a => br_f (by decide) ?_) (fun a => br_t rfl (nm_r (nI_1 w) ?_))
      · refine tx_shared hf (by omega) hn (g.2.1 w) (hle w (by omega) (ty_fd_pos a).1) (fun n' hn' hs => nm_r (nI_1 w) ?_)
        rw [e4] at hs
        exact ih (w + 1) n' m (by omega) (by omega) (by omega) (ty_G_add hG a hs)
      · exact ih (w + 1) n m (by omega) (by omega) hn (ty_G_skip hG a)
    refine pk_le 10 w (fun h => absurd h (by omega)) (fun _ => ?_)
    refine tx_isf hK (by omega) (fun a => br_f (by decide) (br_t (nI_pos' (by omega)) mid)) (fun a => br_t rfl mid)
theorem tx_co10a {L : Nat → Nat} {S W Q : Nat → Int32} {z : Nat} {post : Int32 → SX → Prop} (g : ty_ok L S Q z) (hK : tx_K L S W Q z (fp, fs, fn, fo, ft, fk, ff, le, we, sy, qu, hv, tc))
    (h0 : (∀ w, w < 10 → ty_fd L S Q z w = false) → post 0 (fp, fs, fn, fo, ft, fk, ff, le, we, sy, qu, hv, tc))
    (hp : ∀ f n, f < 10 → ty_fd L S Q z f = true → n ≤ 6 → ty_G L S (ty_fd L S Q z) f 10 n → post (nI n) (fp, fs, fn, fo, ft, fk, ff, le, we, sy, qu, hv, tc)) :
    ∀ d w m : Nat, w + d = 10 → d < m → (∀ v, v < w → ty_fd L S Q z v = false) → wX_common_10 post fp fs fn fo ft fk ff le we sy qu hv tc m (-1) 0 (nI w) := by
  have hK' := hK
  obtain ⟨e1, e2, e3, e4, e5, hle, e6, ht⟩ := hK'
  intro d
  induction d with
  | zero =>
    intro w m hw hm hn
    obtain ⟨m, rfl⟩ : ∃ q, m = q + 1 := ⟨m - 1, by omega⟩
    have e : w = 10 := by omega
    refine pk_le 10 w (fun _ => h0 ?_) (fun h => absurd h (by omega))
    rw [e] at hn
    exact hn
  | succ d ih =>
    intro w m hw hm hn
    obtain ⟨m, rfl⟩ : ∃ q, m = q + 1 := ⟨m - 1, by omega⟩
    refine pk_le 10 w (fun h => absurd h (by omega)) (fun _ => ?_)
    refine tx_isf hK (by omega) (fun a => br_f (by decide) (br_f (by decide) (And.intro (vp_in_nI (by omega) (by omega)) (nm_r (e' := nI (L w)) ?_ (nm_r (nI_1 w) ?_))))) (fun a => br_t rfl ?_)
    · rw [nI_clamp (by omega)]; exact hle w (by omega) (ty_fd_pos a).1
    · exact tx_co10b g hK (by omega) a (fun n hn' hG => hp w n (by omega) a hn' hG) d (w + 1) (L w) m (by omega) (by omega) (g.2.1 w) (ty_G_new hn a)
    · unfold wX_common_40
      refine tx_isf hK (by omega) (fun b => absurd (a.symm.trans b) (by decide)) (fun _ => br_t rfl (nm_r (nI_1 w) ?_))
      refine ih (w + 1) m (by omega) (by omega) ?_
      intro v hv'
      by_cases q : v = w
      · subst q; exact a
      · exact hn v (by omega)
end
theorem tx_common {L : Nat → Nat} {S W Q : Nat → Int32} {z : Nat} {u : SX} {post : Int32 → SX → Prop} (g : ty_ok L S Q z) (h : tx_R L S W Q z u)
    (h0 : (∀ w, w < 10 → ty_fd L S Q z w = false) → ∀ u', tx_K L S W Q z u' → post 0 u')
    (hp : ∀ f n, f < 10 → ty_fd L S Q z f = true → n ≤ 6 → ty_G L S (ty_fd L S Q z) f 10 n → ∀ u', tx_K L S W Q z u' → post (nI n) u') : wpX_common post u := by
  obtain ⟨fp, fs, fn, fo, ft, fk, ff, le, we, sy, qu, hv, tc⟩ := u
  unfold wpX_common
  refine tx_learn g h (fun u' hK => ?_)
  obtain ⟨fp, fs, fn, fo, ft, fk, ff, le, we, sy, qu, hv, tc⟩ := u'
  exact ⟨11, tx_co10a g hK (fun a => h0 a _ hK) (fun f n a b c d => hp f n a b c d _ hK) 10 0 11 (by omega) (by omega) (fun v hv => absurd hv (by omega))⟩
end
section
/-! ===== the component: words begun, extended, removed, weighed ===== -/
def ty_un (L : Nat → Nat) (w k : Nat) : Nat → Nat := fun j => if j = w then k else L j
theorem ty_us {L : Nat → Nat} {w k : Nat} : ty_un L w k w = k := if_pos rfl
theorem ty_uo {L : Nat → Nat} {w k v : Nat} (h : v ≠ w) : ty_un L w k v = L v := if_neg h
theorem ty_oku {L : Nat → Nat} {S Q : Nat → Int32} {z w k : Nat} (g : ty_ok L S Q z) (hk : k ≤ 6) : ty_ok (ty_un L w k) S Q z := by
  refine ⟨g.1, ?_, g.2.2⟩
  intro v
  by_cases e : v = w
  · subst e; rw [ty_us]; exact hk
  · rw [ty_uo e]; exact g.2.1 v
theorem ty_oks {L : Nat → Nat} {S Q : Nat → Int32} {z i s : Nat} (g : ty_ok L S Q z) (hs : s < 4) : ty_ok L (upd S i (nI s)) Q z := by
  refine ⟨g.1, g.2.1, g.2.2.1, ?_⟩
  intro v
  by_cases e : v = i
  · subst e; exact ⟨s, hs, pk_us⟩
  · obtain ⟨t, ht, et⟩ := g.2.2.2 v
    exact ⟨t, ht, by rw [pk_un e]; exact et⟩
theorem ty_hs1 {L : Nat → Nat} {w k : Nat} (hw : w < 10) (hk : 0 < k) : ty_set (ty_hs L) 10 ||| ((1 : Int32) <<< (nI w &&& 31)) = ty_set (ty_hs (ty_un L w k)) 10 := by
  rw [ty_sadd (by omega) hw]
  apply ty_setc
  intro i hi
  unfold ty_hs
  by_cases e : i = w
  · subst e; rw [ty_us]; simp [hk]
  · rw [ty_uo e]; simp [e]
theorem ty_hs2 {L : Nat → Nat} {w k : Nat} (hl : 0 < L w) (hk : 0 < k) : ty_set (ty_hs L) 10 = ty_set (ty_hs (ty_un L w k)) 10 := by
  apply ty_setc
  intro i hi
  unfold ty_hs
  by_cases e : i = w
  · subst e; rw [ty_us]; simp [hk, hl]
  · rw [ty_uo e]
theorem ty_hs3 {L : Nat → Nat} {w : Nat} (hw : w < 10) : ty_set (ty_hs L) 10 &&& (((1 : Int32) <<< (nI w &&& 31)) ^^^ (-1)) = ty_set (ty_hs (ty_un L w 0)) 10 := by
  rw [ty_sdel (by omega) hw]
  apply ty_setc
  intro i hi
  unfold ty_hs
  by_cases e : i = w
  · subst e; rw [ty_us]; simp
  · rw [ty_uo e]; simp [e]
theorem ty_leu {L : Nat → Nat} {le : Nat → Int32} {w k : Nat} (hle : ∀ v, v < 10 → 0 < L v → le v = nI (L v)) : ∀ v, v < 10 → 0 < ty_un L w k v → upd le w (nI k) v = nI (ty_un L w k v) := by
  intro v hv h
  by_cases e : v = w
  · subst e; rw [pk_us, ty_us]
  · rw [ty_uo e] at h
    rw [pk_un e, ty_uo e]
    exact hle v hv h
theorem ty_le0 {L : Nat → Nat} {le : Nat → Int32} {w : Nat} (hle : ∀ v, v < 10 → 0 < L v → le v = nI (L v)) : ∀ v, v < 10 → 0 < ty_un L w 0 v → le v = nI (ty_un L w 0 v) := by
  intro v hv h
  by_cases e : v = w
  · subst e; rw [ty_us] at h; omega
  · rw [ty_uo e] at h
    rw [ty_uo e]
    exact hle v hv h
theorem ty_n9 {y : Int32} (h : nI 10 ≤ y) : ¬ y ≤ 9 := fun b => absurd (Int32.le_trans h b) (by decide)
theorem ty_9 {e : Nat} (h : e < 10) : nI e ≤ 9 := nI_le (b := 9) (by omega) (by omega)
theorem ty_w6 (w : Nat) : nI w * 6 = nI (6 * w) := by rw [show (6 : Int32) = nI 6 from rfl, pk_mul, Nat.mul_comm w 6]
theorem ty_nb1 : vp_nar .byte 1 = nI 1 := by rw [vp_nar_byte]; decide
section
variable {fs fn fo ft fk ff : Int32} {le we sy qu hv tc : Nat → Int32}
theorem tx_be21 {L : Nat → Nat} {s e : Nat} {post : Int32 → SX → Prop} (hs : s < 4) (he : e < 10)
    (hf : (∀ v, v < 10 → 0 < L v) → post (-2) (ty_set (ty_hs L) 10, fs, fn, fo, ft, fk, ff, le, we, sy, qu, hv, tc))
    (hp : ∀ w, w < 10 → L w = 0 → (∀ v, v < w → 0 < L v) → post (nI w) (ty_set (ty_hs (ty_un L w 1)) 10, fs, fn, fo, ft, 0, ff, upd le w (nI 1), upd we w (nI e), upd sy (6 * w) (nI s), qu, hv, tc)) :
    ∀ d w m : Nat, w + d = 10 → d < m → (∀ v, v < w → 0 < L v) → wX_begin_21 post (nI s) (nI e) (ty_set (ty_hs L) 10) fs fn fo ft fk ff le we sy qu hv tc m (nI w) := by
  intro d
  induction d with
  | zero =>
    intro w m hw hm hh
    obtain ⟨m, rfl⟩ : ∃ q, m = q + 1 := ⟨m - 1, by omega⟩
    have e : w = 10 := by omega
    refine pk_le 10 w (fun _ => hf ?_) (fun h => absurd h (by omega))
    rw [e] at hh
    exact hh
  | succ d ih =>
    intro w m hw hm hh
    obtain ⟨m, rfl⟩ : ∃ q, m = q + 1 := ⟨m - 1, by omega⟩
    have iw : vp_in (nI w) 10 := vp_in_nI (by omega) (by omega)
    have c1 : upd sy (nI w * 6).toNatClampNeg (vp_nar .byte (nI s).toInt8.toInt32) = upd sy (6 * w) (nI s) := by rw [ty_w6, nI_clamp (by omega), ty_v8 (by omega)]
    have c2 : upd le (nI w).toNatClampNeg (vp_nar .byte 1) = upd le w (nI 1) := by rw [nI_clamp (by omega), ty_nb1]
    have c3 : upd we (nI w).toNatClampNeg (vp_nar .byte (nI e).toInt8.toInt32) = upd we w (nI e) := by rw [nI_clamp (by omega), ty_v8 (by omega)]
    refine pk_le 10 w (fun h => absurd h (by omega)) (fun _ => ?_)
    refine tx_has0 (by omega) (fun h => br_f (by decide) (nm_r (nI_1 w) ?_)) (fun h => br_t rfl (nm_r (ty_hs1 (k := 1) (by omega) (by omega)) (And.intro (pk_in (6 * w) 60 (by omega) (ty_w6 w)) (nm_r c1 (And.intro iw (nm_r c2 (And.intro iw (nm_r c3 ?_))))))))
    · refine ih (w + 1) m (by omega) (by omega) ?_
      intro v hv'
      by_cases q : v = w
      · subst q; exact h
      · exact hh v (by omega)
    · exact hp w (by omega) h hh
end
theorem tx_begin {L : Nat → Nat} {S W Q : Nat → Int32} {z : Nat} {u : SX} {x y : Int32} {post : Int32 → SX → Prop} (h : tx_R L S W Q z u)
    (hb : (x < 0 ∨ nI 4 ≤ x ∨ y < 0 ∨ nI 10 ≤ y) → post (-1) u)
    (hf : ∀ s e : Nat, s < 4 → e < 10 → x = nI s → y = nI e → (∀ v, v < 10 → 0 < L v) → post (-2) u)
    (hp : ∀ s e w : Nat, s < 4 → e < 10 → x = nI s → y = nI e → w < 10 → L w = 0 → (∀ v, v < w → 0 < L v) → ∀ u', tx_R (ty_un L w 1) (upd S (6 * w) (nI s)) (upd W w (nI e)) Q z u' → post (nI w) u') : wpX_begin post u x y := by
  obtain ⟨fp, fs, fn, fo, ft, fk, ff, le, we, sy, qu, hv, tc⟩ := u
  obtain ⟨e1, e2, e3, e4, e5, hle, hk⟩ := h
  subst e1 e2 e3 e4 e5
  unfold wpX_begin
  refine tx_sym (fun s hs ex => br_f (by decide) ?_) (fun hx => br_t rfl (hb ?_))
  · rcases pk_ix y (n := 10) (by omega) with c | c | ⟨e, he, ey⟩
    · exact br_t c (hb (Or.inr (Or.inr (Or.inl c))))
    · have c0 : ¬ y < 0 := Int32.not_lt.mpr (Int32.le_trans (by decide) c)
      exact br_f c0 (br_f (ty_n9 c) (hb (Or.inr (Or.inr (Or.inr c)))))
    · have hf' := hf s e hs he ex ey
      have hp' := fun w => hp s e w hs he ex ey
      subst ex ey
      refine br_f (nI_pos (by omega)) (br_t (ty_9 he) ⟨11, ?_⟩)
      refine tx_be21 hs he hf' (fun w hw h0 hh => hp' w hw h0 hh _ ?_) 10 0 11 (by omega) (by omega) (fun v hv => absurd hv (by omega))
      exact ⟨rfl, rfl, rfl, rfl, rfl, ty_leu hle, Or.inl rfl⟩
  · rcases hx with hx | hx
    · exact Or.inl hx
    · exact Or.inr (Or.inl hx)
theorem tx_extend {L : Nat → Nat} {S W Q : Nat → Int32} {z w : Nat} {u : SX} {y : Int32} {post : Int32 → SX → Prop} (g : ty_ok L S Q z) (h : tx_R L S W Q z u) (hw : w < 10)
    (hb : (L w = 0 ∨ y < 0 ∨ nI 4 ≤ y ∨ ¬ L w < 6) → post 0 u)
    (hp : ∀ s : Nat, s < 4 → y = nI s → 0 < L w → L w < 6 → ∀ u', tx_R (ty_un L w (L w + 1)) (upd S (6 * w + L w) (nI s)) W Q z u' → post 1 u') : wpX_extend post u (nI w) y := by
  have hR := h
  obtain ⟨fp, fs, fn, fo, ft, fk, ff, le, we, sy, qu, hv, tc⟩ := u
  obtain ⟨e1, e2, e3, e4, e5, hle, hk⟩ := h
  have iw : vp_in (nI w) 10 := vp_in_nI hw (by omega)
  have l6 := g.2.1 w
  unfold wpX_extend
  refine tx_has hR hw (fun hl => br_f (by decide) ?_) (fun hl => br_t rfl (hb (Or.inl hl)))
  refine tx_sym (fun s hs ey => br_f (by decide) (And.intro iw ?_)) (fun hx => br_t rfl (hb ?_))
  · have ec : le (nI w).toNatClampNeg = nI (L w) := by rw [nI_clamp (by omega)]; exact hle w hw hl
    have ix : nI w * 6 + le (nI w).toNatClampNeg = nI (6 * w + L w) := by rw [ec, ty_ix]
    have hp' := hp s hs ey hl
    subst ey
    refine pk_lt (L w) 6 (fun q => And.intro iw (And.intro (pk_in (6 * w + L w) 60 (by omega) ix) (nm_r (e' := upd sy (6 * w + L w) (nI s)) ?_ (And.intro iw (And.intro iw (nm_r (e' := upd le w (nI (L w + 1))) ?_ (hp' q _ ?_))))))) (fun q => hb (Or.inr (Or.inr (Or.inr (by omega))))) ec
    · rw [ix, nI_clamp (by omega), ty_v8 (by omega)]
    · rw [ec, nI_1, nI_clamp (by omega), ty_v8 (by omega)]
    · exact ⟨by rw [e1]; exact ty_hs2 hl (by omega), e2, e3, by rw [e4], e5, ty_leu hle, Or.inl rfl⟩
  · rcases hx with hx | hx
    · exact Or.inr (Or.inl hx)
    · exact Or.inr (Or.inr (Or.inl hx))
theorem tx_extendx {u : SX} {x y : Int32} {post : Int32 → SX → Prop} (hx : x < 0 ∨ nI 10 ≤ x) (h0 : post 0 u) : wpX_extend post u x y := by
  obtain ⟨fp, fs, fn, fo, ft, fk, ff, le, we, sy, qu, hv, tc⟩ := u
  unfold wpX_extend
  exact tx_hasx hx (br_t rfl h0)
theorem tx_remove {L : Nat → Nat} {S W Q : Nat → Int32} {z w : Nat} {u : SX} {post : Int32 → SX → Prop} (h : tx_R L S W Q z u) (hw : w < 10)
    (hb : L w = 0 → post 0 u) (hp : 0 < L w → ∀ u', tx_R (ty_un L w 0) S W Q z u' → post 1 u') : wpX_remove post u (nI w) := by
  have hR := h
  obtain ⟨fp, fs, fn, fo, ft, fk, ff, le, we, sy, qu, hv, tc⟩ := u
  obtain ⟨e1, e2, e3, e4, e5, hle, hk⟩ := h
  unfold wpX_remove
  refine tx_has hR hw (fun hl => br_f (by decide) (nm_r (e' := ty_set (ty_hs (ty_un L w 0)) 10) ?_ (hp hl _ ?_))) (fun hl => br_t rfl (hb hl))
  · rw [e1]; exact ty_hs3 hw
  · exact ⟨rfl, e2, e3, e4, e5, ty_le0 hle, Or.inl rfl⟩
theorem tx_removex {u : SX} {x : Int32} {post : Int32 → SX → Prop} (hx : x < 0 ∨ nI 10 ≤ x) (h0 : post 0 u) : wpX_remove post u x := by
  obtain ⟨fp, fs, fn, fo, ft, fk, ff, le, we, sy, qu, hv, tc⟩ := u
  unfold wpX_remove
  exact tx_hasx hx (br_t rfl h0)
theorem tx_weigh {L : Nat → Nat} {S W Q : Nat → Int32} {z w : Nat} {u : SX} {y : Int32} {post : Int32 → SX → Prop} (h : tx_R L S W Q z u) (hw : w < 10)
    (hb : (L w = 0 ∨ y < 0 ∨ nI 10 ≤ y) → post 0 u) (hp : ∀ e : Nat, e < 10 → y = nI e → 0 < L w → ∀ u', tx_R L S (upd W w (nI e)) Q z u' → post 1 u') : wpX_weigh post u (nI w) y := by
  have hR := h
  obtain ⟨fp, fs, fn, fo, ft, fk, ff, le, we, sy, qu, hv, tc⟩ := u
  obtain ⟨e1, e2, e3, e4, e5, hle, hk⟩ := h
  unfold wpX_weigh
  refine tx_has hR hw (fun hl => br_f (by decide) ?_) (fun hl => br_t rfl (hb (Or.inl hl)))
  rcases pk_ix y (n := 10) (by omega) with c | c | ⟨e, he, ey⟩
  · exact br_t c (hb (Or.inr (Or.inl c)))
  · have c0 : ¬ y < 0 := Int32.not_lt.mpr (Int32.le_trans (by decide) c)
    exact br_f c0 (br_f (ty_n9 c) (hb (Or.inr (Or.inr c))))
  · have hp' := hp e he ey hl
    subst ey
    refine br_f (nI_pos (by omega)) (br_t (ty_9 he) (And.intro (vp_in_nI hw (by omega)) (nm_r (e' := upd we w (nI e)) ?_ (hp' _ ?_))))
    · rw [nI_clamp (by omega), ty_v8 (by omega)]
    · exact ⟨e1, e2, by rw [e3], e4, e5, hle, hk⟩
theorem tx_weighx {u : SX} {x y : Int32} {post : Int32 → SX → Prop} (hx : x < 0 ∨ nI 10 ≤ x) (h0 : post 0 u) : wpX_weigh post u x y := by
  obtain ⟨fp, fs, fn, fo, ft, fk, ff, le, we, sy, qu, hv, tc⟩ := u
  unfold wpX_weigh
  exact tx_hasx hx (br_t rfl h0)
end
section
/-! ===== the reference: the table of costs ===== -/
def tz_R (L : Nat → Nat) (S W Q : Nat → Int32) (z : Nat) (v : SY) : Prop := match v with
  | (a, sz, wd, wt, qu, _) => a = nI z ∧ sz = (fun w => nI (L w)) ∧ wd = S ∧ wt = W ∧ qu = Q
theorem tz_i1 (i j : Nat) : (7 : Int32) * nI (i + 1) - 7 + nI j = nI (7 * i + j) := by
  rw [show (7 : Int32) = nI 7 from rfl, pk_mul, pk_sub (by omega), nI_add]
  have e : 7 * (i + 1) - 7 + j = 7 * i + j := by omega
  rw [e]
theorem tz_i2 (i j : Nat) : (7 : Int32) * nI i + nI (j + 1) - 1 = nI (7 * i + j) := by
  rw [show (7 : Int32) = nI 7 from rfl, show (1 : Int32) = nI 1 from rfl, pk_mul, nI_add, pk_sub (by omega)]
  have e : 7 * i + (j + 1) - 1 = 7 * i + j := by omega
  rw [e]
theorem tz_i3 (i j : Nat) : (7 : Int32) * nI (i + 1) + nI (j + 1) - 8 = nI (7 * i + j) := by
  rw [show (7 : Int32) = nI 7 from rfl, show (8 : Int32) = nI 8 from rfl, pk_mul, nI_add, pk_sub (by omega)]
  have e : 7 * (i + 1) + (j + 1) - 8 = 7 * i + j := by omega
  rw [e]
theorem tz_i4 (w j : Nat) : (6 : Int32) * nI w + nI (j + 1) - 1 = nI (6 * w + j) := by
  rw [show (6 : Int32) = nI 6 from rfl, show (1 : Int32) = nI 1 from rfl, pk_mul, nI_add, pk_sub (by omega)]
  have e : 6 * w + (j + 1) - 1 = 6 * w + j := by omega
  rw [e]
theorem tz_i5 (i j : Nat) : (7 : Int32) * nI i + nI j = nI (7 * i + j) := by
  rw [show (7 : Int32) = nI 7 from rfl, pk_mul, nI_add]
theorem tz_i6 (w j : Nat) : (6 : Int32) * nI w + nI j = nI (6 * w + j) := by
  rw [show (6 : Int32) = nI 6 from rfl, pk_mul, nI_add]
theorem tz_min {post : Int32 → Prop} {u : SY} {x y : Int32} (a b : Nat) (hx : x = nI a) (hy : y = nI b) (ha : a < 2 ^ 31) (hb : b < 2 ^ 31) (h : post (nI (min a b))) : wpY_min post u x y := by
  obtain ⟨f, a1, a2, a3, a4, a5⟩ := u
  unfold wpY_min
  refine pk_le b a (fun q => ?_) (fun q => ?_) hy hx hb ha
  · have e : min a b = b := by omega
    rw [hy, ← e]; exact h
  · have e : min a b = a := by omega
    rw [hx, ← e]; exact h
section
variable {az : Int32} {sz wd wt qu co : Nat → Int32}
theorem tz_step0 {post : Int32 → Prop} {w j d : Nat} (hj : j < 6) (hd : d ≤ 50) (hc : co j = nI d) (h : post (nI (d + 2))) : wpY_step post (az, sz, wd, wt, qu, co) (nI w) (nI 0) (nI (j + 1)) := by
  have ix : (7 : Int32) * nI 0 + nI (j + 1) - 1 = nI j := by rw [tz_i2]; simp
  have ec : co ((7 : Int32) * nI 0 + nI (j + 1) - 1).toNatClampNeg + 2 = nI (d + 2) := by rw [ix, nI_clamp (by omega), hc, ← nI_add]; rfl
  unfold wpY_step
  refine br_f (by decide) ?_
  unfold wY_step_14
  refine br_t (by decide) ?_
  unfold wY_step_45
  refine br_f (nI_nle (by omega) (by omega)) (And.intro (pk_in j 49 (by omega) ix) (br_t (by decide) ?_))
  unfold wY_step_74
  refine tz_min 100 (d + 2) rfl ec (by omega) (by omega) ?_
  unfold wY_step_80
  refine br_t (by decide) ?_
  have e : min 100 (d + 2) = d + 2 := by omega
  rw [e]
  exact h
theorem tz_s14n {post : Int32 → Prop} {w i d F : Nat} (hi : i < 6) (hd : d ≤ 50) (hF : F ≤ 2) (hc : co (7 * i) = nI d) (h : post (nI (d + F))) : wY_step_14 post (nI w) (nI (i + 1)) (nI 0) 100 (nI F) az sz wd wt qu co := by
  have ix : (7 : Int32) * nI (i + 1) - 7 + nI 0 = nI (7 * i) := by rw [tz_i1]; simp
  have ec : co ((7 : Int32) * nI (i + 1) - 7 + nI 0).toNatClampNeg + nI F = nI (d + F) := by rw [ix, nI_clamp (by omega), hc, ← nI_add]
  unfold wY_step_14
  refine br_f (nI_nle (by omega) (by omega)) (And.intro (pk_in (7 * i) 49 (by omega) ix) ?_)
  refine tz_min 100 (d + F) rfl ec (by omega) (by omega) ?_
  unfold wY_step_45
  refine br_t (by decide) ?_
  unfold wY_step_80
  refine br_f (nI_nle (by omega) (by omega)) (br_t (by decide) ?_)
  have e : min 100 (d + F) = d + F := by omega
  rw [e]
  exact h
theorem tz_s14c {post : Int32 → Prop} {w i j a b c F : Nat} (hw : w < 10) (hi : i < 6) (hj : j < 6) (ha : a ≤ 50) (hb : b ≤ 50) (hc : c ≤ 50) (hF : F ≤ 2) (ea : co (7 * i + (j + 1)) = nI a) (eb : co (7 * (i + 1) + j) = nI b) (ec : co (7 * i + j) = nI c)
    (h : post (nI (min (min (a + F) (b + 1)) (c + if decide (qu i = wd (6 * w + j)) = true then 0 else F)))) : wY_step_14 post (nI w) (nI (i + 1)) (nI (j + 1)) 100 (nI F) az sz wd wt qu co := by
  have x1 := tz_i1 i (j + 1)
  have x2 := tz_i2 (i + 1) j
  have x3 := tz_i3 i j
  have x4 := tz_i4 w j
  have ea' : co ((7 : Int32) * nI (i + 1) - 7 + nI (j + 1)).toNatClampNeg + nI F = nI (a + F) := by rw [x1, nI_clamp (by omega), ea, ← nI_add]
  have eb' : co ((7 : Int32) * nI (i + 1) + nI (j + 1) - 1).toNatClampNeg + 1 = nI (b + 1) := by rw [x2, nI_clamp (by omega), eb, nI_1]
  have ec' : ∀ q : Nat, co ((7 : Int32) * nI (i + 1) + nI (j + 1) - 8).toNatClampNeg + nI q = nI (c + q) := fun q => by rw [x3, nI_clamp (by omega), ec, ← nI_add]
  have eq' : qu (nI (i + 1) - 1).toNatClampNeg = qu i := by rw [nI_pred, nI_clamp (by omega)]
  have ew' : wd ((6 : Int32) * nI w + nI (j + 1) - 1).toNatClampNeg = wd (6 * w + j) := by rw [x4, nI_clamp (by omega)]
  unfold wY_step_14
  refine br_f (nI_nle (by omega) (by omega)) (And.intro (pk_in (7 * i + (j + 1)) 49 (by omega) x1) ?_)
  refine tz_min 100 (a + F) rfl ea' (by omega) (by omega) ?_
  unfold wY_step_45
  refine br_f (nI_nle (by omega) (by omega)) (And.intro (pk_in (7 * (i + 1) + j) 49 (by omega) x2) (br_f (nI_ne0 (by omega) (by omega)) ?_))
  unfold wY_step_74
  refine tz_min (min 100 (a + F)) (b + 1) rfl eb' (by omega) (by omega) ?_
  unfold wY_step_80
  refine br_f (nI_nle (by omega) (by omega)) (br_f (nI_nle (by omega) (by omega)) (And.intro (pk_in i 7 (by omega) (nI_pred i)) (And.intro (pk_in (6 * w + j) 60 (by omega) x4) (br_c (fun e => ?_) (fun e => ?_)))))
  · rw [eq', ew'] at e
    rw [decide_eq_true e, if_pos rfl] at h
    unfold wY_step_117
    refine And.intro (pk_in (7 * i + j) 49 (by omega) x3) (br_f (by decide) ?_)
    unfold wY_step_147
    refine tz_min (min (min 100 (a + F)) (b + 1)) (c + 0) rfl (ec' 0) (by omega) (by omega) ?_
    have e2 : min (min (min 100 (a + F)) (b + 1)) (c + 0) = min (min (a + F) (b + 1)) (c + 0) := by omega
    rw [e2]
    exact h
  · rw [eq', ew'] at e
    rw [decide_eq_false e, if_neg (by decide)] at h
    unfold wY_step_117
    refine And.intro (pk_in (7 * i + j) 49 (by omega) x3) (br_t rfl ?_)
    unfold wY_step_147
    refine tz_min (min (min 100 (a + F)) (b + 1)) (c + F) rfl (ec' F) (by omega) (by omega) ?_
    have e2 : min (min (min 100 (a + F)) (b + 1)) (c + F) = min (min (a + F) (b + 1)) (c + F) := by omega
    rw [e2]
    exact h
theorem tz_stepS {post : Int32 → Prop} {w i : Nat} {x : Int32} (hi : i < 6) (h : wY_step_14 post (nI w) (nI (i + 1)) x 100 (nI (ty_f i)) az sz wd wt qu co) : wpY_step post (az, sz, wd, wt, qu, co) (nI w) (nI (i + 1)) x := by
  unfold wpY_step
  refine pk_eq (i + 1) 1 (fun e => ?_) (fun e => ?_)
  · have f : ty_f i = 2 := by unfold ty_f; rw [if_pos (by omega)]
    rw [f] at h; exact h
  · have f : ty_f i = 1 := by unfold ty_f; rw [if_neg (by omega)]
    rw [f] at h; exact h
def tz_tab (D : Nat → Nat → Nat) (l : Nat) (co : Nat → Int32) (i j : Nat) : Prop := (∀ a, a < i → ∀ b, b ≤ l → co (7 * a + b) = nI (D a b)) ∧ (∀ b, b < j → co (7 * i + b) = nI (D i b))
theorem tz_tabw {D : Nat → Nat → Nat} {l i j : Nat} {co : Nat → Int32} (h : tz_tab D l co i j) (hj : j ≤ l) (hl : l ≤ 6) : tz_tab D l (upd co (7 * i + j) (nI (D i j))) i (j + 1) := by
  refine ⟨fun a ha b hb => ?_, fun b hb => ?_⟩
  · rw [pk_un (by omega)]; exact h.1 a ha b hb
  · by_cases e : b = j
    · subst e; rw [pk_us]
    · rw [pk_un (by omega)]; exact h.2 b (by omega)
theorem tz_tabn {D : Nat → Nat → Nat} {l i : Nat} {co : Nat → Int32} (h : tz_tab D l co i (l + 1)) : tz_tab D l co (i + 1) 0 := by
  refine ⟨fun a ha b hb => ?_, fun b hb => absurd hb (by omega)⟩
  by_cases e : a = i
  · subst e; exact h.2 b (by omega)
  · exact h.1 a (by omega) b hb
theorem tz_step {post : Int32 → Prop} {w i j l : Nat} (hw : w < 10) (hi : i ≤ 6) (hl : l ≤ 6) (hj : j ≤ l) (h0 : ¬ (i = 0 ∧ j = 0)) (ht : tz_tab (ty_D (fun i j => decide (qu i = wd (6 * w + j)))) l co i j)
    (h : post (nI (ty_D (fun i j => decide (qu i = wd (6 * w + j))) i j))) : wpY_step post (az, sz, wd, wt, qu, co) (nI w) (nI i) (nI j) := by
  have le := ty_Dle (fun i j => decide (qu i = wd (6 * w + j)))
  cases i with
  | zero =>
    cases j with
    | zero => exact absurd ⟨rfl, rfl⟩ h0
    | succ j =>
      have c := ht.2 j (by omega)
      rw [ty_D0, Nat.mul_zero, Nat.zero_add] at c
      rw [ty_D0] at h
      exact tz_step0 (by omega) (by omega) c (by rw [show 2 * j + 2 = 2 * (j + 1) by omega]; exact h)
  | succ i =>
    have f := ty_f_le i
    cases j with
    | zero =>
      have c := ht.1 i (by omega) 0 (by omega)
      rw [Nat.add_zero] at c
      have l1 := le i 0
      rw [ty_Dn] at h
      exact tz_stepS (by omega) (tz_s14n (by omega) (by omega) (by omega) c h)
    | succ j =>
      have ea := ht.1 i (by omega) (j + 1) (by omega)
      have eb := ht.2 j (by omega)
      have ec := ht.1 i (by omega) j (by omega)
      have l1 := le i (j + 1)
      have l2 := le (i + 1) j
      have l3 := le i j
      rw [ty_Dc] at h
      exact tz_stepS (by omega) (tz_s14c hw (by omega) (by omega) (by omega) (by omega) (by omega) (by omega) ea eb ec h)
end
section
variable {sz wd wt qu : Nat → Int32}
theorem tz_ed16 {post : Int32 → SY → Prop} {J5 : Int32 → (Nat → Int32) → (Nat → Int32) → (Nat → Int32) → (Nat → Int32) → (Nat → Int32) → Prop} {x2 : Int32} {z w l i : Nat} (hw : w < 10) (hz : z < 7) (hl : l ≤ 6) (hs : sz w = nI l) (hi : i ≤ z)
    (hJ : ∀ co, tz_tab (ty_D (fun i j => decide (qu i = wd (6 * w + j)))) l co (i + 1) 0 → J5 (nI (i + 1)) sz wd wt qu co) :
    ∀ (d j m : Nat) (co : Nat → Int32), j + d = l + 1 → d < m → tz_tab (ty_D (fun i j => decide (qu i = wd (6 * w + j)))) l co i j → wY_edits_16 post J5 (nI w) x2 (nI i) (nI z) m (nI j) sz wd wt qu co := by
  have ec : sz (nI w).toNatClampNeg = nI l := by rw [nI_clamp (by omega)]; exact hs
  intro d
  induction d with
  | zero =>
    intro j m co hj hm ht
    obtain ⟨m, rfl⟩ : ∃ q, m = q + 1 := ⟨m - 1, by omega⟩
    have e : j = l + 1 := by omega
    subst e
    exact And.intro (vp_in_nI hw (by omega)) (pk_lt l (l + 1) (fun _ => nm_r (nI_1 i) (hJ co (tz_tabn ht))) (fun h => absurd h (by omega)) ec)
  | succ d ih =>
    intro j m co hj hm ht
    obtain ⟨m, rfl⟩ : ∃ q, m = q + 1 := ⟨m - 1, by omega⟩
    have nx := ih (j + 1) m _ (by omega) (by omega) (tz_tabw ht (by omega) hl)
    have cw : ∀ x : Int32, upd co ((7 : Int32) * nI i + nI j).toNatClampNeg x = upd co (7 * i + j) x := fun x => by rw [tz_i5, nI_clamp (by omega)]
    have iw : vp_in ((7 : Int32) * nI i + nI j) 49 := pk_in (7 * i + j) 49 (by omega) (tz_i5 i j)
    have st : ¬ (i = 0 ∧ j = 0) → wY_edits_51 post J5 (wY_edits_16 post J5 (nI w) x2 (nI i) (nI z) m) (nI w) x2 (nI i) (nI j) ((7 : Int32) * nI i + nI j) (nI z) sz wd wt qu co := by
      intro h0
      unfold wY_edits_51
      refine tz_step hw (by omega) hl (by omega) h0 ht ?_
      exact And.intro iw (nm_r (cw _) (nm_r (nI_1 j) nx))
    refine And.intro (vp_in_nI hw (by omega)) (pk_lt l j (fun h => absurd h (by omega)) (fun _ => pk_eq i 0 (fun a => pk_eq j 0 (fun b => ?_) (fun b => st (fun q => b q.2))) (fun a => st (fun q => a q.1))) ec)
    have e0 : ty_D (fun i j => decide (qu i = wd (6 * w + j))) i j = 0 := by rw [a, b]; rfl
    rw [e0] at nx
    exact And.intro iw (nm_r (cw _) (nm_r (nI_1 j) nx))
theorem tz_ed74 {post : Int32 → SY → Prop} {co : Nat → Int32} {z w l : Nat} (D : Nat → Nat → Nat) (hw : w < 10) (hz : z < 7) (hl : l ≤ 6) (hs : sz w = nI l) (hD : ∀ j, j ≤ l → D z j ≤ 50) (ht : ∀ j, j ≤ l → co (7 * z + j) = nI (D z j))
    (hp : post (nI (ty_ms (D z) (l + 1))) (nI z, sz, wd, wt, qu, co)) :
    ∀ d j m : Nat, j + d = l + 1 → d < m → wY_edits_74 post (nI w) (nI z) sz wd wt qu co m (nI (ty_ms (D z) j)) (nI j) := by
  have ec : sz (nI w).toNatClampNeg = nI l := by rw [nI_clamp (by omega)]; exact hs
  intro d
  induction d with
  | zero =>
    intro j m hj hm
    obtain ⟨m, rfl⟩ : ∃ q, m = q + 1 := ⟨m - 1, by omega⟩
    have e : j = l + 1 := by omega
    subst e
    exact And.intro (vp_in_nI hw (by omega)) (pk_lt l (l + 1) (fun _ => hp) (fun h => absurd h (by omega)) ec)
  | succ d ih =>
    intro j m hj hm
    obtain ⟨m, rfl⟩ : ∃ q, m = q + 1 := ⟨m - 1, by omega⟩
    have m1 := ty_ms_le (D z) j
    have d1 := hD j (by omega)
    refine And.intro (vp_in_nI hw (by omega)) (pk_lt l j (fun h => absurd h (by omega)) (fun _ => And.intro (pk_in (7 * z + j) 49 (by omega) (tz_i5 z j)) ?_) ec)
    refine tz_min (ty_ms (D z) j) (D z j) rfl (by rw [tz_i5, nI_clamp (by omega)]; exact ht j (by omega)) (by omega) (by omega) (nm_r (nI_1 j) ?_)
    exact ih (j + 1) m (by omega) (by omega)
theorem tz_ed5 {post : Int32 → SY → Prop} {z w l : Nat} (hw : w < 10) (hz : z < 7) (hl : l ≤ 6) (hs : sz w = nI l)
    (hp : ∀ co, post (nI (ty_ms (ty_D (fun i j => decide (qu i = wd (6 * w + j))) z) (l + 1))) (nI z, sz, wd, wt, qu, co)) :
    ∀ (d i m : Nat) (co : Nat → Int32), i + d = z + 1 → d < m → tz_tab (ty_D (fun i j => decide (qu i = wd (6 * w + j)))) l co i 0 → wY_edits_5 post (nI w) 100 (nI z) m (nI i) sz wd wt qu co := by
  intro d
  induction d with
  | zero =>
    intro i m co hi hm ht
    obtain ⟨m, rfl⟩ : ∃ q, m = q + 1 := ⟨m - 1, by omega⟩
    have e : i = z + 1 := by omega
    subst e
    refine pk_lt z (z + 1) (fun _ => ⟨l + 2, ?_⟩) (fun h => absurd h (by omega))
    refine tz_ed74 (ty_D (fun i j => decide (qu i = wd (6 * w + j)))) hw hz hl hs (fun j hj => ?_) (fun j hj => ht.1 z (by omega) j hj) (hp co) (l + 1) 0 (l + 2) (by omega) (by omega)
    have := ty_Dle (fun i j => decide (qu i = wd (6 * w + j))) z j
    omega
  | succ d ih =>
    intro i m co hi hm ht
    obtain ⟨m, rfl⟩ : ∃ q, m = q + 1 := ⟨m - 1, by omega⟩
    refine pk_lt z i (fun h => absurd h (by omega)) (fun _ => ⟨l + 2, ?_⟩)
    exact tz_ed16 hw hz hl hs (by omega) (fun co' ht' => ih (i + 1) m co' (by omega) (by omega) ht') (l + 1) 0 (l + 2) co (by omega) (by omega) ht
end
theorem tz_edits {L : Nat → Nat} {S W Q : Nat → Int32} {z w : Nat} {v : SY} {post : Int32 → SY → Prop} (g : ty_ok L S Q z) (h : tz_R L S W Q z v) (hw : w < 10) (hp : ∀ v', tz_R L S W Q z v' → post (nI (ty_ed L S Q z w)) v') : wpY_edits post v (nI w) := by
  obtain ⟨a, sz, wd, wt, qu, co⟩ := v
  obtain ⟨e1, e2, e3, e4, e5⟩ := h
  subst e1 e2 e3 e4 e5
  unfold wpY_edits
  refine ⟨z + 2, ?_⟩
  exact tz_ed5 hw g.1 (g.2.1 w) rfl (fun co' => hp _ ⟨rfl, rfl, rfl, rfl, rfl⟩) (z + 1) 0 (z + 2) co (by omega) (by omega) ⟨fun a ha => absurd ha (by omega), fun b hb => absurd hb (by omega)⟩
end
section
/-! ===== the reference: reading, ranking, answers ===== -/
theorem tz_is {L : Nat → Nat} {S W Q : Nat → Int32} {z w : Nat} {v : SY} {post : Int32 → Prop} (g : ty_ok L S Q z) (h : tz_R L S W Q z v) (hw : w < 10) (h1 : 0 < L w → post 1) (h0 : L w = 0 → post 0) : wpY_is post v (nI w) := by
  obtain ⟨a, sz, wd, wt, qu, co⟩ := v
  obtain ⟨e1, e2, e3, e4, e5⟩ := h
  subst e1 e2 e3 e4 e5
  have l6 := g.2.1 w
  unfold wpY_is
  refine br_f (nI_pos (by omega)) (br_f (nI_ge (b := 10) hw (by omega)) (And.intro (vp_in_nI hw (by omega)) (pk_le (L w) 0 (fun q => h0 (by omega)) (fun q => h1 q) ?_)))
  show nI (L (nI w).toNatClampNeg) = nI (L w)
  rw [nI_clamp (by omega)]
theorem tz_isx {v : SY} {post : Int32 → Prop} {x : Int32} (hx : x < 0 ∨ nI 10 ≤ x) (h0 : post 0) : wpY_is post v x := by
  obtain ⟨a, sz, wd, wt, qu, co⟩ := v
  unfold wpY_is
  refine br_c (fun _ => h0) (fun hn => ?_)
  rcases hx with h | h
  · exact absurd h hn
  · exact br_t h h0
theorem tz_isf {L : Nat → Nat} {S W Q : Nat → Int32} {z w : Nat} {v : SY} {post : Int32 → SY → Prop} (g : ty_ok L S Q z) (h : tz_R L S W Q z v) (hw : w < 10) (h1 : ty_fd L S Q z w = true → ∀ v', tz_R L S W Q z v' → post 1 v') (h0 : ty_fd L S Q z w = false → ∀ v', tz_R L S W Q z v' → post 0 v') : wpY_isFound post v (nI w) := by
  have hR := h
  obtain ⟨a, sz, wd, wt, qu, co⟩ := v
  have ez : a = nI z := h.1
  have hz := g.1
  have le := ty_ed_le L S Q z w
  have core : ∀ q : Nat, q = ty_fg z → wY_isFound_25 post (nI w) (nI q) a sz wd wt qu co := by
    intro q hq
    subst hq
    have hfg := ty_fg_le z
    unfold wY_isFound_25
    refine tz_is g hR hw (fun hl => br_f (by decide) ?_) (fun hl => br_t rfl (h0 ?_ _ hR))
    · refine tz_edits g hR hw (fun v' hR' => ?_)
      obtain ⟨a, sz, wd, wt, qu, co⟩ := v'
      refine pk_lt (ty_fg z) (ty_ed L S Q z w) (fun q => h0 ?_ _ hR') (fun q => h1 ?_ _ hR')
      · rw [ty_fd, decide_eq_false (by omega : ¬ ty_ed L S Q z w ≤ ty_fg z), Bool.and_false]
      · rw [ty_fd, decide_eq_true hl, decide_eq_true q]; rfl
    · rw [ty_fd, decide_eq_false (by omega), Bool.false_and]
  unfold wpY_isFound
  refine pk_le 3 z (fun p => pk_le 5 z (fun q => core 2 ?_) (fun q => core 1 ?_) rfl ez) (fun p => core 0 ?_) rfl ez
  · unfold ty_fg; rw [if_pos p, if_pos q]
  · unfold ty_fg; rw [if_pos p, if_neg (by omega)]
  · unfold ty_fg; rw [if_neg (by omega)]
theorem tz_isfx {v : SY} {post : Int32 → SY → Prop} {x : Int32} (hx : x < 0 ∨ nI 10 ≤ x) (h0 : post 0 v) : wpY_isFound post v x := by
  obtain ⟨a, sz, wd, wt, qu, co⟩ := v
  have core : ∀ q : Int32, wY_isFound_25 post x q a sz wd wt qu co := by
    intro q
    unfold wY_isFound_25
    exact tz_isx hx (br_t rfl h0)
  unfold wpY_isFound
  exact br_c (fun _ => br_c (fun _ => core 2) (fun _ => core 1)) (fun _ => core 0)
theorem tz_fo4 {L : Nat → Nat} {S W Q : Nat → Int32} {z : Nat} {post : Int32 → SY → Prop} (g : ty_ok L S Q z) (hp : ∀ v', tz_R L S W Q z v' → post (ty_set (ty_fd L S Q z) 10) v') :
    ∀ (d w m : Nat) (a : Int32) (sz wd wt qu co : Nat → Int32), w + d = 10 → d < m → tz_R L S W Q z (a, sz, wd, wt, qu, co) → wY_found_4 post m (ty_set (ty_fd L S Q z) w) (nI w) a sz wd wt qu co := by
  intro d
  induction d with
  | zero =>
    intro w m a sz wd wt qu co hw hm hR
    obtain ⟨m, rfl⟩ : ∃ q, m = q + 1 := ⟨m - 1, by omega⟩
    have e : w = 10 := by omega
    refine pk_le 10 w (fun _ => ?_) (fun h => absurd h (by omega))
    rw [e]
    exact hp _ hR
  | succ d ih =>
    intro w m a sz wd wt qu co hw hm hR
    obtain ⟨m, rfl⟩ : ∃ q, m = q + 1 := ⟨m - 1, by omega⟩
    refine pk_le 10 w (fun h => absurd h (by omega)) (fun _ => ?_)
    refine tz_isf g hR (by omega) (fun f v' hR' => ?_) (fun f v' hR' => ?_)
    · obtain ⟨a, sz, wd, wt, qu, co⟩ := v'
      refine br_f (by decide) (nm_r (e' := ty_set (ty_fd L S Q z) (w + 1)) ?_ (nm_r (nI_1 w) ?_))
      · rw [ty_set, if_pos f]
      · exact ih (w + 1) m _ _ _ _ _ _ (by omega) (by omega) hR'
    · obtain ⟨a, sz, wd, wt, qu, co⟩ := v'
      have nx := ih (w + 1) m _ _ _ _ _ _ (by omega) (by omega) hR'
      rw [ty_set, f, if_neg (by decide)] at nx
      exact br_t rfl (nm_r (nI_1 w) nx)
theorem tz_found {L : Nat → Nat} {S W Q : Nat → Int32} {z : Nat} {v : SY} {post : Int32 → SY → Prop} (g : ty_ok L S Q z) (h : tz_R L S W Q z v) (hp : ∀ v', tz_R L S W Q z v' → post (ty_set (ty_fd L S Q z) 10) v') : wpY_found post v := by
  obtain ⟨a, sz, wd, wt, qu, co⟩ := v
  unfold wpY_found
  exact ⟨11, tz_fo4 g hp 10 0 11 _ _ _ _ _ _ (by omega) (by omega) h⟩
section
variable {a : Int32} {sz wd wt qu co : Nat → Int32}
theorem tz_cn9 {P : Nat → Bool} {post : Int32 → SY → Prop} (hp : post (nI (ty_cnt P 10)) (a, sz, wd, wt, qu, co)) :
    ∀ d w m : Nat, w + d = 10 → d < m → wY_count_9 post (ty_set P 10) a sz wd wt qu co m (nI (ty_cnt P w)) (nI w) := by
  intro d
  induction d with
  | zero =>
    intro w m hw hm
    obtain ⟨m, rfl⟩ : ∃ q, m = q + 1 := ⟨m - 1, by omega⟩
    have e : w = 10 := by omega
    refine pk_le 10 w (fun _ => ?_) (fun h => absurd h (by omega))
    rw [e]
    exact hp
  | succ d ih =>
    intro w m hw hm
    obtain ⟨m, rfl⟩ : ∃ q, m = q + 1 := ⟨m - 1, by omega⟩
    refine pk_le 10 w (fun h => absurd h (by omega)) (fun _ => nm_r (e' := nI (ty_cnt P (w + 1))) ?_ (nm_r (nI_1 w) (ih (w + 1) m (by omega) (by omega))))
    rw [ty_tst _ (by omega), ty_bset P 10 (by omega) w (by omega), decide_eq_true (by omega), Bool.true_and]
    cases f : P w
    · rw [if_neg (by decide)]; exact ty_cF f
    · rw [if_pos rfl]; exact ty_cT f
end
theorem tz_count {L : Nat → Nat} {S W Q : Nat → Int32} {z : Nat} {v : SY} {post : Int32 → SY → Prop} (g : ty_ok L S Q z) (h : tz_R L S W Q z v) (hp : ∀ v', tz_R L S W Q z v' → post (nI (ty_cnt (ty_fd L S Q z) 10)) v') : wpY_count post v := by
  obtain ⟨a, sz, wd, wt, qu, co⟩ := v
  unfold wpY_count
  refine tz_found g h (fun v' hR => ?_)
  obtain ⟨a, sz, wd, wt, qu, co⟩ := v'
  exact ⟨11, tz_cn9 (hp _ hR) 10 0 11 (by omega) (by omega)⟩
theorem tz_typeg {L : Nat → Nat} {S W Q : Nat → Int32} {z s : Nat} {v : SY} {post : Int32 → SY → Prop} (g : ty_ok L S Q z) (h : tz_R L S W Q z v) (hz : z < 6) (hs : s < 4)
    (hp : ∀ v', tz_R L S W (upd Q z (nI s)) (z + 1) v' → post (nI (ty_cnt (ty_fd L S (upd Q z (nI s)) (z + 1)) 10)) v') : wpY_type post v (nI s) := by
  obtain ⟨a, sz, wd, wt, qu, co⟩ := v
  obtain ⟨e1, e2, e3, e4, e5⟩ := h
  subst e1 e2 e3 e4 e5
  unfold wpY_type
  refine br_f (nI_pos (by omega)) (pk_le s 3 (fun _ => pk_lt z 6 (fun _ => And.intro (pk_in z 7 (by omega)) (nm_r (e' := upd qu z (nI s)) (by rw [nI_clamp (by omega)]) (nm_r (nI_1 z) ?_))) (fun h => absurd h (by omega))) (fun h => absurd h (by omega)))
  refine tz_count (ty_okt g hz hs) ⟨rfl, rfl, rfl, rfl, rfl⟩ (fun v' hR => ?_)
  obtain ⟨a, sz, wd, wt, qu, co⟩ := v'
  exact hp _ hR
theorem ty_n3 {y : Int32} (h : nI 4 ≤ y) : ¬ y ≤ 3 := fun b => absurd (Int32.le_trans h b) (by decide)
theorem tz_typex {v : SY} {x : Int32} {post : Int32 → SY → Prop} (hx : x < 0 ∨ nI 4 ≤ x) (h0 : post (-1) v) : wpY_type post v x := by
  obtain ⟨a, sz, wd, wt, qu, co⟩ := v
  unfold wpY_type
  refine br_c (fun _ => h0) (fun hn => ?_)
  rcases hx with h | h
  · exact absurd h hn
  · exact br_f (ty_n3 h) h0
theorem tz_typef {L : Nat → Nat} {S W Q : Nat → Int32} {z s : Nat} {v : SY} {post : Int32 → SY → Prop} (g : ty_ok L S Q z) (h : tz_R L S W Q z v) (hz : ¬ z < 6) (hs : s < 4) (h0 : post (-2) v) : wpY_type post v (nI s) := by
  obtain ⟨a, sz, wd, wt, qu, co⟩ := v
  have ez : a = nI z := h.1
  have h7 := g.1
  unfold wpY_type
  exact br_f (nI_pos (by omega)) (pk_le s 3 (fun _ => pk_lt z 6 (fun h => absurd h hz) (fun _ => h0) ez) (fun h => absurd h (by omega)))
theorem tz_rub {L : Nat → Nat} {S W Q : Nat → Int32} {z : Nat} {v : SY} {post : Int32 → SY → Prop} (g : ty_ok L S Q z) (h : tz_R L S W Q z v) (h0 : z = 0 → post (-1) v) (hp : ∀ k, z = k + 1 → ∀ v', tz_R L S W Q k v' → post (Q k) v') : wpY_rub post v := by
  obtain ⟨a, sz, wd, wt, qu, co⟩ := v
  obtain ⟨e1, e2, e3, e4, e5⟩ := h
  subst e1 e2 e3 e4 e5
  have hz := g.1
  unfold wpY_rub
  refine pk_eq z 0 (fun e => h0 e) (fun e => ?_)
  obtain ⟨k, rfl⟩ : ∃ k, z = k + 1 := ⟨z - 1, by omega⟩
  refine nm_r (nI_pred k) (And.intro (pk_in k 7 (by omega)) ?_)
  rw [nI_clamp (by omega)]
  exact hp k rfl _ ⟨rfl, rfl, rfl, rfl, rfl⟩
theorem tz_typos {L : Nat → Nat} {S W Q : Nat → Int32} {z w : Nat} {v : SY} {post : Int32 → SY → Prop} (g : ty_ok L S Q z) (h : tz_R L S W Q z v) (hw : w < 10) (h0 : L w = 0 → post (-1) v) (h1 : 0 < L w → ∀ v', tz_R L S W Q z v' → post (nI (min 3 (ty_ed L S Q z w))) v') : wpY_typos post v (nI w) := by
  have hR := h
  obtain ⟨a, sz, wd, wt, qu, co⟩ := v
  have le := ty_ed_le L S Q z w
  unfold wpY_typos
  refine tz_is g hR hw (fun hl => br_f (by decide) ?_) (fun hl => br_t rfl (h0 hl))
  refine tz_edits g hR hw (fun v' hR' => ?_)
  obtain ⟨a, sz, wd, wt, qu, co⟩ := v'
  refine tz_min (ty_ed L S Q z w) 3 rfl rfl (by omega) (by omega) ?_
  rw [Nat.min_comm]
  exact h1 hl _ hR'
theorem tz_typosx {v : SY} {x : Int32} {post : Int32 → SY → Prop} (hx : x < 0 ∨ nI 10 ≤ x) (h0 : post (-1) v) : wpY_typos post v x := by
  obtain ⟨a, sz, wd, wt, qu, co⟩ := v
  unfold wpY_typos
  exact tz_isx hx (br_t rfl h0)
section
variable {sz wd wt qu co : Nat → Int32}
theorem tz_ex21 {z w : Nat} {post : Int32 → Prop} (hz : z < 7) (hw : w < 10) (h1 : (∀ k, k < z → wd (6 * w + k) = qu k) → post 1) (h0 : ¬ (∀ k, k < z → wd (6 * w + k) = qu k) → post 0) :
    ∀ d k m : Nat, k + d = z → d + 1 < m → (∀ i, i < k → wd (6 * w + i) = qu i) → wY_exact_21 post (nI w) (nI z) sz wd wt qu co m 1 (nI k) := by
  intro d
  induction d with
  | zero =>
    intro k m hk hm hh
    obtain ⟨m, rfl⟩ : ∃ q, m = q + 1 := ⟨m - 1, by omega⟩
    refine pk_le z k (fun _ => And.intro rfl (h1 ?_)) (fun h => absurd h (by omega))
    intro i hi
    exact hh i (by omega)
  | succ d ih =>
    intro k m hk hm hh
    obtain ⟨m, rfl⟩ : ∃ q, m = q + 2 := ⟨m - 2, by omega⟩
    refine pk_le z k (fun h => absurd h (by omega)) (fun _ => br_f (by decide) (And.intro (pk_in (6 * w + k) 60 (by omega) (tz_i6 w k)) (And.intro (pk_in k 7 (by omega)) (br_c (fun e => nm_r (nI_1 k) ?_) (fun e => nm_r (nI_1 k) ?_)))))
    · rw [tz_i6, nI_clamp (by omega), nI_clamp (by omega)] at e
      refine ih (k + 1) (m + 1) (by omega) (by omega) ?_
      intro i hi
      by_cases q : i = k
      · subst q; exact e
      · exact hh i (by omega)
    · rw [tz_i6, nI_clamp (by omega), nI_clamp (by omega)] at e
      have h0' := h0 (fun a => e (a k (by omega)))
      exact br_c (fun _ => And.intro rfl h0') (fun _ => br_t rfl (And.intro rfl h0'))
end
theorem tz_exact {L : Nat → Nat} {S W Q : Nat → Int32} {z w : Nat} {v : SY} {post : Int32 → Prop} (g : ty_ok L S Q z) (h : tz_R L S W Q z v) (hw : w < 10) (h1 : ty_ex L S Q z w = true → post 1) (h0 : ty_ex L S Q z w = false → post 0) : wpY_exact post v (nI w) := by
  obtain ⟨a, sz, wd, wt, qu, co⟩ := v
  obtain ⟨e1, e2, e3, e4, e5⟩ := h
  subst e1 e2 e3 e4 e5
  obtain ⟨hz, hL, _⟩ := g
  have h6 := hL w
  unfold wpY_exact
  refine And.intro (vp_in_nI hw (by omega)) (pk_eq (L w) z (fun e => ⟨z + 2, ?_⟩) (fun e => ⟨1, ?_⟩) ?_)
  · refine tz_ex21 hz hw (fun a => h1 ?_) (fun a => h0 ?_) z 0 (z + 2) (by omega) (by omega) (fun i hi => absurd hi (by omega))
    · exact decide_eq_true ⟨e, a⟩
    · exact decide_eq_false (fun b => a b.2)
  · have h0' := h0 (decide_eq_false (fun b => e b.1))
    exact br_c (fun _ => And.intro rfl h0') (fun _ => br_t rfl (And.intro rfl h0'))
  · show nI (L (nI w).toNatClampNeg) = nI (L w)
    rw [nI_clamp (by omega)]
theorem tz_bfr {P0 P1 : Prop} {L : Nat → Nat} {sz we : Nat → Int32} {v w : Nat} (hv : v < 10) (hw : w < 10) (ev : sz v = nI (L v)) (ew : sz w = nI (L w)) (hlv : L v ≤ 6) (hlw : L w ≤ 6)
    (h1 : ty_b4 L we v w = true → P1) (h0 : ty_b4 L we v w = false → P0) :
    (vp_in (nI v) 10 ∧ (vp_in (nI w) 10 ∧ ((((sz (nI v).toNatClampNeg) = (sz (nI w).toNatClampNeg) → (vp_in (nI v) 10 ∧ (vp_in (nI w) 10 ∧ ((((we (nI w).toNatClampNeg) < (we (nI v).toNatClampNeg) → P1) ∧ (¬ (we (nI w).toNatClampNeg) < (we (nI v).toNatClampNeg) → (vp_in (nI v) 10 ∧ (vp_in (nI w) 10 ∧ ((((we (nI v).toNatClampNeg) = (we (nI w).toNatClampNeg) → (((nI w ≤ nI v → P0) ∧ (¬ nI w ≤ nI v → P1)))) ∧ (¬ (we (nI v).toNatClampNeg) = (we (nI w).toNatClampNeg) → P0))))))))))) ∧ (¬ (sz (nI v).toNatClampNeg) = (sz (nI w).toNatClampNeg) → (vp_in (nI v) 10 ∧ (vp_in (nI w) 10 ∧ ((((sz (nI w).toNatClampNeg) ≤ (sz (nI v).toNatClampNeg) → P0) ∧ (¬ (sz (nI w).toNatClampNeg) ≤ (sz (nI v).toNatClampNeg) → P1)))))))))) := by
  rw [nI_clamp (by omega : v < 2 ^ 31), nI_clamp (by omega : w < 2 ^ 31)]
  have iv : vp_in (nI v) 10 := vp_in_nI hv (by omega)
  have iw : vp_in (nI w) 10 := vp_in_nI hw (by omega)
  refine ⟨iv, iw, pk_eq (L v) (L w) (fun e => ⟨iv, iw, br_c (fun q => ?_) (fun q => ⟨iv, iw, br_c (fun c => ?_) (fun c => ?_)⟩)⟩) (fun e => ⟨iv, iw, pk_le (L w) (L v) (fun q => ?_) (fun q => ?_) ew ev⟩) ev ew⟩
  · have c : ¬ we v = we w := fun c => by rw [c] at q; exact Int32.lt_irrefl q
    exact h1 (by rw [ty_b4, if_pos e, if_neg c, decide_eq_true q])
  · refine pk_le w v (fun q => h0 ?_) (fun q => h1 ?_)
    · rw [ty_b4, if_pos e, if_pos c, decide_eq_false (by omega)]
    · rw [ty_b4, if_pos e, if_pos c, decide_eq_true q]
  · exact h0 (by rw [ty_b4, if_pos e, if_neg c, decide_eq_false q])
  · exact h0 (by rw [ty_b4, if_neg e, decide_eq_false (by omega)])
  · exact h1 (by rw [ty_b4, if_neg e, decide_eq_true q])
theorem tz_before {L : Nat → Nat} {S W Q : Nat → Int32} {z v w : Nat} {u : SY} {post : Int32 → SY → Prop} (g : ty_ok L S Q z) (h : tz_R L S W Q z u) (hv : v < 10) (hw : w < 10)
    (h1 : ty_bf L S W Q z v w = true → ∀ u', tz_R L S W Q z u' → post 1 u') (h0 : ty_bf L S W Q z v w = false → ∀ u', tz_R L S W Q z u' → post 0 u') : wpY_before post u (nI v) (nI w) := by
  obtain ⟨a, sz, wd, wt, qu, co⟩ := u
  have hL := g.2.1
  have lv := ty_ed_le L S Q z v
  have lw := ty_ed_le L S Q z w
  unfold wpY_before
  refine tz_edits g h hv (fun u' hR => ?_)
  obtain ⟨a, sz, wd, wt, qu, co⟩ := u'
  refine tz_edits g hR hw (fun u' hR' => ?_)
  obtain ⟨a, sz, wd, wt, qu, co⟩ := u'
  have e2 : sz = (fun w => nI (L w)) := hR'.2.1
  have e4 : wt = W := hR'.2.2.2.1
  have nq : ¬ ty_ed L S Q z v = ty_ed L S Q z w → (nI (ty_ed L S Q z w) ≤ nI (ty_ed L S Q z v) → post 0 (a, sz, wd, wt, qu, co)) ∧ (¬ nI (ty_ed L S Q z w) ≤ nI (ty_ed L S Q z v) → post 1 (a, sz, wd, wt, qu, co)) := by
    intro e
    refine pk_le (ty_ed L S Q z w) (ty_ed L S Q z v) (fun q => h0 ?_ _ hR') (fun q => h1 ?_ _ hR')
    · rw [ty_bf, if_neg e, decide_eq_false (by omega)]
    · rw [ty_bf, if_neg e, decide_eq_true q]
  have rest : ∀ (e : ty_ed L S Q z v = ty_ed L S Q z w) (c : ty_ex L S Q z v = ty_ex L S Q z w), _ := fun e c => tz_bfr (P0 := post 0 (a, sz, wd, wt, qu, co)) (P1 := post 1 (a, sz, wd, wt, qu, co)) (L := L) (sz := sz) (we := wt) hv hw (by rw [e2]) (by rw [e2]) (hL v) (hL w) (fun b => h1 (by rw [ty_bf, if_pos e, if_pos c, ← e4]; exact b) _ hR') (fun b => h0 (by rw [ty_bf, if_pos e, if_pos c, ← e4]; exact b) _ hR')
  refine tz_exact g hR' hv (fun x => ?_) (fun x => ?_)
  · refine tz_exact g hR' hw (fun y => ?_) (fun y => ?_)
    · exact pk_eq (ty_ed L S Q z v) (ty_ed L S Q z w) (fun e => br_t rfl (rest e (by rw [x, y]))) (fun e => nq e)
    · refine pk_eq (ty_ed L S Q z v) (ty_ed L S Q z w) (fun e => br_f (by decide) (And.intro rfl (h1 ?_ _ hR'))) (fun e => nq e)
      rw [ty_bf, if_pos e, if_neg (by rw [x, y]; decide), x]
  · refine tz_exact g hR' hw (fun y => ?_) (fun y => ?_)
    · refine pk_eq (ty_ed L S Q z v) (ty_ed L S Q z w) (fun e => br_f (by decide) (And.intro rfl (h0 ?_ _ hR'))) (fun e => nq e)
      rw [ty_bf, if_pos e, if_neg (by rw [x, y]; decide), x]
    · exact pk_eq (ty_ed L S Q z v) (ty_ed L S Q z w) (fun e => br_t rfl (rest e (by rw [x, y]))) (fun e => nq e)
theorem tz_pl14 {L : Nat → Nat} {S W Q : Nat → Int32} {z w : Nat} {post : Int32 → SY → Prop} (g : ty_ok L S Q z) (hw : w < 10) (hp : ∀ v', tz_R L S W Q z v' → post (nI (ty_pl L S W Q z w)) v') :
    ∀ (d v m : Nat) (a : Int32) (sz wd wt qu co : Nat → Int32), v + d = 10 → d < m → tz_R L S W Q z (a, sz, wd, wt, qu, co) → wY_place_14 post (nI w) m (nI (ty_cnt (ty_pv L S W Q z w) v)) (nI v) a sz wd wt qu co := by
  intro d
  induction d with
  | zero =>
    intro v m a sz wd wt qu co hv hm hR
    obtain ⟨m, rfl⟩ : ∃ q, m = q + 1 := ⟨m - 1, by omega⟩
    have e : v = 10 := by omega
    refine pk_le 10 v (fun _ => ?_) (fun h => absurd h (by omega))
    rw [e]
    exact hp _ hR
  | succ d ih =>
    intro v m a sz wd wt qu co hv hm hR
    obtain ⟨m, rfl⟩ : ∃ q, m = q + 1 := ⟨m - 1, by omega⟩
    have nx : ty_pv L S W Q z w v = false → ∀ (a : Int32) (sz wd wt qu co : Nat → Int32), tz_R L S W Q z (a, sz, wd, wt, qu, co) → wY_place_14 post (nI w) m (nI (ty_cnt (ty_pv L S W Q z w) v)) (nI (v + 1)) a sz wd wt qu co := by
      intro f a sz wd wt qu co hR
      rw [ty_cG f]
      exact ih (v + 1) m _ _ _ _ _ _ (by omega) (by omega) hR
    refine pk_le 10 v (fun h => absurd h (by omega)) (fun _ => pk_eq v w (fun e => nm_r (nI_1 v) (nx ?_ _ _ _ _ _ _ hR)) (fun e => ?_))
    · rw [ty_pv, decide_eq_true e]; rfl
    · refine tz_isf g hR (by omega) (fun x v' hR' => ?_) (fun x v' hR' => ?_)
      · obtain ⟨a, sz, wd, wt, qu, co⟩ := v'
        refine br_f (by decide) ?_
        refine tz_before g hR' (by omega) hw (fun y v' hR'' => ?_) (fun y v' hR'' => ?_)
        · obtain ⟨a, sz, wd, wt, qu, co⟩ := v'
          refine br_f (by decide) (nm_r (ty_cT ?_) (nm_r (nI_1 v) (ih (v + 1) m _ _ _ _ _ _ (by omega) (by omega) hR'')))
          rw [ty_pv, decide_eq_false e, x, y]; rfl
        · obtain ⟨a, sz, wd, wt, qu, co⟩ := v'
          refine br_t rfl (nm_r (nI_1 v) (nx ?_ _ _ _ _ _ _ hR''))
          rw [ty_pv, y, Bool.and_false]
      · obtain ⟨a, sz, wd, wt, qu, co⟩ := v'
        refine br_t rfl (nm_r (nI_1 v) (nx ?_ _ _ _ _ _ _ hR'))
        rw [ty_pv, x, Bool.and_false, Bool.false_and]
theorem tz_place {L : Nat → Nat} {S W Q : Nat → Int32} {z w : Nat} {v : SY} {post : Int32 → SY → Prop} (g : ty_ok L S Q z) (h : tz_R L S W Q z v) (hw : w < 10)
    (h0 : ty_fd L S Q z w = false → ∀ v', tz_R L S W Q z v' → post (-1) v') (h1 : ty_fd L S Q z w = true → ∀ v', tz_R L S W Q z v' → post (nI (ty_pl L S W Q z w)) v') : wpY_place post v (nI w) := by
  obtain ⟨a, sz, wd, wt, qu, co⟩ := v
  unfold wpY_place
  refine tz_isf g h hw (fun x v' hR => ?_) (fun x v' hR => ?_)
  · obtain ⟨a, sz, wd, wt, qu, co⟩ := v'
    exact br_f (by decide) ⟨11, tz_pl14 g hw (h1 x) 10 0 11 _ _ _ _ _ _ (by omega) (by omega) hR⟩
  · obtain ⟨a, sz, wd, wt, qu, co⟩ := v'
    exact br_t rfl (h0 x _ hR)
theorem tz_placex {v : SY} {x : Int32} {post : Int32 → SY → Prop} (hx : x < 0 ∨ nI 10 ≤ x) (h0 : post (-1) v) : wpY_place post v x := by
  obtain ⟨a, sz, wd, wt, qu, co⟩ := v
  unfold wpY_place
  exact tz_isfx hx (br_t rfl h0)
theorem tz_at2 {L : Nat → Nat} {S W Q : Nat → Int32} {z : Nat} {x r : Int32} {post : Int32 → SY → Prop} (g : ty_ok L S Q z) (hp : ∀ v', tz_R L S W Q z v' → post r v') :
    ∀ (d w m : Nat) (a : Int32) (sz wd wt qu co : Nat → Int32), w + d = 10 → d < m → tz_R L S W Q z (a, sz, wd, wt, qu, co) → ty_fst (ty_pk L S W Q z x) d w = r → wY_at_2 post x m (nI w) a sz wd wt qu co := by
  intro d
  induction d with
  | zero =>
    intro w m a sz wd wt qu co hw hm hR hr
    obtain ⟨m, rfl⟩ : ∃ q, m = q + 1 := ⟨m - 1, by omega⟩
    refine pk_le 10 w (fun _ => ?_) (fun h => absurd h (by omega))
    have e : (-1 : Int32) = r := hr
    rw [e]
    exact hp _ hR
  | succ d ih =>
    intro w m a sz wd wt qu co hw hm hR hr
    obtain ⟨m, rfl⟩ : ∃ q, m = q + 1 := ⟨m - 1, by omega⟩
    refine pk_le 10 w (fun h => absurd h (by omega)) (fun _ => ?_)
    refine tz_isf g hR (by omega) (fun f v' hR' => ?_) (fun f v' hR' => ?_)
    · obtain ⟨a, sz, wd, wt, qu, co⟩ := v'
      refine br_f (by decide) ?_
      refine tz_place g hR' (by omega) (fun b => absurd (f.symm.trans b) (by decide)) (fun _ v' hR'' => ?_)
      obtain ⟨a, sz, wd, wt, qu, co⟩ := v'
      refine br_c (fun e => ?_) (fun e => nm_r (nI_1 w) ?_)
      · have q : nI w = r := ty_fT (by rw [ty_pk, f, decide_eq_true e]; rfl) hr
        rw [q]
        exact hp _ hR''
      · exact ih (w + 1) m _ _ _ _ _ _ (by omega) (by omega) hR'' (ty_fF (by rw [ty_pk, decide_eq_false e, Bool.and_false]) hr)
    · obtain ⟨a, sz, wd, wt, qu, co⟩ := v'
      exact br_t rfl (nm_r (nI_1 w) (ih (w + 1) m _ _ _ _ _ _ (by omega) (by omega) hR' (ty_fF (by rw [ty_pk, f, Bool.false_and]) hr)))
theorem tz_at {L : Nat → Nat} {S W Q : Nat → Int32} {z : Nat} {x : Int32} {v : SY} {post : Int32 → SY → Prop} (g : ty_ok L S Q z) (h : tz_R L S W Q z v) (hp : ∀ v', tz_R L S W Q z v' → post (ty_fst (ty_pk L S W Q z x) 10 0) v') : wpY_at post v x := by
  obtain ⟨a, sz, wd, wt, qu, co⟩ := v
  unfold wpY_at
  exact ⟨11, tz_at2 g hp 10 0 11 _ _ _ _ _ _ (by omega) (by omega) h rfl⟩
end
section
/-! ===== the reference: hints, the common beginning, words written ===== -/
theorem tz_hi4 {L : Nat → Nat} {S W Q : Nat → Int32} {z : Nat} {post : Int32 → SY → Prop} (hz : z < 6) (hp : ∀ v', tz_R L S W (upd Q z (nI 3)) z v' → post (ty_set (ty_hb L S Q z) 4) v') :
    ∀ (d s m : Nat) (Q' : Nat → Int32) (a : Int32) (sz wd wt qu co : Nat → Int32), s + d = 4 → d < m → ty_ok L S Q' z → (∀ a, upd Q' z a = upd Q z a) → (s = 4 → Q' = upd Q z (nI 3)) → tz_R L S W Q' z (a, sz, wd, wt, qu, co) →
      wY_hints_4 post m (ty_set (ty_hb L S Q z) s) (nI s) a sz wd wt qu co := by
  intro d
  induction d with
  | zero =>
    intro s m Q' a sz wd wt qu co hs hm g hu h4 hR
    obtain ⟨m, rfl⟩ : ∃ q, m = q + 1 := ⟨m - 1, by omega⟩
    refine pk_le 4 s (fun _ => ?_) (fun h => absurd h (by omega))
    have e : s = 4 := by omega
    rw [h4 e] at hR
    rw [e]
    exact hp _ hR
  | succ d ih =>
    intro s m Q' a sz wd wt qu co hs hm g hu h4 hR
    obtain ⟨m, rfl⟩ : ∃ q, m = q + 1 := ⟨m - 1, by omega⟩
    have ez : a = nI z := hR.1
    refine pk_le 4 s (fun h => absurd h (by omega)) (fun _ => pk_le 6 z (fun h => absurd h (by omega)) (fun _ => ?_) rfl ez)
    refine tz_typeg (s := s) g hR hz (by omega) (fun v' hR' => ?_)
    have g' := ty_okt (s := s) g hz (by omega)
    rw [hu] at hR' g'
    obtain ⟨a, sz, wd, wt, qu, co⟩ := v'
    refine tz_found g' hR' (fun v' hR'' => ?_)
    obtain ⟨a, sz, wd, wt, qu, co⟩ := v'
    have h5 : s + 1 = 4 → upd Q z (nI s) = upd Q z (nI 3) := fun e => by rw [show s = 3 by omega]
    have nx : wY_hints_40 post (wY_hints_4 post m) (nI s) (ty_set (ty_hb L S Q z) (s + 1)) a sz wd wt qu co := by
      unfold wY_hints_40
      refine tz_rub g' hR'' (fun h => absurd h (by omega)) (fun k hk v' hR3 => ?_)
      have ek : k = z := by omega
      subst ek
      obtain ⟨a, sz, wd, wt, qu, co⟩ := v'
      exact nm_r (nI_1 s) (ih (s + 1) m (upd Q k (nI s)) _ _ _ _ _ _ (by omega) (by omega) (ty_okz g' (by omega)) (fun a => ty_uu Q k _ a) h5 hR3)
    refine br_c (fun q => ?_) (fun q => ?_)
    · rw [ty_sz (by omega), ← ty_cnt_z] at q
      rw [ty_set, if_neg (by rw [ty_hb, decide_eq_true_eq]; omega)] at nx
      exact nx
    · rw [ty_sz (by omega), ← ty_cnt_z] at q
      rw [ty_set, if_pos (by rw [ty_hb, decide_eq_true_eq]; omega)] at nx
      exact nx
theorem tz_hints {L : Nat → Nat} {S W Q : Nat → Int32} {z : Nat} {v : SY} {post : Int32 → SY → Prop} (g : ty_ok L S Q z) (h : tz_R L S W Q z v) (hz : z < 6) (hp : ∀ v', tz_R L S W (upd Q z (nI 3)) z v' → post (ty_set (ty_hb L S Q z) 4) v') : wpY_hints post v := by
  obtain ⟨a, sz, wd, wt, qu, co⟩ := v
  unfold wpY_hints
  exact ⟨5, tz_hi4 hz hp 4 0 5 Q _ _ _ _ _ _ (by omega) (by omega) g (fun _ => rfl) (fun h => absurd h (by omega)) h⟩
theorem tz_hintsf {L : Nat → Nat} {S W Q : Nat → Int32} {z : Nat} {v : SY} {post : Int32 → SY → Prop} (g : ty_ok L S Q z) (h : tz_R L S W Q z v) (hz : ¬ z < 6) (h0 : post 0 v) : wpY_hints post v := by
  obtain ⟨a, sz, wd, wt, qu, co⟩ := v
  have ez : a = nI z := h.1
  have h7 := g.1
  unfold wpY_hints
  refine ⟨1, ?_⟩
  exact pk_le 4 0 (fun h => absurd h (by omega)) (fun _ => pk_le 6 z (fun _ => h0) (fun h => absurd h (by omega)) rfl ez)
/-- what the pairs dealt with so far (first below v; first v, second below w) have in common, at most s -/
def ty_H (L : Nat → Nat) (S : Nat → Int32) (F : Nat → Bool) (s v w n : Nat) : Prop := ∀ m, m ≤ n ↔ m ≤ s ∧ ∀ a b, (a < v ∨ (a = v ∧ b < w)) → b < 10 → F a = true → F b = true → m ≤ L a ∧ m ≤ L b ∧ ∀ k, k < m → S (6 * a + k) = S (6 * b + k)
theorem ty_H_skip {L : Nat → Nat} {S : Nat → Int32} {F : Nat → Bool} {s v w n : Nat} (h : ty_H L S F s v w n) (hF : ¬ (F v = true ∧ F w = true)) : ty_H L S F s v (w + 1) n := by
  intro m
  rw [h m]
  constructor
  · intro q
    refine ⟨q.1, fun a b hab hb fa fb => ?_⟩
    by_cases e : a = v ∧ b = w
    · rw [e.1] at fa; rw [e.2] at fb; exact absurd ⟨fa, fb⟩ hF
    · exact q.2 a b (by omega) hb fa fb
  · intro q
    exact ⟨q.1, fun a b hab hb fa fb => q.2 a b (by omega) hb fa fb⟩
theorem ty_H_add {L : Nat → Nat} {S : Nat → Int32} {F : Nat → Bool} {s v w n n' : Nat} (h : ty_H L S F s v w n) (hw : w < 10) (fv : F v = true) (fw : F w = true) (hs : ty_sh S (L v) (L w) v w n') : ty_H L S F s v (w + 1) (min n n') := by
  intro m
  have e : m ≤ min n n' ↔ m ≤ n ∧ m ≤ n' := by omega
  rw [e, h m, hs m]
  constructor
  · intro q
    obtain ⟨⟨q1, q2⟩, q3⟩ := q
    refine ⟨q1, fun a b hab hb fa fb => ?_⟩
    by_cases e : a = v ∧ b = w
    · rw [e.1, e.2]; exact q3
    · exact q2 a b (by omega) hb fa fb
  · intro q
    exact ⟨⟨q.1, fun a b hab hb fa fb => q.2 a b (by omega) hb fa fb⟩, q.2 v w (by omega) hw fv fw⟩
theorem ty_H_next {L : Nat → Nat} {S : Nat → Int32} {F : Nat → Bool} {s v n : Nat} (h : ty_H L S F s v 10 n) : ty_H L S F s (v + 1) 0 n := by
  intro m
  rw [h m]
  constructor
  · intro q
    exact ⟨q.1, fun a b hab hb fa fb => q.2 a b (by omega) hb fa fb⟩
  · intro q
    exact ⟨q.1, fun a b hab hb fa fb => q.2 a b (by omega) hb fa fb⟩
theorem ty_H0 {L : Nat → Nat} {S : Nat → Int32} {F : Nat → Bool} {s : Nat} : ty_H L S F s 0 0 s := by
  intro m
  exact ⟨fun q => ⟨q, fun a b hab => absurd hab (by omega)⟩, fun q => q.1⟩
theorem ty_GH {L : Nat → Nat} {S : Nat → Int32} {F : Nat → Bool} {f n n' : Nat} (hL : ∀ w, L w ≤ 6) (hf : f < 10) (ff : F f = true) (h : ty_G L S F f 10 n) (h' : ty_H L S F 6 10 0 n') : n' = n := by
  have a : ∀ m, m ≤ n' ↔ m ≤ n := by
    intro m
    rw [h m, h' m]
    constructor
    · intro q v hv fv
      have r := q.2 f v (by omega) hv ff fv
      exact ⟨r.2.1, r.2.2⟩
    · intro q
      have l := hL f
      have r := (q f hf ff).1
      refine ⟨by omega, fun x y hx hy fx fy => ?_⟩
      have rx := q x (by omega) fx
      have ry := q y hy fy
      exact ⟨rx.1, ry.1, fun k hk => (rx.2 k hk).symm.trans (ry.2 k hk)⟩
  exact Nat.le_antisymm ((a n').mp (Nat.le_refl _)) ((a n).mpr (Nat.le_refl _))
theorem ty_Hz {L : Nat → Nat} {S : Nat → Int32} {F : Nat → Bool} {v w n : Nat} (h : ty_H L S F 0 v w n) : n = 0 := by
  have := ((h n).mp (Nat.le_refl _)).1
  omega
section
variable {az : Int32} {sz wd wt qu co : Nat → Int32}
theorem tz_sh2 {L : Nat → Nat} {v w : Nat} {post : Int32 → Prop} (hv : v < 10) (hw : w < 10) (hL : ∀ w, L w ≤ 6) (es : sz = fun w => nI (L w)) (hp : ∀ n, n ≤ 6 → ty_sh wd (L v) (L w) v w n → post (nI n)) :
    ∀ d n m : Nat, n + d = L v → d < m → n ≤ L w → (∀ k, k < n → wd (6 * v + k) = wd (6 * w + k)) → wY_shared_2 post (nI v) (nI w) az sz wd wt qu co m (nI n) := by
  have iv : vp_in (nI v) 10 := vp_in_nI hv (by omega)
  have iw : vp_in (nI w) 10 := vp_in_nI hw (by omega)
  have lv := hL v
  have lw := hL w
  have ev : sz (nI v).toNatClampNeg = nI (L v) := by rw [nI_clamp (by omega), es]
  have ew : sz (nI w).toNatClampNeg = nI (L w) := by rw [nI_clamp (by omega), es]
  intro d
  induction d with
  | zero =>
    intro n m hn hm hnl hh
    obtain ⟨m, rfl⟩ : ∃ q, m = q + 1 := ⟨m - 1, by omega⟩
    exact And.intro iv (pk_le (L v) n (fun _ => hp n (by omega) (ty_sh_end (by omega) hnl hh (Or.inl (by omega)))) (fun h => absurd h (by omega)) ev)
  | succ d ih =>
    intro n m hn hm hnl hh
    obtain ⟨m, rfl⟩ : ∃ q, m = q + 1 := ⟨m - 1, by omega⟩
    refine And.intro iv (pk_le (L v) n (fun h => absurd h (by omega)) (fun _ => And.intro iw (pk_le (L w) n (fun q => hp n (by omega) (ty_sh_end (by omega) hnl hh (Or.inr (Or.inl (by omega))))) (fun q => And.intro (pk_in (6 * v + n) 60 (by omega) (tz_i6 v n)) (And.intro (pk_in (6 * w + n) 60 (by omega) (tz_i6 w n)) (br_c (fun e => nm_r (nI_1 n) ?_) (fun e => ?_)))) ew)) ev)
    · rw [tz_i6, tz_i6, nI_clamp (by omega), nI_clamp (by omega)] at e
      refine ih (n + 1) m (by omega) (by omega) (by omega) ?_
      intro k hk
      by_cases q : k = n
      · subst q; exact e
      · exact hh k (by omega)
    · rw [tz_i6, tz_i6, nI_clamp (by omega), nI_clamp (by omega)] at e
      exact hp n (by omega) (ty_sh_end (by omega) hnl hh (Or.inr (Or.inr e)))
theorem tz_shared {L : Nat → Nat} {v w : Nat} {post : Int32 → Prop} (hv : v < 10) (hw : w < 10) (hL : ∀ w, L w ≤ 6) (es : sz = fun w => nI (L w)) (hp : ∀ n, n ≤ 6 → ty_sh wd (L v) (L w) v w n → post (nI n)) : wpY_shared post (az, sz, wd, wt, qu, co) (nI v) (nI w) := by
  unfold wpY_shared
  exact ⟨L v + 1, tz_sh2 hv hw hL es hp (L v) 0 (L v + 1) (by omega) (by omega) (by omega) (fun k hk => absurd hk (by omega))⟩
theorem tz_co27 {L : Nat → Nat} {F : Nat → Bool} {post : Int32 → SY → Prop} {J18 : Int32 → Int32 → Prop} {s v : Nat} (hv : v < 10) (hL : ∀ w, L w ≤ 6) (es : sz = fun w => nI (L w))
    (hJ : ∀ n, n ≤ 6 → ty_H L wd F s (v + 1) 0 n → J18 (nI n) (nI (v + 1))) :
    ∀ d w n m : Nat, w + d = 10 → d < m → n ≤ 6 → ty_H L wd F s v w n → wY_common_27 post J18 (ty_set F 10) (nI v) az sz wd wt qu co m (nI n) (nI w) := by
  intro d
  induction d with
  | zero =>
    intro w n m hw hm hn hH
    obtain ⟨m, rfl⟩ : ∃ q, m = q + 1 := ⟨m - 1, by omega⟩
    have e : w = 10 := by omega
    subst e
    exact pk_le 10 10 (fun _ => nm_r (nI_1 v) (hJ n hn (ty_H_next hH))) (fun h => absurd h (by omega))
  | succ d ih =>
    intro w n m hw hm hn hH
    obtain ⟨m, rfl⟩ : ∃ q, m = q + 1 := ⟨m - 1, by omega⟩
    have no : ¬ (F v = true ∧ F w = true) → wY_common_57 post J18 (wY_common_27 post J18 (ty_set F 10) (nI v) az sz wd wt qu co m) (ty_set F 10) (nI n) (nI v) (nI w) az sz wd wt qu co := by
      intro hF
      unfold wY_common_57 wY_common_58
      exact br_t rfl (nm_r (nI_1 w) (ih (w + 1) n m (by omega) (by omega) hn (ty_H_skip hH hF)))
    refine pk_le 10 w (fun h => absurd h (by omega)) (fun _ => br_c (fun a => br_c (fun b => ?_) (fun b => no ?_)) (fun a => no ?_))
    · rw [ty_sin1 (by omega) hv] at a
      rw [ty_sin1 (by omega) (by omega)] at b
      unfold wY_common_58
      refine br_f (by decide) (tz_shared hv (by omega) hL es (fun n' hn' hs => ?_))
      refine tz_min n n' rfl rfl (by omega) (by omega) (nm_r (nI_1 w) ?_)
      exact ih (w + 1) (min n n') m (by omega) (by omega) (by omega) (ty_H_add hH (by omega) a b hs)
    · rw [ty_sin1 (by omega) (by omega)] at b
      exact fun q => b q.2
    · rw [ty_sin1 (by omega) hv] at a
      exact fun q => a q.1
theorem tz_co18 {L : Nat → Nat} {F : Nat → Bool} {post : Int32 → SY → Prop} {s : Nat} (hL : ∀ w, L w ≤ 6) (es : sz = fun w => nI (L w))
    (hp : ∀ n, n ≤ 6 → ty_H L wd F s 10 0 n → post (nI n) (az, sz, wd, wt, qu, co)) :
    ∀ d v n m : Nat, v + d = 10 → d < m → n ≤ 6 → ty_H L wd F s v 0 n → wY_common_18 post (ty_set F 10) az sz wd wt qu co m (nI n) (nI v) := by
  intro d
  induction d with
  | zero =>
    intro v n m hv hm hn hH
    obtain ⟨m, rfl⟩ : ∃ q, m = q + 1 := ⟨m - 1, by omega⟩
    have e : v = 10 := by omega
    subst e
    exact pk_le 10 10 (fun _ => hp n hn hH) (fun h => absurd h (by omega))
  | succ d ih =>
    intro v n m hv hm hn hH
    obtain ⟨m, rfl⟩ : ∃ q, m = q + 1 := ⟨m - 1, by omega⟩
    refine pk_le 10 v (fun h => absurd h (by omega)) (fun _ => ⟨11, ?_⟩)
    exact tz_co27 (by omega) hL es (fun n' hn' hH' => ih (v + 1) n' m (by omega) (by omega) hn' hH') 10 0 n 11 (by omega) (by omega) hn hH
end
theorem tz_common {L : Nat → Nat} {S W Q : Nat → Int32} {z : Nat} {v : SY} {post : Int32 → SY → Prop} (g : ty_ok L S Q z) (h : tz_R L S W Q z v)
    (h0 : (∀ w, w < 10 → ty_fd L S Q z w = false) → ∀ v', tz_R L S W Q z v' → post 0 v')
    (hp : ∀ n, ¬ (∀ w, w < 10 → ty_fd L S Q z w = false) → ty_H L S (ty_fd L S Q z) 6 10 0 n → ∀ v', tz_R L S W Q z v' → post (nI n) v') : wpY_common post v := by
  obtain ⟨a, sz, wd, wt, qu, co⟩ := v
  unfold wpY_common
  refine tz_found g h (fun v' hR => ?_)
  obtain ⟨a, sz, wd, wt, qu, co⟩ := v'
  have es : sz = fun w => nI (L w) := hR.2.1
  have ew : wd = S := hR.2.2.1
  refine br_c (fun q => ⟨11, ?_⟩) (fun q => ⟨11, ?_⟩)
  · rw [ty_sz (by omega)] at q
    refine tz_co18 (s := 0) g.2.1 es (fun n _ hH => ?_) 10 0 0 11 (by omega) (by omega) (by omega) ty_H0
    rw [ty_Hz hH]
    exact h0 q _ hR
  · rw [ty_sz (by omega)] at q
    refine tz_co18 (s := 6) g.2.1 es (fun n _ hH => ?_) 10 0 6 11 (by omega) (by omega) (by omega) ty_H0
    rw [ew] at hH
    exact hp n q hH _ hR
end
section
/-! ===== the reference: words begun, extended, removed, weighed, told ===== -/
theorem tz_un {L : Nat → Nat} {w k : Nat} : upd (fun w => nI (L w)) w (nI k) = fun j => nI (ty_un L w k j) := by
  funext j
  by_cases e : j = w
  · subst e; rw [pk_us, ty_us]
  · rw [pk_un e, ty_uo e]
section
variable {az : Int32} {wd wt qu co : Nat → Int32}
theorem tz_be23 {L : Nat → Nat} {s e w : Nat} {post : Int32 → SY → Prop} (hw : w < 10) (hL : ∀ w, L w ≤ 6) (h0 : L w = 0) (hh : ∀ v, v < w → 0 < L v)
    (hp : post (nI w) (az, (fun j => nI (ty_un L w 1 j)), upd wd (6 * w) (nI s), upd wt w (nI e), qu, co)) :
    ∀ d v m : Nat, v + d = w → d < m → wY_begin_23 post (nI s) (nI e) az (fun w => nI (L w)) wd wt qu co m (nI v) := by
  intro d
  induction d with
  | zero =>
    intro v m hv hm
    obtain ⟨m, rfl⟩ : ∃ q, m = q + 1 := ⟨m - 1, by omega⟩
    have q : v = w := by omega
    subst q
    have iw : vp_in (nI v) 10 := vp_in_nI hw (by omega)
    have c1 : upd (fun w => nI (L w)) (nI v).toNatClampNeg 1 = fun j => nI (ty_un L v 1 j) := by rw [nI_clamp (by omega)]; exact tz_un
    have x6 : (6 : Int32) * nI v = nI (6 * v) := pk_mul 6 v
    have c2 : upd wd ((6 : Int32) * nI v).toNatClampNeg (nI s) = upd wd (6 * v) (nI s) := by rw [x6, nI_clamp (by omega)]
    have c3 : upd wt (nI v).toNatClampNeg (nI e) = upd wt v (nI e) := by rw [nI_clamp (by omega)]
    refine pk_le 10 v (fun h => absurd h (by omega)) (fun _ => And.intro iw (pk_eq (L v) 0 (fun _ => And.intro iw (nm_r c1 (And.intro (pk_in (6 * v) 60 (by omega) x6) (nm_r c2 (And.intro iw (nm_r c3 hp)))))) (fun h => absurd h0 h) ?_ rfl (by omega)))
    show nI (L (nI v).toNatClampNeg) = nI (L v)
    rw [nI_clamp (by omega)]
  | succ d ih =>
    intro v m hv hm
    obtain ⟨m, rfl⟩ : ∃ q, m = q + 1 := ⟨m - 1, by omega⟩
    have h1 := hh v (by omega)
    have h6 := hL v
    refine pk_le 10 v (fun h => absurd h (by omega)) (fun _ => And.intro (vp_in_nI (by omega) (by omega)) (pk_eq (L v) 0 (fun h => absurd h (by omega)) (fun _ => nm_r (nI_1 v) (ih (v + 1) m (by omega) (by omega))) ?_ rfl (by omega)))
    show nI (L (nI v).toNatClampNeg) = nI (L v)
    rw [nI_clamp (by omega)]
theorem tz_be23f {L : Nat → Nat} {x y : Int32} {post : Int32 → SY → Prop} (hL : ∀ w, L w ≤ 6) (hh : ∀ v, v < 10 → 0 < L v)
    (hp : post (-2) (az, (fun w => nI (L w)), wd, wt, qu, co)) :
    ∀ d v m : Nat, v + d = 10 → d < m → wY_begin_23 post x y az (fun w => nI (L w)) wd wt qu co m (nI v) := by
  intro d
  induction d with
  | zero =>
    intro v m hv hm
    obtain ⟨m, rfl⟩ : ∃ q, m = q + 1 := ⟨m - 1, by omega⟩
    exact pk_le 10 v (fun _ => hp) (fun h => absurd h (by omega))
  | succ d ih =>
    intro v m hv hm
    obtain ⟨m, rfl⟩ : ∃ q, m = q + 1 := ⟨m - 1, by omega⟩
    have h1 := hh v (by omega)
    have h6 := hL v
    refine pk_le 10 v (fun h => absurd h (by omega)) (fun _ => And.intro (vp_in_nI (by omega) (by omega)) (pk_eq (L v) 0 (fun h => absurd h (by omega)) (fun _ => nm_r (nI_1 v) (ih (v + 1) m (by omega) (by omega))) ?_ rfl (by omega)))
    show nI (L (nI v).toNatClampNeg) = nI (L v)
    rw [nI_clamp (by omega)]
end
theorem ty_s3 {s : Nat} (h : s < 4) : ¬ (3 : Int32) < nI s := nI_nlt (a := 3) (by omega) (by omega)
theorem ty_g3 {y : Int32} (h : nI 4 ≤ y) : (3 : Int32) < y := Int32.not_le.mp (ty_n3 h)
theorem tz_begin {L : Nat → Nat} {S W Q : Nat → Int32} {z s e w : Nat} {v : SY} {post : Int32 → SY → Prop} (g : ty_ok L S Q z) (h : tz_R L S W Q z v) (hs : s < 4) (he : e < 10) (hw : w < 10) (h0 : L w = 0) (hh : ∀ v, v < w → 0 < L v)
    (hp : ∀ v', tz_R (ty_un L w 1) (upd S (6 * w) (nI s)) (upd W w (nI e)) Q z v' → post (nI w) v') : wpY_begin post v (nI s) (nI e) := by
  obtain ⟨a, sz, wd, wt, qu, co⟩ := v
  obtain ⟨e1, e2, e3, e4, e5⟩ := h
  subst e1 e2 e3 e4 e5
  unfold wpY_begin
  refine br_f (nI_pos (by omega)) (br_f (ty_s3 hs) (br_f (nI_pos (by omega)) (br_t (ty_9 he) ⟨w + 1, ?_⟩)))
  exact tz_be23 hw g.2.1 h0 hh (hp _ ⟨rfl, rfl, rfl, rfl, rfl⟩) w 0 (w + 1) (by omega) (by omega)
theorem tz_beginf {L : Nat → Nat} {S W Q : Nat → Int32} {z s e : Nat} {v : SY} {post : Int32 → SY → Prop} (g : ty_ok L S Q z) (h : tz_R L S W Q z v) (hs : s < 4) (he : e < 10) (hh : ∀ v, v < 10 → 0 < L v) (hp : post (-2) v) : wpY_begin post v (nI s) (nI e) := by
  obtain ⟨a, sz, wd, wt, qu, co⟩ := v
  obtain ⟨e1, e2, e3, e4, e5⟩ := h
  subst e1 e2 e3 e4 e5
  unfold wpY_begin
  refine br_f (nI_pos (by omega)) (br_f (ty_s3 hs) (br_f (nI_pos (by omega)) (br_t (ty_9 he) ⟨11, ?_⟩)))
  exact tz_be23f g.2.1 hh hp 10 0 11 (by omega) (by omega)
theorem tz_beginx {v : SY} {x y : Int32} {post : Int32 → SY → Prop} (hb : x < 0 ∨ nI 4 ≤ x ∨ y < 0 ∨ nI 10 ≤ y) (hp : post (-1) v) : wpY_begin post v x y := by
  obtain ⟨a, sz, wd, wt, qu, co⟩ := v
  unfold wpY_begin
  refine br_c (fun _ => hp) (fun p => br_c (fun _ => hp) (fun q => br_c (fun _ => hp) (fun r => ?_)))
  rcases hb with h | h | h | h
  · exact absurd h p
  · exact absurd (ty_g3 h) q
  · exact absurd h r
  · exact br_f (ty_n9 h) hp
theorem tz_extend {L : Nat → Nat} {S W Q : Nat → Int32} {z s w : Nat} {v : SY} {post : Int32 → SY → Prop} (g : ty_ok L S Q z) (h : tz_R L S W Q z v) (hs : s < 4) (hw : w < 10) (hl : 0 < L w) (h6 : L w < 6)
    (hp : ∀ v', tz_R (ty_un L w (L w + 1)) (upd S (6 * w + L w) (nI s)) W Q z v' → post 1 v') : wpY_extend post v (nI w) (nI s) := by
  have hR := h
  obtain ⟨a, sz, wd, wt, qu, co⟩ := v
  obtain ⟨e1, e2, e3, e4, e5⟩ := h
  have iw : vp_in (nI w) 10 := vp_in_nI hw (by omega)
  have ec : sz (nI w).toNatClampNeg = nI (L w) := by rw [nI_clamp (by omega), e2]
  have ix : (6 : Int32) * nI w + sz (nI w).toNatClampNeg = nI (6 * w + L w) := by rw [ec, tz_i6]
  unfold wpY_extend
  refine tz_is g hR hw (fun _ => br_f (by decide) (br_f (nI_pos (by omega)) (br_f (ty_s3 hs) (And.intro iw ?_)))) (fun h => absurd h (by omega))
  refine pk_lt (L w) 6 (fun q => And.intro iw (And.intro (pk_in (6 * w + L w) 60 (by omega) ix) (nm_r (e' := upd wd (6 * w + L w) (nI s)) ?_ (And.intro iw (And.intro iw (nm_r (e' := fun j => nI (ty_un L w (L w + 1) j)) ?_ (hp _ ?_))))))) (fun q => absurd h6 (by omega)) ec
  · rw [ix, nI_clamp (by omega)]
  · rw [ec, nI_1, nI_clamp (by omega), e2]; exact tz_un
  · exact ⟨e1, rfl, by rw [e3], e4, e5⟩
theorem tz_extendb {L : Nat → Nat} {S W Q : Nat → Int32} {z w : Nat} {v : SY} {y : Int32} {post : Int32 → SY → Prop} (g : ty_ok L S Q z) (h : tz_R L S W Q z v) (hw : w < 10) (hb : L w = 0 ∨ y < 0 ∨ nI 4 ≤ y ∨ ¬ L w < 6) (hp : post 0 v) : wpY_extend post v (nI w) y := by
  have hR := h
  obtain ⟨a, sz, wd, wt, qu, co⟩ := v
  obtain ⟨e1, e2, e3, e4, e5⟩ := h
  have ec : sz (nI w).toNatClampNeg = nI (L w) := by rw [nI_clamp (by omega), e2]
  have l6 := g.2.1 w
  unfold wpY_extend
  refine tz_is g hR hw (fun hl => br_f (by decide) (br_c (fun _ => hp) (fun p => br_c (fun _ => hp) (fun q => And.intro (vp_in_nI hw (by omega)) ?_)))) (fun h => br_t rfl hp)
  refine pk_lt (L w) 6 (fun r => ?_) (fun _ => hp) ec
  rcases hb with h | h | h | h
  · omega
  · exact absurd h p
  · exact absurd (ty_g3 h) q
  · exact absurd r h
theorem tz_extendx {v : SY} {x y : Int32} {post : Int32 → SY → Prop} (hx : x < 0 ∨ nI 10 ≤ x) (h0 : post 0 v) : wpY_extend post v x y := by
  obtain ⟨a, sz, wd, wt, qu, co⟩ := v
  unfold wpY_extend
  exact tz_isx hx (br_t rfl h0)
theorem tz_remove {L : Nat → Nat} {S W Q : Nat → Int32} {z w : Nat} {v : SY} {post : Int32 → SY → Prop} (g : ty_ok L S Q z) (h : tz_R L S W Q z v) (hw : w < 10) (hb : L w = 0 → post 0 v) (hp : 0 < L w → ∀ v', tz_R (ty_un L w 0) S W Q z v' → post 1 v') : wpY_remove post v (nI w) := by
  have hR := h
  obtain ⟨a, sz, wd, wt, qu, co⟩ := v
  obtain ⟨e1, e2, e3, e4, e5⟩ := h
  unfold wpY_remove
  refine tz_is g hR hw (fun hl => br_f (by decide) (And.intro (vp_in_nI hw (by omega)) (nm_r (e' := fun j => nI (ty_un L w 0 j)) ?_ (hp hl _ ?_)))) (fun hl => br_t rfl (hb hl))
  · rw [nI_clamp (by omega), e2]; exact tz_un
  · exact ⟨e1, rfl, e3, e4, e5⟩
theorem tz_removex {v : SY} {x : Int32} {post : Int32 → SY → Prop} (hx : x < 0 ∨ nI 10 ≤ x) (h0 : post 0 v) : wpY_remove post v x := by
  obtain ⟨a, sz, wd, wt, qu, co⟩ := v
  unfold wpY_remove
  exact tz_isx hx (br_t rfl h0)
theorem tz_weigh {L : Nat → Nat} {S W Q : Nat → Int32} {z e w : Nat} {v : SY} {post : Int32 → SY → Prop} (g : ty_ok L S Q z) (h : tz_R L S W Q z v) (he : e < 10) (hw : w < 10) (hl : 0 < L w) (hp : ∀ v', tz_R L S (upd W w (nI e)) Q z v' → post 1 v') : wpY_weigh post v (nI w) (nI e) := by
  have hR := h
  obtain ⟨a, sz, wd, wt, qu, co⟩ := v
  obtain ⟨e1, e2, e3, e4, e5⟩ := h
  unfold wpY_weigh
  refine tz_is g hR hw (fun hl => br_f (by decide) (br_f (nI_pos (by omega)) (br_t (ty_9 he) (And.intro (vp_in_nI hw (by omega)) (nm_r (e' := upd wt w (nI e)) ?_ (hp _ ?_)))))) (fun h => absurd h (by omega))
  · rw [nI_clamp (by omega)]
  · exact ⟨e1, e2, e3, by rw [e4], e5⟩
theorem tz_weighb {L : Nat → Nat} {S W Q : Nat → Int32} {z w : Nat} {v : SY} {y : Int32} {post : Int32 → SY → Prop} (g : ty_ok L S Q z) (h : tz_R L S W Q z v) (hw : w < 10) (hb : L w = 0 ∨ y < 0 ∨ nI 10 ≤ y) (hp : post 0 v) : wpY_weigh post v (nI w) y := by
  have hR := h
  obtain ⟨a, sz, wd, wt, qu, co⟩ := v
  unfold wpY_weigh
  refine tz_is g hR hw (fun hl => br_f (by decide) (br_c (fun _ => hp) (fun p => ?_))) (fun h => br_t rfl hp)
  rcases hb with h | h | h
  · omega
  · exact absurd h p
  · exact br_f (ty_n9 h) hp
theorem tz_weighx {v : SY} {x y : Int32} {post : Int32 → SY → Prop} (hx : x < 0 ∨ nI 10 ≤ x) (h0 : post 0 v) : wpY_weigh post v x y := by
  obtain ⟨a, sz, wd, wt, qu, co⟩ := v
  unfold wpY_weigh
  exact tz_isx hx (br_t rfl h0)
theorem tz_wo4 {L : Nat → Nat} {S W Q : Nat → Int32} {z : Nat} {a : Int32} {sz wd wt qu co : Nat → Int32} {post : Int32 → Prop} (g : ty_ok L S Q z) (h : tz_R L S W Q z (a, sz, wd, wt, qu, co)) (hp : post (ty_set (ty_hs L) 10)) :
    ∀ d w m : Nat, w + d = 10 → d < m → wY_words_4 post a sz wd wt qu co m (ty_set (ty_hs L) w) (nI w) := by
  intro d
  induction d with
  | zero =>
    intro w m hw hm
    obtain ⟨m, rfl⟩ : ∃ q, m = q + 1 := ⟨m - 1, by omega⟩
    have e : w = 10 := by omega
    subst e
    exact pk_le 10 10 (fun _ => hp) (fun h => absurd h (by omega))
  | succ d ih =>
    intro w m hw hm
    obtain ⟨m, rfl⟩ : ∃ q, m = q + 1 := ⟨m - 1, by omega⟩
    have nx := ih (w + 1) m (by omega) (by omega)
    refine pk_le 10 w (fun h => absurd h (by omega)) (fun _ => ?_)
    refine tz_is g h (by omega) (fun hl => ?_) (fun hl => ?_)
    · rw [ty_set, if_pos (by rw [ty_hs, decide_eq_true_eq]; exact hl)] at nx
      exact br_f (by decide) (nm_e (nm_r (nI_1 w) nx))
    · rw [ty_set, if_neg (by rw [ty_hs, decide_eq_true_eq]; omega)] at nx
      exact br_t rfl (nm_r (nI_1 w) nx)
theorem tz_words {L : Nat → Nat} {S W Q : Nat → Int32} {z : Nat} {v : SY} {post : Int32 → Prop} (g : ty_ok L S Q z) (h : tz_R L S W Q z v) (hp : post (ty_set (ty_hs L) 10)) : wpY_words post v := by
  obtain ⟨a, sz, wd, wt, qu, co⟩ := v
  unfold wpY_words
  exact ⟨11, tz_wo4 g h hp 10 0 11 (by omega) (by omega)⟩
end
section
/-! ===== what is owed ===== -/
/-- both sides mean the same words, weights and query -/
def i_Rel (_ : Nat) (u : SX) (v : SY) : Prop := ∃ (L : Nat → Nat) (S W Q : Nat → Int32) (z : Nat), ty_ok L S Q z ∧ tx_R L S W Q z u ∧ tz_R L S W Q z v
theorem i_up {k : Nat} {u : SX} {v : SY} (h : i_Rel k u v) : i_Rel (k + 3) u v := h
theorem i_vc0 : wpX_init (fun u => wpY_init (fun v => i_Rel 0 u v)) := by
  refine ⟨fun _ => 0, fun _ => 0, fun _ => 0, fun _ => 0, 0, ⟨by omega, fun _ => Nat.zero_le 6, fun _ => ⟨0, by omega, rfl⟩, fun _ => ⟨0, by omega, rfl⟩⟩, ⟨?_, rfl, rfl, rfl, rfl, fun w _ h => absurd h (Nat.lt_irrefl 0), Or.inl rfl⟩, ⟨rfl, rfl, rfl, rfl, rfl⟩⟩
  exact ((ty_sz (by omega)).mpr (fun w _ => rfl)).symm
theorem i_vc_begin {k : Nat} {u : SX} {v : SY} (I : i_Rel k u v) (hk : k + 3 ≤ 1536) (v1 : Int32) (v2 : Int32) : wpX_begin (fun r u' => wpY_begin (fun r' v' => r' = r ∧ i_Rel (k + 3) u' v') v v1 v2) u v1 v2 := by
  have I' := I
  obtain ⟨L, S, W, Q, z, g, hX, hY⟩ := I'
  refine tx_begin hX (fun hb => tz_beginx hb ⟨rfl, I⟩) (fun s e hs he e1 e2 hh => ?_) (fun s e w hs he e1 e2 hw h0 hh u' hX' => ?_)
  · subst e1 e2
    exact tz_beginf g hY hs he hh ⟨rfl, I⟩
  · subst e1 e2
    exact tz_begin g hY hs he hw h0 hh (fun v' hY' => ⟨rfl, _, _, _, _, _, ty_oks (ty_oku g (by omega)) hs, hX', hY'⟩)
theorem i_vc_extend {k : Nat} {u : SX} {v : SY} (I : i_Rel k u v) (hk : k + 3 ≤ 1536) (v1 : Int32) (v2 : Int32) : wpX_extend (fun r u' => wpY_extend (fun r' v' => r' = r ∧ i_Rel (k + 3) u' v') v v1 v2) u v1 v2 := by
  have I' := I
  obtain ⟨L, S, W, Q, z, g, hX, hY⟩ := I'
  rcases pk_ix v1 (n := 10) (by omega) with c | c | ⟨w, hw, e⟩
  · exact tx_extendx (Or.inl c) (tz_extendx (Or.inl c) ⟨rfl, I⟩)
  · exact tx_extendx (Or.inr c) (tz_extendx (Or.inr c) ⟨rfl, I⟩)
  · subst e
    refine tx_extend g hX hw (fun hb => tz_extendb g hY hw hb ⟨rfl, I⟩) (fun s hs e hl h6 u' hX' => ?_)
    subst e
    exact tz_extend g hY hs hw hl h6 (fun v' hY' => ⟨rfl, _, _, _, _, _, ty_oks (ty_oku g (by omega)) hs, hX', hY'⟩)
theorem i_vc_remove {k : Nat} {u : SX} {v : SY} (I : i_Rel k u v) (hk : k + 3 ≤ 1536) (v1 : Int32) : wpX_remove (fun r u' => wpY_remove (fun r' v' => r' = r ∧ i_Rel (k + 3) u' v') v v1) u v1 := by
  have I' := I
  obtain ⟨L, S, W, Q, z, g, hX, hY⟩ := I'
  rcases pk_ix v1 (n := 10) (by omega) with c | c | ⟨w, hw, e⟩
  · exact tx_removex (Or.inl c) (tz_removex (Or.inl c) ⟨rfl, I⟩)
  · exact tx_removex (Or.inr c) (tz_removex (Or.inr c) ⟨rfl, I⟩)
  · subst e
    refine tx_remove hX hw (fun h0 => tz_remove g hY hw (fun _ => ⟨rfl, I⟩) (fun h => absurd h (by omega))) (fun hl u' hX' => ?_)
    exact tz_remove g hY hw (fun h => absurd h (by omega)) (fun _ v' hY' => ⟨rfl, _, _, _, _, _, ty_oku g (by omega), hX', hY'⟩)
theorem i_vc_weigh {k : Nat} {u : SX} {v : SY} (I : i_Rel k u v) (hk : k + 3 ≤ 1536) (v1 : Int32) (v2 : Int32) : wpX_weigh (fun r u' => wpY_weigh (fun r' v' => r' = r ∧ i_Rel (k + 3) u' v') v v1 v2) u v1 v2 := by
  have I' := I
  obtain ⟨L, S, W, Q, z, g, hX, hY⟩ := I'
  rcases pk_ix v1 (n := 10) (by omega) with c | c | ⟨w, hw, e⟩
  · exact tx_weighx (Or.inl c) (tz_weighx (Or.inl c) ⟨rfl, I⟩)
  · exact tx_weighx (Or.inr c) (tz_weighx (Or.inr c) ⟨rfl, I⟩)
  · subst e
    refine tx_weigh hX hw (fun hb => tz_weighb g hY hw hb ⟨rfl, I⟩) (fun e he ey hl u' hX' => ?_)
    subst ey
    exact tz_weigh g hY he hw hl (fun v' hY' => ⟨rfl, _, _, _, _, _, g, hX', hY'⟩)
theorem i_vc_words {k : Nat} {u : SX} {v : SY} (I : i_Rel k u v) (hk : k + 3 ≤ 1536) : wpX_words (fun r => wpY_words (fun r' => r' = r ∧ i_Rel (k + 3) u v) v) u := by
  have I' := I
  obtain ⟨L, S, W, Q, z, g, hX, hY⟩ := I'
  obtain ⟨fp, fs, fn, fo, ft, fk, ff, le, we, sy, qu, hv, tc⟩ := u
  unfold wpX_words
  exact tz_words g hY ⟨hX.1.symm, I⟩
theorem i_vc_type {k : Nat} {u : SX} {v : SY} (I : i_Rel k u v) (hk : k + 3 ≤ 1536) (v1 : Int32) : wpX_type (fun r u' => wpY_type (fun r' v' => r' = r ∧ i_Rel (k + 3) u' v') v v1) u v1 := by
  have I' := I
  obtain ⟨L, S, W, Q, z, g, hX, hY⟩ := I'
  refine tx_type g hX (fun hb => tz_typex hb ⟨rfl, I⟩) (fun s hs e hz => ?_) (fun s hs e hz u' hK => ?_)
  · subst e
    exact tz_typef g hY hz hs ⟨rfl, I⟩
  · subst e
    exact tz_typeg g hY hz hs (fun v' hY' => ⟨rfl, _, _, _, _, _, ty_okt g hz hs, tx_KR hK, hY'⟩)
theorem i_vc_rub {k : Nat} {u : SX} {v : SY} (I : i_Rel k u v) (hk : k + 3 ≤ 1536) : wpX_rub (fun r u' => wpY_rub (fun r' v' => r' = r ∧ i_Rel (k + 3) u' v') v) u := by
  have I' := I
  obtain ⟨L, S, W, Q, z, g, hX, hY⟩ := I'
  refine tx_rub g hX (fun e => tz_rub g hY (fun _ => ⟨rfl, I⟩) (fun k hk => absurd hk (by omega))) (fun y hy u' hX' => ?_)
  refine tz_rub g hY (fun e => absurd e (by omega)) (fun y' hy' v' hY' => ?_)
  have q : y' = y := by omega
  subst q
  have h7 := g.1
  exact ⟨rfl, _, _, _, _, _, ty_okz g (by omega), hX', hY'⟩
theorem i_vc_typed {k : Nat} {u : SX} {v : SY} (I : i_Rel k u v) (hk : k + 3 ≤ 1536) : wpX_typed (fun r => wpY_typed (fun r' => r' = r ∧ i_Rel (k + 3) u v) v) u := by
  have I' := I
  obtain ⟨L, S, W, Q, z, g, hX, hY⟩ := I'
  obtain ⟨fp, fs, fn, fo, ft, fk, ff, le, we, sy, qu, hv, tc⟩ := u
  obtain ⟨a, sz, wd, wt, qu', co⟩ := v
  unfold wpX_typed wpY_typed
  exact ⟨hY.1.trans hX.2.1.symm, I⟩
theorem i_vc_typos {k : Nat} {u : SX} {v : SY} (I : i_Rel k u v) (hk : k + 3 ≤ 1536) (v1 : Int32) : wpX_typos (fun r u' => wpY_typos (fun r' v' => r' = r ∧ i_Rel (k + 3) u' v') v v1) u v1 := by
  have I' := I
  obtain ⟨L, S, W, Q, z, g, hX, hY⟩ := I'
  rcases pk_ix v1 (n := 10) (by omega) with c | c | ⟨w, hw, e⟩
  · exact tx_typosx (Or.inl c) (tz_typosx (Or.inl c) ⟨rfl, I⟩)
  · exact tx_typosx (Or.inr c) (tz_typosx (Or.inr c) ⟨rfl, I⟩)
  · subst e
    refine tx_typos g hX hw (fun h0 => tz_typos g hY hw (fun _ => ⟨rfl, I⟩) (fun h => absurd h (by omega))) (fun hl u' hK => ?_)
    exact tz_typos g hY hw (fun h => absurd h (by omega)) (fun _ v' hY' => ⟨rfl, _, _, _, _, _, g, tx_KR hK, hY'⟩)
theorem i_vc_found {k : Nat} {u : SX} {v : SY} (I : i_Rel k u v) (hk : k + 3 ≤ 1536) : wpX_found (fun r u' => wpY_found (fun r' v' => r' = r ∧ i_Rel (k + 3) u' v') v) u := by
  obtain ⟨L, S, W, Q, z, g, hX, hY⟩ := I
  exact tx_found g hX (fun u' hK => tz_found g hY (fun v' hY' => ⟨rfl, _, _, _, _, _, g, tx_KR hK, hY'⟩))
theorem i_vc_at {k : Nat} {u : SX} {v : SY} (I : i_Rel k u v) (hk : k + 3 ≤ 1536) (v1 : Int32) : wpX_at (fun r u' => wpY_at (fun r' v' => r' = r ∧ i_Rel (k + 3) u' v') v v1) u v1 := by
  obtain ⟨L, S, W, Q, z, g, hX, hY⟩ := I
  exact tx_at g hX (fun u' hK => tz_at g hY (fun v' hY' => ⟨rfl, _, _, _, _, _, g, tx_KR hK, hY'⟩))
theorem i_vc_place {k : Nat} {u : SX} {v : SY} (I : i_Rel k u v) (hk : k + 3 ≤ 1536) (v1 : Int32) : wpX_place (fun r u' => wpY_place (fun r' v' => r' = r ∧ i_Rel (k + 3) u' v') v v1) u v1 := by
  have I' := I
  obtain ⟨L, S, W, Q, z, g, hX, hY⟩ := I'
  rcases pk_ix v1 (n := 10) (by omega) with c | c | ⟨w, hw, e⟩
  · exact tx_placex (Or.inl c) (tz_placex (Or.inl c) ⟨rfl, I⟩)
  · exact tx_placex (Or.inr c) (tz_placex (Or.inr c) ⟨rfl, I⟩)
  · subst e
    refine tx_place g hX hw (fun f u' hX' => ?_) (fun f u' hK => ?_)
    · exact tz_place g hY hw (fun _ v' hY' => ⟨rfl, _, _, _, _, _, g, hX', hY'⟩) (fun f' => absurd (f.symm.trans f') (by decide))
    · exact tz_place g hY hw (fun f' => absurd (f.symm.trans f') (by decide)) (fun _ v' hY' => ⟨rfl, _, _, _, _, _, g, tx_KR hK, hY'⟩)
theorem i_vc_hints {k : Nat} {u : SX} {v : SY} (I : i_Rel k u v) (hk : k + 3 ≤ 1536) : wpX_hints (fun r u' => wpY_hints (fun r' v' => r' = r ∧ i_Rel (k + 3) u' v') v) u := by
  have I' := I
  obtain ⟨L, S, W, Q, z, g, hX, hY⟩ := I'
  refine tx_hints g hX (fun hz => tz_hintsf g hY hz ⟨rfl, I⟩) (fun hz u' g' hX' => ?_)
  exact tz_hints g hY hz (fun v' hY' => ⟨rfl, _, _, _, _, _, g', hX', hY'⟩)
theorem i_vc_common {k : Nat} {u : SX} {v : SY} (I : i_Rel k u v) (hk : k + 3 ≤ 1536) : wpX_common (fun r u' => wpY_common (fun r' v' => r' = r ∧ i_Rel (k + 3) u' v') v) u := by
  obtain ⟨L, S, W, Q, z, g, hX, hY⟩ := I
  refine tx_common g hX (fun a u' hK => ?_) (fun f n hf ff hn hG u' hK => ?_)
  · exact tz_common g hY (fun _ v' hY' => ⟨rfl, _, _, _, _, _, g, tx_KR hK, hY'⟩) (fun n b => absurd a b)
  · refine tz_common g hY (fun a => absurd ((a f hf).symm.trans ff) (by decide)) (fun n' _ hH v' hY' => ?_)
    exact ⟨congrArg nI (ty_GH g.2.1 hf ff hG hH), _, _, _, _, _, g, tx_KR hK, hY'⟩
end
