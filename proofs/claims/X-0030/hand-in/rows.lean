section
/-! pure rows to paste: stores, nI and lN arithmetic, masks, shifts, narrowing, branches by naturals (pk_le, pk_lt, pk_eq), loops (lp1 .. lp16: the measure of the state; rp1 ..: recursion), negatives. Take what you need -/
theorem pk_us {f : Nat → Int32} {k : Nat} {x : Int32} : upd f k x k = x := if_pos rfl
theorem pk_un {f : Nat → Int32} {k j : Nat} {x : Int32} (h : j ≠ k) : upd f k x j = f j := if_neg h
theorem pk_uLs {f : Nat → Int64} {k : Nat} {x : Int64} : vp_updL f k x k = x := if_pos rfl
theorem pk_uLn {f : Nat → Int64} {k j : Nat} {x : Int64} (h : j ≠ k) : vp_updL f k x j = f j := if_neg h
theorem pk_sub {a b : Nat} (h : b ≤ a) : nI a - nI b = nI (a - b) := by
  obtain ⟨c, rfl⟩ : ∃ c, a = c + b := ⟨a - b, by omega⟩
  rw [← nI_add, Int32.add_sub_cancel, Nat.add_sub_cancel]
theorem pk_m1 (n : Nat) : nI (n + 1) + (-1) = nI n := by
  rw [← nI_1, Int32.add_assoc, show (1 : Int32) + (-1) = 0 from rfl, Int32.add_zero]
theorem pk_mul (a b : Nat) : nI a * nI b = nI (a * b) := (Int32.ofNat_mul a b).symm
theorem pk_div {a d : Nat} (ha : a < 2 ^ 31) (h0 : 0 < d) (hd : d < 2 ^ 31) : nI a / nI d = nI (a / d) := by
  apply Int32.toInt_inj.mp
  rw [lg_idiv_nonneg (by rw [nI_toInt ha]; omega) (by rw [nI_toInt hd]; omega), nI_toInt ha, nI_toInt hd, nI_toInt (Nat.lt_of_le_of_lt (Nat.div_le_self a d) ha)]
  first | rfl | exact (Int.natCast_ediv _ _).symm
theorem pk_rem {a d : Nat} (ha : a < 2 ^ 31) (h0 : 0 < d) (hd : d < 2 ^ 31) : nI a - nI a / nI d * nI d = nI (a % d) := by
  rw [pk_div ha h0 hd, pk_mul, pk_sub (Nat.div_mul_le_self a d)]
  exact congrArg nI (by have := Nat.div_add_mod' a d; omega)
theorem pk_sub_toInt {a b : Nat} (ha : a < 2 ^ 30) (hb : b < 2 ^ 30) : (nI a - nI b).toInt = (a : Int) - b := by
  rw [Int32.toInt_sub, nI_toInt (by omega), nI_toInt (by omega)]
  exact Int.bmod_eq_of_le (by omega) (by omega)
theorem pk_sneg {a b : Nat} (hb : b < 2 ^ 30) (h : a < b) : nI a - nI b < 0 := by
  rw [Int32.lt_iff_toInt_lt, pk_sub_toInt (by omega) hb, show (0 : Int32).toInt = 0 from by decide]
  omega
theorem pk_ix (x : Int32) {n : Nat} (hn : n < 2 ^ 31) : x < 0 ∨ nI n ≤ x ∨ ∃ j : Nat, j < n ∧ x = nI j := by
  by_cases h : x < 0
  · exact Or.inl h
  · obtain ⟨j, hj, rfl⟩ := nI_of h
    by_cases h2 : j < n
    · exact Or.inr (Or.inr ⟨j, h2, rfl⟩)
    · exact Or.inr (Or.inl (nI_le (by omega) hj))
theorem pk_le {x y : Int32} {A B : Prop} (a b : Nat) (f : a ≤ b → A) (g : b < a → B) (hx : x = nI a := by rfl) (hy : y = nI b := by rfl) (ha : a < 2 ^ 31 := by omega) (hb : b < 2 ^ 31 := by omega) : (x ≤ y → A) ∧ (¬ x ≤ y → B) := by
  subst hx hy
  rw [nI_leI ha hb]
  exact ⟨f, fun z => g (by omega)⟩
theorem pk_lt {x y : Int32} {A B : Prop} (a b : Nat) (f : a < b → A) (g : b ≤ a → B) (hx : x = nI a := by rfl) (hy : y = nI b := by rfl) (ha : a < 2 ^ 31 := by omega) (hb : b < 2 ^ 31 := by omega) : (x < y → A) ∧ (¬ x < y → B) := by
  subst hx hy
  rw [nI_ltI ha hb]
  exact ⟨f, fun z => g (by omega)⟩
theorem pk_eq {x y : Int32} {A B : Prop} (a b : Nat) (f : a = b → A) (g : a ≠ b → B) (hx : x = nI a := by rfl) (hy : y = nI b := by rfl) (ha : a < 2 ^ 31 := by omega) (hb : b < 2 ^ 31 := by omega) : (x = y → A) ∧ (¬ x = y → B) := by
  subst hx hy
  rw [nI_eq ha hb]
  exact ⟨f, g⟩
theorem pk_in {x : Int32} (n N : Nat) (h : n < N) (hx : x = nI n := by rfl) (hN : N < 2 ^ 31 := by omega) : vp_in x N := by
  subst hx
  exact vp_in_nI h hN
theorem pk_cl {x : Int32} (n : Nat) (hx : x = nI n := by rfl) (h : n < 2 ^ 31 := by omega) : x.toNatClampNeg = n := by
  subst hx
  exact nI_clamp h
theorem pk_tn {n : Nat} (h : n < 2 ^ 32) : (nI n).toBitVec.toNat = n := Nat.mod_eq_of_lt h
theorem pk_and (x : Int32) {m : Int32} (k : Nat) (hm : m.toBitVec.toNat = 2 ^ k - 1) : x &&& m = nI (x.toBitVec.toNat % 2 ^ k) := by
  apply Int32.toBitVec_inj.mp
  apply BitVec.eq_of_toNat_eq
  rw [Int32.toBitVec_and, BitVec.toNat_and, hm, Nat.and_two_pow_sub_one_eq_mod]
  show _ = (BitVec.ofNat 32 _).toNat
  rw [BitVec.toNat_ofNat]
  exact (Nat.mod_eq_of_lt (Nat.lt_of_le_of_lt (Nat.mod_le _ _) x.toBitVec.isLt)).symm
theorem pk_andN {n : Nat} (h : n < 2 ^ 32) {m : Int32} (k : Nat) (hm : m.toBitVec.toNat = 2 ^ k - 1) : nI n &&& m = nI (n % 2 ^ k) := by
  rw [pk_and _ k hm, pk_tn h]
theorem pk_andE (x : Int32) {m : Int32} (k : Nat) (hm : m.toBitVec.toNat = 2 ^ k - 1) : ∃ j : Nat, j < 2 ^ k ∧ x &&& m = nI j := ⟨_, Nat.mod_lt _ (Nat.two_pow_pos k), pk_and x k hm⟩
theorem pk_andIn (x : Int32) {m : Int32} (k : Nat) (hm : m.toBitVec.toNat = 2 ^ k - 1) (hk : k ≤ 30) : vp_in (x &&& m) (2 ^ k) := by
  obtain ⟨j, hj, e⟩ := pk_andE x k hm
  rw [e]
  exact vp_in_nI hj (Nat.lt_of_le_of_lt (Nat.pow_le_pow_right (by decide) hk) (by decide))
theorem pk_shl (a s : Int32) (k : Nat) (hs : (s.toBitVec.smod 32).toNat = k) : (a <<< s).toBitVec.toNat = a.toBitVec.toNat * 2 ^ k % 2 ^ 32 := by
  show (a.toBitVec <<< (s.toBitVec.smod 32).toNat).toNat = _
  rw [hs, BitVec.toNat_shiftLeft, Nat.shiftLeft_eq]
theorem pk_shlN {n : Nat} (s : Int32) (k : Nat) (hs : (s.toBitVec.smod 32).toNat = k) (h : n * 2 ^ k < 2 ^ 32) : nI n <<< s = nI (n * 2 ^ k) := by
  apply Int32.toBitVec_inj.mp
  apply BitVec.eq_of_toNat_eq
  have hn : n < 2 ^ 32 := Nat.lt_of_le_of_lt (Nat.le_mul_of_pos_right n (Nat.two_pow_pos k)) h
  rw [pk_shl _ _ k hs, pk_tn hn, pk_tn h, Nat.mod_eq_of_lt h]
theorem pk_shr (a s : Int32) (k : Nat) (hs : (s.toBitVec.smod 32).toNat = k) : (a >>> s).toInt = a.toInt >>> k := by
  show (a.toBitVec.sshiftRight (s.toBitVec.smod 32).toNat).toInt = _
  rw [hs, BitVec.toInt_sshiftRight]
  rfl
theorem pk_shrN {n : Nat} (h : n < 2 ^ 31) (s : Int32) (k : Nat) (hs : (s.toBitVec.smod 32).toNat = k) : nI n >>> s = nI (n / 2 ^ k) := by
  apply Int32.toInt_inj.mp
  have h2 : n / 2 ^ k ≤ n := Nat.div_le_self _ _
  rw [pk_shr _ _ k hs, nI_toInt h, nI_toInt (by omega), Int.shiftRight_eq_div_pow]
  rfl
theorem pk_ushr (x s : Int32) (k : Nat) (hs : ((s.toUInt32 &&& Int32.toUInt32 31).toBitVec % 32).toNat = k) : (x.toUInt32 >>> (s.toUInt32 &&& Int32.toUInt32 31)).toInt32.toBitVec.toNat = x.toBitVec.toNat / 2 ^ k := by
  have e : (x.toUInt32 >>> (s.toUInt32 &&& Int32.toUInt32 31)).toInt32.toBitVec = x.toBitVec >>> k := by
    rw [← hs]
    exact UInt32.toBitVec_shiftRight _ _
  rw [e, BitVec.toNat_ushiftRight, Nat.shiftRight_eq_div_pow]
theorem pk_ushrN {n : Nat} (hn : n < 2 ^ 32) (s : Int32) (k : Nat) (hs : ((s.toUInt32 &&& Int32.toUInt32 31).toBitVec % 32).toNat = k) : ((nI n).toUInt32 >>> (s.toUInt32 &&& Int32.toUInt32 31)).toInt32 = nI (n / 2 ^ k) := by
  apply Int32.toBitVec_inj.mp
  apply BitVec.eq_of_toNat_eq
  rw [pk_ushr _ s k hs, pk_tn hn, pk_tn (Nat.lt_of_le_of_lt (Nat.div_le_self _ _) hn)]
/-! ===== Int32 by its bits: bt x i ===== -/
def bt (x : Int32) (i : Nat) : Bool := x.toBitVec.getLsbD i
theorem b_ext {x y : Int32} (h : ∀ i, i < 32 → bt x i = bt y i) : x = y := Int32.toBitVec_inj.mp (BitVec.eq_of_getLsbD_eq (fun i hi => h i hi))
theorem b_or (x y : Int32) (i : Nat) : bt (x ||| y) i = (bt x i || bt y i) := by unfold bt; rw [Int32.toBitVec_or, BitVec.getLsbD_or]
theorem b_and (x y : Int32) (i : Nat) : bt (x &&& y) i = (bt x i && bt y i) := by unfold bt; rw [Int32.toBitVec_and, BitVec.getLsbD_and]
theorem b_xor (x y : Int32) (i : Nat) : bt (x ^^^ y) i = (bt x i ^^ bt y i) := by unfold bt; rw [Int32.toBitVec_xor, BitVec.getLsbD_xor]
theorem b_big {x : Int32} {i : Nat} (h : 32 ≤ i) : bt x i = false := BitVec.getLsbD_of_ge _ _ h
theorem b_255 (i : Nat) : bt 255 i = decide (i < 8) := by
  rcases Nat.lt_or_ge i 32 with h | h
  · exact (by decide +kernel : ∀ i, i < 32 → bt 255 i = decide (i < 8)) i h
  · rw [b_big h, decide_eq_false (by omega)]
theorem b_65535 (i : Nat) : bt 65535 i = decide (i < 16) := by
  rcases Nat.lt_or_ge i 32 with h | h
  · exact (by decide +kernel : ∀ i, i < 32 → bt 65535 i = decide (i < 16)) i h
  · rw [b_big h, decide_eq_false (by omega)]
theorem b_m1 : ∀ i, i < 32 → bt (-1) i = true := by decide +kernel
theorem b_0 (i : Nat) : bt 0 i = false := BitVec.getLsbD_zero
theorem s_l : ∀ n, n < 32 → ((nI n &&& 31).toBitVec.smod 32).toNat = n := by decide +kernel
theorem s_u : ∀ n, n < 32 → (((nI n).toUInt32 &&& Int32.toUInt32 31).toBitVec % 32).toNat = n := by decide +kernel
theorem b_shl (n : Nat) (hn : n < 32) (x : Int32) {i : Nat} (hi : i < 32) : bt (x <<< (nI n &&& 31)) i = (decide (n ≤ i) && bt x (i - n)) := by
  unfold bt
  rw [Int32.toBitVec_shiftLeft]
  show (x.toBitVec <<< ((nI n &&& 31).toBitVec.smod 32).toNat).getLsbD i = _
  rw [s_l n hn, BitVec.getLsbD_shiftLeft]
  rcases Nat.lt_or_ge i n with h | h
  · simp [h, Nat.not_le.mpr h]
  · simp [hi, h, Nat.not_lt.mpr h]
theorem b_ushr (n : Nat) (hn : n < 32) (x : Int32) (i : Nat) : bt ((x.toUInt32 >>> ((nI n).toUInt32 &&& Int32.toUInt32 31)).toInt32) i = bt x (n + i) := by
  show (x.toUInt32 >>> ((nI n).toUInt32 &&& Int32.toUInt32 31)).toBitVec.getLsbD i = x.toUInt32.toBitVec.getLsbD (n + i)
  rw [UInt32.toBitVec_shiftRight]
  show (x.toUInt32.toBitVec >>> (((nI n).toUInt32 &&& Int32.toUInt32 31).toBitVec % 32).toNat).getLsbD i = _
  rw [s_u n hn, BitVec.getLsbD_ushiftRight]
theorem b_sshr (n : Nat) (hn : n < 32) (x : Int32) {i : Nat} (hi : i < 32) : bt (x >>> (nI n &&& 31)) i = if n + i < 32 then bt x (n + i) else bt x 31 := by
  unfold bt
  rw [Int32.toBitVec_shiftRight]
  show (x.toBitVec.sshiftRight ((nI n &&& 31).toBitVec.smod 32).toNat).getLsbD i = _
  rw [s_l n hn, BitVec.getLsbD_sshiftRight, BitVec.msb_eq_getLsbD_last]
  simp [hi]
theorem b_shl8 (x : Int32) {i : Nat} (hi : i < 32) : bt (x <<< ((8 : Int32) &&& 31)) i = (decide (8 ≤ i) && bt x (i - 8)) := b_shl 8 (by omega) x hi
theorem b_shl16 (x : Int32) {i : Nat} (hi : i < 32) : bt (x <<< ((16 : Int32) &&& 31)) i = (decide (16 ≤ i) && bt x (i - 16)) := b_shl 16 (by omega) x hi
theorem b_shl24 (x : Int32) {i : Nat} (hi : i < 32) : bt (x <<< ((24 : Int32) &&& 31)) i = (decide (24 ≤ i) && bt x (i - 24)) := b_shl 24 (by omega) x hi
theorem b_sshr8 (x : Int32) {i : Nat} (hi : i < 32) : bt (x >>> ((8 : Int32) &&& 31)) i = if 8 + i < 32 then bt x (8 + i) else bt x 31 := b_sshr 8 (by omega) x hi
end
section
/-! numbers, bits, stores -/
theorem zr_ne1 {a : Nat} (h : a < 2 ^ 31) : ¬ nI a = -1 := by
  intro e
  have := nI_pos (n := a) h
  rw [e] at this
  exact this (by decide)
theorem zr_im {a b : Nat} (h : nI a = nI b) (ha : a < 2 ^ 31) (hb : b < 2 ^ 31) : a = b := (nI_eq ha hb).mp h
theorem zr_vb0 : vp_nar .boolean 0 = 0 := by decide
theorem zr_vb1 : vp_nar .boolean 1 = 1 := by decide
theorem zr_8 (a b : Nat) : nI a * 8 + nI b = nI (a * 8 + b) := by
  show nI a * nI 8 + nI b = _
  rw [pk_mul, nI_add]
theorem zr_24 (a b : Nat) : nI a * 24 + nI b = nI (a * 24 + b) := by
  show nI a * nI 24 + nI b = _
  rw [pk_mul, nI_add]
theorem zr_5 (a b : Nat) : nI a * 5 + nI b = nI (a * 5 + b) := by
  show nI a * nI 5 + nI b = _
  rw [pk_mul, nI_add]
theorem zr_b1 : ∀ i, i < 32 → bt 1 i = decide (i = 0) := by decide +kernel
theorem zr_and1 (y : Int32) : (y &&& 1) = 0 ↔ bt y 0 = false := by
  constructor
  · intro h
    have e : bt (y &&& 1) 0 = bt 0 0 := by rw [h]
    rw [b_and, zr_b1 0 (by omega), b_0] at e
    simpa using e
  · intro h
    apply b_ext
    intro i hi
    rw [b_and, zr_b1 i hi, b_0]
    by_cases z : i = 0
    · subst z; rw [h]; rfl
    · rw [decide_eq_false z, Bool.and_false]
theorem zr_bit (x : Int32) {n : Nat} (hn : n < 32) : ((x >>> (nI n &&& 31)) &&& 1) = 0 ↔ ¬ bt x n = true := by
  rw [zr_and1, b_sshr n hn x (by omega), Nat.add_zero, if_pos hn]
  cases bt x n <;> simp
theorem zr_sl {n i : Nat} (hn : n < 32) (hi : i < 32) : bt ((1 : Int32) <<< (nI n &&& 31)) i = true ↔ i = n := by
  rw [b_shl n hn 1 hi, zr_b1 (i - n) (by omega)]
  simp only [Bool.and_eq_true, decide_eq_true_eq]
  omega
theorem zr_or {x y : Int32} {i : Nat} : bt (x ||| y) i = true ↔ (bt x i = true ∨ bt y i = true) := by
  rw [b_or, Bool.or_eq_true]
theorem zr_and {x y : Int32} {i : Nat} : bt (x &&& y) i = true ↔ (bt x i = true ∧ bt y i = true) := by
  rw [b_and, Bool.and_eq_true]
theorem zr_not {x : Int32} {i : Nat} (hi : i < 32) : bt (x ^^^ (-1)) i = true ↔ ¬ bt x i = true := by
  rw [b_xor, b_m1 i hi]
  cases bt x i <;> simp
theorem zr_0 {i : Nat} : ¬ bt 0 i = true := by rw [b_0]; simp
theorem zr_bx {x y : Int32} (h : ∀ i, i < 32 → (bt x i = true ↔ bt y i = true)) : x = y := by
  apply b_ext
  intro i hi
  have := h i hi
  cases hx : bt x i <;> cases hy : bt y i <;> simp_all
theorem zr_z {x : Int32} (h : ∀ i, i < 32 → ¬ bt x i = true) : x = 0 := zr_bx (fun i hi => ⟨fun z => absurd z (h i hi), fun z => absurd z zr_0⟩)
theorem zr_addor {x : Int32} {n : Nat} (hn : n < 32) (h : ¬ bt x n = true) : x + ((1 : Int32) <<< (nI n &&& 31)) = x ||| ((1 : Int32) <<< (nI n &&& 31)) := by
  have e : x &&& ((1 : Int32) <<< (nI n &&& 31)) = 0 := by
    apply zr_z
    intro i hi z
    rw [zr_and, zr_sl hn hi] at z
    exact h (z.2 ▸ z.1)
  generalize ((1 : Int32) <<< (nI n &&& 31)) = y at e ⊢
  apply Int32.toBitVec_inj.mp
  rw [Int32.toBitVec_add, Int32.toBitVec_or]
  apply BitVec.add_eq_or_of_and_eq_zero
  have := congrArg Int32.toBitVec e
  rw [Int32.toBitVec_and] at this
  exact this
theorem zr_s {f : Nat → Int32} {k j : Nat} {x : Int32} (h : j = k) : upd f k x j = x := if_pos h
theorem zr_n {f : Nat → Int32} {k j : Nat} {x : Int32} (h : j ≠ k) : upd f k x j = f j := if_neg h
theorem zr_id {f : Nat → Int32} {k : Nat} {x : Int32} (h : f k = x) : upd f k x = f := by
  funext j
  by_cases e : j = k
  · rw [zr_s e, e, h]
  · rw [zr_n e]
theorem zr_lt {a b : Int32} (h : ¬ a ≤ b) : b < a := Int32.not_le.mp h
theorem zr_lin {a b c : Int32} (h : a < b) (g : b < c) : a < c := Int32.lt_trans h g
theorem zr_irr {a : Int32} (h : a < a) : False := Int32.lt_irrefl h
end
section
/-! the relation: groups of facts -/
def zr_sz (R K L S : Nat) : Prop := 3 ≤ R ∧ R ≤ 5 ∧ 1 ≤ K ∧ K ≤ 8 ∧ 8 ≤ L ∧ L ≤ 24 ∧ S ≤ L
/-- the bit set x holds the places below R where f is 0 -/
def zr_bs (R : Nat) (x : Int32) (f : Nat → Int32) : Prop := ∀ i, i < 32 → (bt x i = true ↔ (i < R ∧ f i = 0))
def zr_sub (R : Nat) (cr re : Nat → Int32) : Prop := ∀ i, i < R → (cr i = 0 ∨ cr i = 1) ∧ (cr i = 0 → re i = 0)
/-- stamp of an update or of none -/
def zr_st (sp : Nat → Int32) (x : Int32) : Int32 := if x = -1 then 0 else sp x.toNatClampNeg
def zr_gb (g : Nat → Nat) (x : Int32) : Nat := if x = -1 then 0 else g x.toNatClampNeg
/-- one update: ve, wr, ch are version, writer, chain -/
def zr_u1 (R K : Nat) (ky sr bs sp cs : Nat → Int32) (ve wr ch : Nat → Nat) (u : Nat) : Prop :=
  (∃ k, k < K ∧ ky u = nI k) ∧ (bs u = -1 ∨ ∃ j, j < u ∧ bs u = nI j) ∧
  ∃ r, r < R ∧ sr u = nI r ∧
    ((cs u = 0 ∧ ve u = zr_gb ve (bs u) + 1 ∧ wr u = r ∧ ch u = 0 ∧ sp u = nI (ve u * 2048 + wr u * 256)) ∨
     (cs u = 1 ∧ ve u = zr_gb ve (bs u) ∧ wr u = zr_gb wr (bs u) ∧ ch u = zr_gb ch (bs u) + 1 ∧ sp u = nI (ve u * 2048 + wr u * 256 + ch u * 8 + r))) ∧
    ve u ≤ u + 1 ∧ wr u ≤ 4 ∧ ch u ≤ u + 1
def zr_ut (R K S : Nat) (ky sr bs sp cs : Nat → Int32) : Prop := ∃ ve wr ch : Nat → Nat, ∀ u, u < S → zr_u1 R K ky sr bs sp cs ve wr ch u
def zr_uq (S : Nat) (ky sp : Nat → Int32) : Prop := ∀ u w, u < S → w < S → ky u = ky w → sp u = sp w → u = w
/-- b is the one of greatest stamp with P, or none -/
def zr_best (S : Nat) (sp : Nat → Int32) (P : Nat → Prop) (b : Int32) : Prop :=
  (b = -1 ∧ ∀ u, u < S → ¬ P u) ∨ ∃ j, j < S ∧ b = nI j ∧ P j ∧ ∀ u, u < S → P u → u = j ∨ sp u < sp j
def zr_lat (K S : Nat) (ky sp se la : Nat → Int32) : Prop := ∀ k, k < K → zr_best S sp (fun u => ky u = nI k ∧ se u ≠ 0) (la k)
def zr_hol (R K S : Nat) (ky sp go ho : Nat → Int32) : Prop := ∀ r k, r < R → k < K → zr_best S sp (fun u => ky u = nI k ∧ go (r * 24 + u) ≠ 0) (ho (r * 8 + k))
def zr_kno (R K S : Nat) (ho kw kn : Nat → Int32) : Prop := ∀ r k, r < R → k < K →
  (ho (r * 8 + k) = -1 → kn (r * 8 + k) ≠ 0) ∧ (∀ j, j < S → ho (r * 8 + k) = nI j → (kn (r * 8 + k) = 0 ↔ kw (r * 24 + j) = 0))
def zr_kw (R S : Nat) (go se kw : Nat → Int32) : Prop := ∀ r u, r < R → u < S → kw (r * 24 + u) ≠ 0 → go (r * 24 + u) ≠ 0 ∧ se u ≠ 0
def zr_g1 (S : Nat) (ky yg : Nat → Int32) (r k : Nat) (g : Int32) : Prop :=
  (g = -1 ∧ ∀ u, u < S → ky u = nI k → yg (r * 24 + u) = 0) ∨
  ∃ j, j < S ∧ g = nI j ∧ ky j = nI k ∧ yg (r * 24 + j) ≠ 0 ∧ ∀ u, u < S → ky u = nI k → yg (r * 24 + u) ≠ 0 → u = j
def zr_gat (R K S : Nat) (ky yg ga : Nat → Int32) : Prop := ∀ r k, r < R → k < K → zr_g1 S ky yg r k (ga (r * 8 + k))
def zr_gse (R K S : Nat) (ga iz gs : Nat → Int32) : Prop := ∀ r k, r < R → k < K →
  (ga (r * 8 + k) = -1 → gs (r * 8 + k) = 0) ∧
  ∀ j, j < S → ga (r * 8 + k) = nI j → ∀ i, i < 32 → (bt (gs (r * 8 + k)) i = true ↔ (i < R ∧ iz ((r * 24 + j) * 5 + i) ≠ 0))
def zr_wir (R S : Nat) (ms wi : Nat → Int32) : Prop := ∀ c a b, c < 3 → a < R → b < R → ∀ i, i < 32 →
  (bt (wi ((c * 5 + a) * 5 + b)) i = true ↔ (i < S ∧ ms (((c * 24 + i) * 5 + a) * 5 + b) ≠ 0))
def zr_msg (R S : Nat) (cr se ms : Nat → Int32) : Prop := ∀ c a b u, c < 3 → a < R → b < R → u < 24 →
  (ms (((c * 24 + u) * 5 + a) * 5 + b) = 0 ∨ (ms (((c * 24 + u) * 5 + a) * 5 + b) = 1 ∧ u < S ∧ cr b = 0 ∧ (c = 2 → se u ≠ 0)))
def zr_new (R S : Nat) (se go kw yg : Nat → Int32) : Prop := ∀ u, S ≤ u → u < 24 → se u = 0 ∧ ∀ r, r < R → go (r * 24 + u) = 0 ∧ kw (r * 24 + u) = 0 ∧ yg (r * 24 + u) = 0
def zr_own (R S : Nat) (sr cr go : Nat → Int32) : Prop := ∀ u r, u < S → r < R → sr u = nI r → cr r = 0 → go (r * 24 + u) ≠ 0
def zr_yup (R S : Nat) (cr yg : Nat → Int32) : Prop := ∀ r u, r < R → u < S → yg (r * 24 + u) ≠ 0 → cr r = 0
def zr_ans (R S : Nat) (sr cs an cr yg : Nat → Int32) : Prop := ∀ u r, u < S → r < R → sr u = nI r →
  (an u = 0 ∨ an u = 1 ∨ (an u = 2 ∧ cs u ≠ 0) ∨ (an u = 3 ∧ cr r ≠ 0)) ∧ (yg (r * 24 + u) ≠ 0 → cs u ≠ 0 → an u = 0)
def zr_an3 (R K S : Nat) (ky sr cs an cr ho kw : Nat → Int32) : Prop := ∀ u r k, u < S → r < R → k < K → sr u = nI r → ky u = nI k → cr r = 0 → cs u ≠ 0 →
  ho (r * 8 + k) = nI u → kw (r * 24 + u) = 0 → an u = 0
section
variable {R K L S : Nat} {vw mb up : Int32} {ky sr vl bs sp an cs se la ho kn ga gs wi cr re go kw yg iz ms : Nat → Int32}
def zr_inv (R K L S : Nat) (vw mb up : Int32) (ky sr vl bs sp an cs se la ho kn ga gs wi cr re go kw yg iz ms : Nat → Int32) : Prop :=
  zr_sz R K L S ∧ zr_bs R up cr ∧ zr_bs R mb re ∧ zr_sub R cr re ∧ zr_ut R K S ky sr bs sp cs ∧ zr_uq S ky sp ∧
  zr_lat K S ky sp se la ∧ zr_hol R K S ky sp go ho ∧ zr_kno R K S ho kw kn ∧ zr_kw R S go se kw ∧
  zr_gat R K S ky yg ga ∧ zr_gse R K S ga iz gs ∧ zr_wir R S ms wi ∧ zr_msg R S cr se ms ∧ zr_new R S se go kw yg ∧
  zr_own R S sr cr go ∧ zr_yup R S cr yg ∧ zr_ans R S sr cs an cr yg ∧ zr_an3 R K S ky sr cs an cr ho kw
def zr_rl (R K L S : Nat) (vw mb up : Int32) (cr re : Nat → Int32) (u : SX) (v : SY) : Prop :=
  ∃ ky sr vl bs sp an cs se la ho kn ga gs wi go kw yg iz ms : Nat → Int32, u = (nI R, nI K, nI L, nI S, vw, mb, up, ky, sr, vl, bs, sp, an, cs, se, la, ho, kn, ga, gs, wi) ∧ v = (nI R, nI K, nI L, nI S, vw, ky, sr, vl, bs, an, cs, se, cr, re, go, kw, yg, iz, ms) ∧ zr_inv R K L S vw mb up ky sr vl bs sp an cs se la ho kn ga gs wi cr re go kw yg iz ms
theorem zr_in (I : zr_inv R K L S vw mb up ky sr vl bs sp an cs se la ho kn ga gs wi cr re go kw yg iz ms) : zr_rl R K L S vw mb up cr re (nI R, nI K, nI L, nI S, vw, mb, up, ky, sr, vl, bs, sp, an, cs, se, la, ho, kn, ga, gs, wi) (nI R, nI K, nI L, nI S, vw, ky, sr, vl, bs, an, cs, se, cr, re, go, kw, yg, iz, ms) :=
  ⟨ky, sr, vl, bs, sp, an, cs, se, la, ho, kn, ga, gs, wi, go, kw, yg, iz, ms, rfl, rfl, I⟩
theorem zr_el {P : SX → SY → Prop} {u : SX} {v : SY} (I : zr_rl R K L S vw mb up cr re u v)
    (h : ∀ ky sr vl bs sp an cs se la ho kn ga gs wi go kw yg iz ms : Nat → Int32, zr_inv R K L S vw mb up ky sr vl bs sp an cs se la ho kn ga gs wi cr re go kw yg iz ms → P (nI R, nI K, nI L, nI S, vw, mb, up, ky, sr, vl, bs, sp, an, cs, se, la, ho, kn, ga, gs, wi) (nI R, nI K, nI L, nI S, vw, ky, sr, vl, bs, an, cs, se, cr, re, go, kw, yg, iz, ms)) : P u v :=
  Exists.elim I fun ky I => Exists.elim I fun sr I => Exists.elim I fun vl I => Exists.elim I fun bs I => Exists.elim I fun sp I => Exists.elim I fun an I =>
  Exists.elim I fun cs I => Exists.elim I fun se I => Exists.elim I fun la I => Exists.elim I fun ho I => Exists.elim I fun kn I => Exists.elim I fun ga I =>
  Exists.elim I fun gs I => Exists.elim I fun wi I => Exists.elim I fun go I => Exists.elim I fun kw I => Exists.elim I fun yg I => Exists.elim I fun iz I =>
  Exists.elim I fun ms I => by
    rw [I.1, I.2.1]
    exact h ky sr vl bs sp an cs se la ho kn ga gs wi go kw yg iz ms I.2.2
/-- one outcome for both sides -/
def zr_ou (R K L S : Nat) (vw mb up : Int32) (cr re : Nat → Int32) (vy : Int32) (pX : (SX → Prop) → Prop) (pY : (SY → Prop) → Prop) : Prop :=
  ∃ ky sr vl bs sp an cs se la ho kn ga gs wi go kw yg iz ms : Nat → Int32, zr_inv R K L S vw mb up ky sr vl bs sp an cs se la ho kn ga gs wi cr re go kw yg iz ms ∧ (∀ post : SX → Prop, post (nI R, nI K, nI L, nI S, vw, mb, up, ky, sr, vl, bs, sp, an, cs, se, la, ho, kn, ga, gs, wi) → pX post) ∧ (∀ post : SY → Prop, post (nI R, nI K, nI L, nI S, vy, ky, sr, vl, bs, an, cs, se, cr, re, go, kw, yg, iz, ms) → pY post)
theorem zr_ou_in {vy : Int32} {pX : (SX → Prop) → Prop} {pY : (SY → Prop) → Prop} (I : zr_inv R K L S vw mb up ky sr vl bs sp an cs se la ho kn ga gs wi cr re go kw yg iz ms) (hX : ∀ post : SX → Prop, post (nI R, nI K, nI L, nI S, vw, mb, up, ky, sr, vl, bs, sp, an, cs, se, la, ho, kn, ga, gs, wi) → pX post) (hY : ∀ post : SY → Prop, post (nI R, nI K, nI L, nI S, vy, ky, sr, vl, bs, an, cs, se, cr, re, go, kw, yg, iz, ms) → pY post) : zr_ou R K L S vw mb up cr re vy pX pY :=
  ⟨ky, sr, vl, bs, sp, an, cs, se, la, ho, kn, ga, gs, wi, go, kw, yg, iz, ms, I, hX, hY⟩
end
/-- one outcome with an answer -/
def zr_ouq (Q : SX → SY → Prop) (pX : (Int32 → SX → Prop) → Prop) (pY : (Int32 → SY → Prop) → Prop) : Prop :=
  ∃ r u v, Q u v ∧ (∀ post, post r u → pX post) ∧ (∀ post, post r v → pY post)
def zr_all (u : SX) (v : SY) : Prop := ∃ (R K L S : Nat) (vw mb up : Int32) (cr re : Nat → Int32), zr_rl R K L S vw mb up cr re u v
def i_Rel (_ : Nat) (u : SX) (v : SY) : Prop := zr_all u v
theorem i_up {k : Nat} {u : SX} {v : SY} (h : i_Rel k u v) : i_Rel (k + 5) u v := h
end
section
/-! X's readers, and Y's ranges -/
section
variable {R K L S : Nat} {vw mb up : Int32} {ky sr vl bs sp an cs se la ho kn ga gs wi cr re go kw yg iz ms : Nat → Int32}
theorem zx_up1 {r : Nat} (hr : r < R) (hR : R ≤ 5) (hu : zr_bs R up cr) (hc : cr r = 0) {post : Int32 → Prop} (h : post 1) : wpX_isUp post (nI R, nI K, nI L, nI S, vw, mb, up, ky, sr, vl, bs, sp, an, cs, se, la, ho, kn, ga, gs, wi) (nI r) :=
  br_f (fun z => (zr_bit up (n := r) (by omega)).mp z ((hu r (by omega)).mpr ⟨hr, hc⟩)) h
theorem zx_up0 {r : Nat} (hr : r < R) (hR : R ≤ 5) (hu : zr_bs R up cr) (hc : ¬ cr r = 0) {post : Int32 → Prop} (h : post 0) : wpX_isUp post (nI R, nI K, nI L, nI S, vw, mb, up, ky, sr, vl, bs, sp, an, cs, se, la, ho, kn, ga, gs, wi) (nI r) :=
  br_t ((zr_bit up (n := r) (by omega)).mpr (fun z => hc ((hu r (by omega)).mp z).2)) h
theorem zx_rep1 {r : Nat} (hr : r < R) (hR : R ≤ 5) {post : Int32 → Prop} (h : post 1) : wpX_isReplica post (nI R, nI K, nI L, nI S, vw, mb, up, ky, sr, vl, bs, sp, an, cs, se, la, ho, kn, ga, gs, wi) (nI r) :=
  br_f (nI_pos (by omega)) (br_f (nI_ge hr (by omega)) h)
theorem zx_rep0 {v : Int32} (hv : v < 0 ∨ nI R ≤ v) {post : Int32 → Prop} (h : post 0) : wpX_isReplica post (nI R, nI K, nI L, nI S, vw, mb, up, ky, sr, vl, bs, sp, an, cs, se, la, ho, kn, ga, gs, wi) v :=
  br_c (fun _ => h) (fun z => br_t (hv.resolve_left z) h)
theorem zx_key1 {k : Nat} (hk : k < K) (hK : K ≤ 8) {post : Int32 → Prop} (h : post 1) : wpX_isKey post (nI R, nI K, nI L, nI S, vw, mb, up, ky, sr, vl, bs, sp, an, cs, se, la, ho, kn, ga, gs, wi) (nI k) :=
  br_f (nI_pos (by omega)) (br_f (nI_ge hk (by omega)) h)
theorem zx_key0 {v : Int32} (hv : v < 0 ∨ nI K ≤ v) {post : Int32 → Prop} (h : post 0) : wpX_isKey post (nI R, nI K, nI L, nI S, vw, mb, up, ky, sr, vl, bs, sp, an, cs, se, la, ho, kn, ga, gs, wi) v :=
  br_c (fun _ => h) (fun z => br_t (hv.resolve_left z) h)
theorem zx_upd1 {u : Nat} (hu : u < S) (hS : S ≤ 24) {post : Int32 → Prop} (h : post 1) : wpX_isUpdate post (nI R, nI K, nI L, nI S, vw, mb, up, ky, sr, vl, bs, sp, an, cs, se, la, ho, kn, ga, gs, wi) (nI u) :=
  br_f (nI_pos (by omega)) (br_f (nI_ge hu (by omega)) h)
theorem zx_upd0 {v : Int32} (hv : v < 0 ∨ nI S ≤ v) {post : Int32 → Prop} (h : post 0) : wpX_isUpdate post (nI R, nI K, nI L, nI S, vw, mb, up, ky, sr, vl, bs, sp, an, cs, se, la, ho, kn, ga, gs, wi) v :=
  br_c (fun _ => h) (fun z => br_t (hv.resolve_left z) h)
theorem zx_kind1 {c : Nat} (hc : c < 3) {post : Int32 → Prop} (h : post 1) : wpX_isKind post (nI R, nI K, nI L, nI S, vw, mb, up, ky, sr, vl, bs, sp, an, cs, se, la, ho, kn, ga, gs, wi) (nI c) :=
  br_f (nI_pos (by omega)) (br_f (nI_nlt (a := 2) (by omega) (by omega)) h)
theorem zx_kind0 {v : Int32} (hv : v < 0 ∨ 2 < v) {post : Int32 → Prop} (h : post 0) : wpX_isKind post (nI R, nI K, nI L, nI S, vw, mb, up, ky, sr, vl, bs, sp, an, cs, se, la, ho, kn, ga, gs, wi) v :=
  br_c (fun _ => h) (fun z => br_t (hv.resolve_left z) h)
theorem zx_place1 {r k : Nat} (hr : r < R) (hk : k < K) (hR : R ≤ 5) (hK : K ≤ 8) {post : Int32 → Prop} (h : post 1) : wpX_isPlace post (nI R, nI K, nI L, nI S, vw, mb, up, ky, sr, vl, bs, sp, an, cs, se, la, ho, kn, ga, gs, wi) (nI r) (nI k) := by
  unfold wpX_isPlace
  refine zx_rep1 hr hR ?_
  refine br_f (by decide) ?_
  refine zx_key1 hk hK ?_
  exact br_f (by decide) h
theorem zx_place0 (hR : R ≤ 5) {v w : Int32} (hv : (v < 0 ∨ nI R ≤ v) ∨ (w < 0 ∨ nI K ≤ w)) {post : Int32 → Prop} (h : post 0) : wpX_isPlace post (nI R, nI K, nI L, nI S, vw, mb, up, ky, sr, vl, bs, sp, an, cs, se, la, ho, kn, ga, gs, wi) v w := by
  unfold wpX_isPlace
  rcases pk_ix v (n := R) (by omega) with a | a | ⟨r, hr, rfl⟩
  · refine zx_rep0 (Or.inl a) ?_
    exact br_t rfl h
  · refine zx_rep0 (Or.inr a) ?_
    exact br_t rfl h
  · refine zx_rep1 hr hR ?_
    refine br_f (by decide) ?_
    have hw : w < 0 ∨ nI K ≤ w := by
      rcases hv with z | z
      · rcases z with z | z
        · exact absurd z (nI_pos (by omega))
        · exact absurd z (nI_ge hr (by omega))
      · exact z
    refine zx_key0 hw ?_
    exact br_t rfl h
theorem zy_out0 {r k : Nat} (hr : r < R) (hk : k < K) (hR : R ≤ 5) (hK : K ≤ 8) {post : Int32 → Prop} (h : post 0) : wpY_outside post (nI R, nI K, nI L, nI S, vw, ky, sr, vl, bs, an, cs, se, cr, re, go, kw, yg, iz, ms) (nI r) (nI k) :=
  br_f (nI_pos (by omega)) (br_f (nI_ge hr (by omega)) (br_f (nI_pos (by omega)) (br_t (nI_lt hk (by omega)) h)))
theorem zy_out1 {v w : Int32} (hv : (v < 0 ∨ nI R ≤ v) ∨ (w < 0 ∨ nI K ≤ w)) {post : Int32 → Prop} (h : post 1) : wpY_outside post (nI R, nI K, nI L, nI S, vw, ky, sr, vl, bs, an, cs, se, cr, re, go, kw, yg, iz, ms) v w := by
  refine br_c (fun _ => h) (fun a => br_c (fun _ => h) (fun b => br_c (fun _ => h) (fun c => br_f ?_ h)))
  intro z
  rcases hv with hv | hv
  · rcases hv with hv | hv
    · exact a hv
    · exact b hv
  · rcases hv with hv | hv
    · exact c hv
    · exact Int32.not_lt.mpr hv z
/-- a place, or outside on both sides -/
theorem zb_place (hR : R ≤ 5) (hK : K ≤ 8) (v w : Int32) : (∃ r k, r < R ∧ k < K ∧ v = nI r ∧ w = nI k) ∨ ((v < 0 ∨ nI R ≤ v) ∨ (w < 0 ∨ nI K ≤ w)) := by
  rcases pk_ix v (n := R) (by omega) with a | a | ⟨r, hr, rfl⟩
  · exact Or.inr (Or.inl (Or.inl a))
  · exact Or.inr (Or.inl (Or.inr a))
  · rcases pk_ix w (n := K) (by omega) with a | a | ⟨k, hk, rfl⟩
    · exact Or.inr (Or.inr (Or.inl a))
    · exact Or.inr (Or.inr (Or.inr a))
    · exact Or.inl ⟨r, k, hr, hk, rfl, rfl⟩
theorem zr_st_n : zr_st sp (-1) = 0 := if_pos rfl
theorem zr_st_j {j : Nat} (hj : j < 2 ^ 31) : zr_st sp (nI j) = sp j := by
  unfold zr_st
  rw [if_neg (zr_ne1 hj), nI_clamp hj]
theorem zx_stamp {x : Int32} (hx : x = -1 ∨ ∃ j, j < 24 ∧ x = nI j) {post : Int32 → Prop} (h : post (zr_st sp x)) : wpX_stampOf post (nI R, nI K, nI L, nI S, vw, mb, up, ky, sr, vl, bs, sp, an, cs, se, la, ho, kn, ga, gs, wi) x := by
  rcases hx with rfl | ⟨j, hj, rfl⟩
  · rw [zr_st_n] at h
    exact br_t rfl h
  · have e : zr_st sp (nI j) = sp (nI j).toNatClampNeg := if_neg (zr_ne1 (by omega))
    rw [e] at h
    exact br_f (zr_ne1 (by omega)) ⟨vp_in_nI hj (by omega), h⟩
def zr_vl (vl : Nat → Int32) (x : Int32) : Int32 := if x = -1 then 0 else vl x.toNatClampNeg
theorem zx_lval {k : Nat} (hk : k < 8) (hl : la k = -1 ∨ ∃ j, j < 24 ∧ la k = nI j) {post : Int32 → Prop} (h : post (zr_vl vl (la k))) : wpX_latestValue post (nI R, nI K, nI L, nI S, vw, mb, up, ky, sr, vl, bs, sp, an, cs, se, la, ho, kn, ga, gs, wi) (nI k) := by
  refine ⟨vp_in_nI hk (by omega), nm_r (e' := la k) (by rw [nI_clamp (by omega)]) ?_⟩
  rcases hl with e | ⟨j, hj, e⟩
  · rw [e] at h ⊢
    exact br_t rfl h
  · rw [e] at h ⊢
    have e2 : zr_vl vl (nI j) = vl (nI j).toNatClampNeg := if_neg (zr_ne1 (by omega))
    rw [e2] at h
    exact br_f (zr_ne1 (by omega)) ⟨vp_in_nI hj (by omega), h⟩
end
end
section
/-! Y's stamp -/
theorem zr_gb_n {g : Nat → Nat} : zr_gb g (-1) = 0 := if_pos rfl
theorem zr_gb_j {g : Nat → Nat} {j : Nat} (hj : j < 2 ^ 31) : zr_gb g (nI j) = g j := by
  unfold zr_gb
  rw [if_neg (zr_ne1 hj), nI_clamp hj]
theorem zr_stv (a b c d : Nat) : ((nI a * 2048 + nI b * 256) + nI c * 8) + nI d = nI (a * 2048 + b * 256 + c * 8 + d) := by
  show ((nI a * nI 2048 + nI b * nI 256) + nI c * nI 8) + nI d = _
  rw [pk_mul, pk_mul, pk_mul, nI_add, nI_add, nI_add]
section
variable {R K L S : Nat} {vw mb up : Int32} {ky sr vl bs sp an cs se la ho kn ga gs wi cr re go kw yg iz ms : Nat → Int32}
theorem zy_sA {ve wr ch : Nat → Nat} (hS : S ≤ 24) (hu : ∀ u, u < S → zr_u1 R K ky sr bs sp cs ve wr ch u) {post : Int32 → Prop} {x1 : Int32} :
    ∀ (n V i : Nat) (x W C : Int32), (x = -1 ∨ ∃ j, j < S ∧ x = nI j ∧ j + i < 24) → 24 - i < n → 0 < V → V < 100 - (24 - i) → i ≤ 24 →
      wY_stampOf_75 post x1 (nI (V + zr_gb ve x)) W C (nI R) (nI K) (nI L) (nI S) vw ky sr vl bs an cs se cr re go kw yg iz ms → wY_stampOf_13 post x1 (nI R) (nI K) (nI L) (nI S) vw ky sr vl bs an cs se cr re go kw yg iz ms n (nI V) W C x (nI i) := by
  intro n
  induction n with
  | zero => intro V i x W C _ h; omega
  | succ n ih =>
    intro V i x W C hx hn hV hV2 hi h
    rcases hx with rfl | ⟨j, hj, rfl, hji⟩
    · rw [zr_gb_n, Nat.add_zero] at h
      exact br_c (fun _ => h) (fun _ => br_t (by decide) h)
    · have ej : (nI j).toNatClampNeg = j := nI_clamp (by omega)
      rw [zr_gb_j (by omega)] at h
      have h24 : vp_in (nI j) 24 := vp_in_nI (by omega) (by omega)
      obtain ⟨_, hb, r, hr, er, hc, _⟩ := hu j hj
      have hb' : bs j = -1 ∨ ∃ j', j' < S ∧ bs j = nI j' ∧ j' + (i + 1) < 24 := by
        rcases hb with e | ⟨j', hj', e⟩
        · exact Or.inl e
        · exact Or.inr ⟨j', by omega, e, by omega⟩
      refine br_f (nI_ge (b := 24) (by omega) (by omega)) (br_f (nI_pos (by omega)) ⟨h24, ?_⟩)
      rw [ej]
      rcases hc with ⟨hc, hv, _⟩ | ⟨hc, hv, _⟩
      · refine br_t hc (br_f (nI_ne0 hV (by omega)) ?_)
        refine nm_r (nI_1 V) ⟨h24, nm_r (e' := bs j) (by rw [ej]) (nm_r (nI_1 i) ?_)⟩
        refine ih (V + 1) (i + 1) (bs j) W C hb' (by omega) (by omega) (by omega) (by omega) ?_
        rw [hv] at h
        rw [show V + 1 + zr_gb ve (bs j) = V + (zr_gb ve (bs j) + 1) from by omega]
        exact h
      · refine br_f (by rw [hc]; decide) (br_f (nI_ne0 hV (by omega)) ?_)
        refine ⟨h24, nm_e (nm_r (nI_1 i) ?_)⟩
        rw [hv] at h
        exact ih V (i + 1) (bs j) W C hb' (by omega) (by omega) (by omega) (by omega) h
theorem zy_sB {ve wr ch : Nat → Nat} (hS : S ≤ 24) (hu : ∀ u, u < S → zr_u1 R K ky sr bs sp cs ve wr ch u) {post : Int32 → Prop} {x1 : Int32} :
    ∀ (n i C : Nat) (x : Int32), (x = -1 ∨ ∃ j, j < S ∧ x = nI j ∧ j + i < 24) → 24 - i < n → i ≤ 24 →
      wY_stampOf_75 post x1 (nI (zr_gb ve x)) (nI (zr_gb wr x)) (nI (C + zr_gb ch x)) (nI R) (nI K) (nI L) (nI S) vw ky sr vl bs an cs se cr re go kw yg iz ms → wY_stampOf_13 post x1 (nI R) (nI K) (nI L) (nI S) vw ky sr vl bs an cs se cr re go kw yg iz ms n 0 0 (nI C) x (nI i) := by
  intro n
  induction n with
  | zero => intro i C x _ h; omega
  | succ n ih =>
    intro i C x hx hn hi h
    rcases hx with rfl | ⟨j, hj, rfl, hji⟩
    · rw [zr_gb_n, zr_gb_n, zr_gb_n, Nat.add_zero] at h
      exact br_c (fun _ => h) (fun _ => br_t (by decide) h)
    · have ej : (nI j).toNatClampNeg = j := nI_clamp (by omega)
      rw [zr_gb_j (by omega), zr_gb_j (by omega), zr_gb_j (by omega)] at h
      have h24 : vp_in (nI j) 24 := vp_in_nI (by omega) (by omega)
      obtain ⟨_, hb, r, hr, er, hc, _⟩ := hu j hj
      have hb' : bs j = -1 ∨ ∃ j', j' < S ∧ bs j = nI j' ∧ j' + (i + 1) < 24 := by
        rcases hb with e | ⟨j', hj', e⟩
        · exact Or.inl e
        · exact Or.inr ⟨j', by omega, e, by omega⟩
      refine br_f (nI_ge (b := 24) (by omega) (by omega)) (br_f (nI_pos (by omega)) ⟨h24, ?_⟩)
      rw [ej]
      rcases hc with ⟨hc, hv, hw, hch, _⟩ | ⟨hc, hv, hw, hch, _⟩
      · refine br_t hc (br_t rfl ⟨h24, nm_r (e' := nI r) er ?_⟩)
        refine nm_r (e' := nI 1) rfl ⟨h24, nm_r (e' := bs j) (by rw [ej]) (nm_r (nI_1 i) ?_)⟩
        refine zy_sA hS hu n 1 (i + 1) (bs j) (nI r) (nI C) hb' (by omega) (by omega) (by omega) (by omega) ?_
        rw [hv, hw, hch, Nat.add_zero] at h
        rw [Nat.add_comm 1]
        exact h
      · refine br_f (by rw [hc]; decide) (br_t rfl ?_)
        refine nm_r (nI_1 C) ⟨h24, nm_e (nm_r (nI_1 i) ?_)⟩
        rw [hv, hw, hch] at h
        refine ih (i + 1) (C + 1) (bs j) hb' (by omega) (by omega) ?_
        rw [show C + 1 + zr_gb ch (bs j) = C + (zr_gb ch (bs j) + 1) from by omega]
        exact h
theorem zy_stamp (hS : S ≤ 24) (hu : zr_ut R K S ky sr bs sp cs) {x : Int32} (hx : x = -1 ∨ ∃ j, j < S ∧ x = nI j) {post : Int32 → Prop} (h : post (zr_st sp x)) : wpY_stampOf post (nI R, nI K, nI L, nI S, vw, ky, sr, vl, bs, an, cs, se, cr, re, go, kw, yg, iz, ms) x := by
  obtain ⟨ve, wr, ch, hu⟩ := hu
  unfold wpY_stampOf
  refine ⟨25, zy_sB hS hu 25 0 0 x ?_ (by omega) (by omega) ?_⟩
  · rcases hx with e | ⟨j, hj, e⟩
    · exact Or.inl e
    · exact Or.inr ⟨j, hj, e, by omega⟩
  · rcases hx with rfl | ⟨j, hj, rfl⟩
    · rw [zr_st_n] at h
      rw [zr_gb_n, zr_gb_n, zr_gb_n]
      exact br_t (by decide) h
    · rw [zr_st_j (by omega)] at h
      rw [zr_gb_j (by omega), zr_gb_j (by omega), zr_gb_j (by omega)]
      have ej : (nI j).toNatClampNeg = j := nI_clamp (by omega)
      have h24 : vp_in (nI j) 24 := vp_in_nI (by omega) (by omega)
      obtain ⟨_, hb, r, hr, er, hc, _⟩ := hu j hj
      refine br_f (nI_pos (by omega)) ⟨h24, ?_⟩
      rw [ej]
      rcases hc with ⟨hc, hv, hw, hch, hs⟩ | ⟨hc, hv, hw, hch, hs⟩
      · refine br_t hc ?_
        show post (((nI (ve j) * 2048 + nI (wr j) * 256) + nI (0 + ch j) * 8) + nI 0)
        rw [zr_stv, hch]
        rw [hs] at h
        exact h
      · refine br_f (by rw [hc]; decide) ⟨h24, ?_⟩
        rw [er]
        show post (((nI (ve j) * 2048 + nI (wr j) * 256) + nI (0 + ch j) * 8) + nI r)
        rw [zr_stv, Nat.zero_add]
        rw [hs] at h
        exact h
theorem zr_pos (hS : S ≤ 24) (hR : R ≤ 5) (hu : zr_ut R K S ky sr bs sp cs) {u : Nat} (h : u < S) : (0 : Int32) < sp u := by
  obtain ⟨ve, wr, ch, hu⟩ := hu
  obtain ⟨_, _, r, hr, _, hc, h1, h2, h3⟩ := hu u h
  rcases hc with ⟨_, hv, _, hc, hs⟩ | ⟨_, _, _, hc, hs⟩
  · rw [hs]
    exact nI_lt (a := 0) (by omega) (by omega)
  · rw [hs]
    exact nI_lt (a := 0) (by omega) (by omega)
end
end
section
/-! the best of a set -/
theorem zr_b_no {i : Nat} {sp : Nat → Int32} {P : Nat → Prop} {b : Int32} (h : zr_best i sp P b) (hn : ¬ P i) : zr_best (i + 1) sp P b := by
  rcases h with ⟨e, h⟩ | ⟨j, hj, e, hp, h⟩
  · refine Or.inl ⟨e, fun u hu => ?_⟩
    rcases Nat.lt_or_ge u i with z | z
    · exact h u z
    · rw [show u = i from by omega]; exact hn
  · refine Or.inr ⟨j, by omega, e, hp, fun u hu hpu => ?_⟩
    rcases Nat.lt_or_ge u i with z | z
    · exact h u z hpu
    · rw [show u = i from by omega] at hpu; exact absurd hpu hn
theorem zr_b_lo {i : Nat} {sp : Nat → Int32} {P : Nat → Prop} {b : Int32} (hi : i < 2 ^ 31) (h : zr_best i sp P b) (h0 : 0 < sp i) (hl : sp i ≤ zr_st sp b) (hq : ∀ u, u < i → P u → sp i ≠ sp u) : zr_best (i + 1) sp P b := by
  rcases h with ⟨e, h⟩ | ⟨j, hj, e, hp, h⟩
  · rw [e, zr_st_n] at hl
    exact absurd hl (Int32.not_le.mpr h0)
  · refine Or.inr ⟨j, by omega, e, hp, fun u hu hpu => ?_⟩
    rcases Nat.lt_or_ge u i with z | z
    · exact h u z hpu
    · rw [show u = i from by omega]
      rw [e, zr_st_j (by omega)] at hl
      exact Or.inr (Int32.lt_of_le_of_ne hl (hq j hj hp))
theorem zr_b_hi {i : Nat} {sp : Nat → Int32} {P : Nat → Prop} {b : Int32} (hi : i < 2 ^ 31) (h : zr_best i sp P b) (hp : P i) (hl : ¬ sp i ≤ zr_st sp b) : zr_best (i + 1) sp P (nI i) := by
  refine Or.inr ⟨i, by omega, rfl, hp, fun u hu hpu => ?_⟩
  rcases Nat.lt_or_ge u i with z | z
  · rcases h with ⟨e, h⟩ | ⟨j, hj, e, hpj, h⟩
    · exact absurd hpu (h u z)
    · rw [e, zr_st_j (by omega)] at hl
      have hlt := zr_lt hl
      rcases h u z hpu with e | g
      · rw [e]; exact Or.inr hlt
      · exact Or.inr (zr_lin g hlt)
  · exact Or.inl (by omega)
theorem zr_b_u {S : Nat} {sp : Nat → Int32} {P : Nat → Prop} {b b' : Int32} (h : zr_best S sp P b) (h' : zr_best S sp P b') : b = b' := by
  rcases h with ⟨e, h⟩ | ⟨j, hj, e, hp, h⟩ <;> rcases h' with ⟨e', h'⟩ | ⟨j', hj', e', hp', h'⟩
  · rw [e, e']
  · exact absurd hp' (h j' hj')
  · exact absurd hp (h' j hj)
  · rcases h j' hj' hp' with z | z
    · rw [e, e', z]
    · rcases h' j hj hp with y | y
      · rw [e, e', y]
      · exact (zr_irr (zr_lin y z)).elim
theorem zr_b_v {S : Nat} {sp : Nat → Int32} {P : Nat → Prop} {b : Int32} (h : zr_best S sp P b) : b = -1 ∨ ∃ j, j < S ∧ b = nI j := by
  rcases h with ⟨e, _⟩ | ⟨j, hj, e, _⟩
  · exact Or.inl e
  · exact Or.inr ⟨j, hj, e⟩
theorem zr_v24 {S : Nat} (hS : S ≤ 24) {b : Int32} (h : b = -1 ∨ ∃ j, j < S ∧ b = nI j) : b = -1 ∨ ∃ j, j < 24 ∧ b = nI j := by
  rcases h with e | ⟨j, hj, e⟩
  · exact Or.inl e
  · exact Or.inr ⟨j, by omega, e⟩
section
variable {R K L S : Nat} {vw mb up : Int32} {ky sr vl bs sp an cs se la ho kn ga gs wi cr re go kw yg iz ms : Nat → Int32}
theorem zy_holds_l {r k : Nat} (hs : zr_sz R K L S) (hu : zr_ut R K S ky sr bs sp cs) (hq : zr_uq S ky sp) (hr : r < R) {post : Int32 → Prop}
    (hp : ∀ b, zr_best S sp (fun u => ky u = nI k ∧ go (r * 24 + u) ≠ 0) b → post b) :
    ∀ (n i : Nat) (b : Int32), i ≤ S → S - i < n → zr_best i sp (fun u => ky u = nI k ∧ go (r * 24 + u) ≠ 0) b → wY_holds_5 post (nI r) (nI k) (nI R) (nI K) (nI L) (nI S) vw ky sr vl bs an cs se cr re go kw yg iz ms n b (nI i) := by
  obtain ⟨h1, h2, h3, h4, h5, h6, h7⟩ := hs
  intro n
  induction n with
  | zero => intro i b _ h; omega
  | succ n ih =>
    intro i b hi hn hb
    by_cases he : i = S
    · subst he
      exact br_t (nI_le (by omega) (by omega)) (hp b hb)
    · have ei : (nI i).toNatClampNeg = i := nI_clamp (by omega)
      refine br_f (nI_ge (by omega) (by omega)) ⟨vp_in_nI (by omega) (by omega), ?_⟩
      rw [ei]
      by_cases hk : ky i = nI k
      · refine br_t hk ?_
        rw [zr_24, nI_clamp (n := r * 24 + i) (by omega)]
        refine ⟨vp_in_nI (by omega) (by omega), ?_⟩
        by_cases hg : go (r * 24 + i) = 0
        · exact br_t hg (nm_r (nI_1 i) (ih (i + 1) b (by omega) (by omega) (zr_b_no hb (fun z => z.2 hg))))
        · refine br_f hg ?_
          refine zy_stamp (by omega) hu (Or.inr ⟨i, by omega, rfl⟩) ?_
          refine zy_stamp (by omega) hu ?_ ?_
          · rcases zr_b_v hb with e | ⟨j, hj, e⟩
            · exact Or.inl e
            · exact Or.inr ⟨j, by omega, e⟩
          · rw [zr_st_j (by omega)]
            refine br_c (fun hl => ?_) (fun hl => ?_)
            · refine nm_r (nI_1 i) (ih (i + 1) b (by omega) (by omega) ?_)
              refine zr_b_lo (by omega) hb (zr_pos (by omega) h2 hu (by omega)) hl ?_
              intro u hui hpu e
              have := hq i u (by omega) (by omega) (hk.trans hpu.1.symm) e
              omega
            · exact nm_r (nI_1 i) (ih (i + 1) (nI i) (by omega) (by omega) (zr_b_hi (by omega) hb ⟨hk, hg⟩ hl))
      · exact br_f hk (nm_r (nI_1 i) (ih (i + 1) b (by omega) (by omega) (zr_b_no hb (fun z => hk z.1))))
theorem zy_holds {r k : Nat} (hs : zr_sz R K L S) (hu : zr_ut R K S ky sr bs sp cs) (hq : zr_uq S ky sp) (hr : r < R) {b : Int32}
    (hb : zr_best S sp (fun u => ky u = nI k ∧ go (r * 24 + u) ≠ 0) b) {post : Int32 → Prop} (h : post b) : wpY_holds post (nI R, nI K, nI L, nI S, vw, ky, sr, vl, bs, an, cs, se, cr, re, go, kw, yg, iz, ms) (nI r) (nI k) := by
  unfold wpY_holds
  refine ⟨S + 1, zy_holds_l hs hu hq hr (fun b' hb' => zr_b_u hb hb' ▸ h) (S + 1) 0 (-1) (by omega) (by omega) ?_⟩
  exact Or.inl ⟨rfl, fun u hu => by omega⟩
theorem zy_latest_l {k : Nat} (hs : zr_sz R K L S) (hu : zr_ut R K S ky sr bs sp cs) (hq : zr_uq S ky sp) {post : Int32 → Prop}
    (hp : ∀ b, zr_best S sp (fun u => ky u = nI k ∧ se u ≠ 0) b → post b) :
    ∀ (n i : Nat) (b : Int32), i ≤ S → S - i < n → zr_best i sp (fun u => ky u = nI k ∧ se u ≠ 0) b → wY_latest_16 post (nI k) (nI R) (nI K) (nI L) (nI S) vw ky sr vl bs an cs se cr re go kw yg iz ms n b (nI i) := by
  obtain ⟨h1, h2, h3, h4, h5, h6, h7⟩ := hs
  intro n
  induction n with
  | zero => intro i b _ h; omega
  | succ n ih =>
    intro i b hi hn hb
    by_cases he : i = S
    · subst he
      exact br_t (nI_le (by omega) (by omega)) (hp b hb)
    · have ei : (nI i).toNatClampNeg = i := nI_clamp (by omega)
      have hv : vp_in (nI i) 24 := vp_in_nI (by omega) (by omega)
      refine br_f (nI_ge (by omega) (by omega)) ⟨hv, ?_⟩
      rw [ei]
      by_cases hk : ky i = nI k
      · refine br_t hk ⟨hv, ?_⟩
        by_cases hg : se i = 0
        · exact br_t hg (nm_r (nI_1 i) (ih (i + 1) b (by omega) (by omega) (zr_b_no hb (fun z => z.2 hg))))
        · refine br_f hg ?_
          refine zy_stamp (by omega) hu (Or.inr ⟨i, by omega, rfl⟩) ?_
          refine zy_stamp (by omega) hu ?_ ?_
          · rcases zr_b_v hb with e | ⟨j, hj, e⟩
            · exact Or.inl e
            · exact Or.inr ⟨j, by omega, e⟩
          · rw [zr_st_j (by omega)]
            refine br_c (fun hl => ?_) (fun hl => ?_)
            · refine nm_r (nI_1 i) (ih (i + 1) b (by omega) (by omega) ?_)
              refine zr_b_lo (by omega) hb (zr_pos (by omega) h2 hu (by omega)) hl ?_
              intro u hui hpu e
              have := hq i u (by omega) (by omega) (hk.trans hpu.1.symm) e
              omega
            · exact nm_r (nI_1 i) (ih (i + 1) (nI i) (by omega) (by omega) (zr_b_hi (by omega) hb ⟨hk, hg⟩ hl))
      · exact br_f hk (nm_r (nI_1 i) (ih (i + 1) b (by omega) (by omega) (zr_b_no hb (fun z => hk z.1))))
theorem zy_latest {k : Nat} (hs : zr_sz R K L S) (hu : zr_ut R K S ky sr bs sp cs) (hq : zr_uq S ky sp) (hk : k < K)
    {b : Int32} (hb : zr_best S sp (fun u => ky u = nI k ∧ se u ≠ 0) b) {post : Int32 → Prop} (h : post b) : wpY_latest post (nI R, nI K, nI L, nI S, vw, ky, sr, vl, bs, an, cs, se, cr, re, go, kw, yg, iz, ms) (nI k) := by
  have hs' := hs
  obtain ⟨h1, h2, h3, h4, h5, h6, h7⟩ := hs'
  unfold wpY_latest
  refine zy_out0 (r := 0) (by omega) hk h2 h4 ?_
  refine br_t rfl ⟨S + 1, zy_latest_l hs hu hq (fun b' hb' => zr_b_u hb hb' ▸ h) (S + 1) 0 (-1) (by omega) (by omega) ?_⟩
  exact Or.inl ⟨rfl, fun u hu => by omega⟩
theorem zy_gathersFor_l {r k : Nat} (hs : zr_sz R K L S) (hr : r < R) {g : Int32} (hg : zr_g1 S ky yg r k g) {post : Int32 → Prop} (hp : post g) :
    ∀ (n i : Nat), i ≤ S → S - i < n → (∀ u, u < i → ky u = nI k → yg (r * 24 + u) = 0) → wY_gathersFor_2 post (nI r) (nI k) (nI R) (nI K) (nI L) (nI S) vw ky sr vl bs an cs se cr re go kw yg iz ms n (nI i) := by
  obtain ⟨h1, h2, h3, h4, h5, h6, h7⟩ := hs
  intro n
  induction n with
  | zero => intro i _ h; omega
  | succ n ih =>
    intro i hi hn hb
    by_cases he : i = S
    · subst he
      refine br_t (nI_le (by omega) (by omega)) ?_
      rcases hg with ⟨e, _⟩ | ⟨j, hj, e, hkj, hy, _⟩
      · rw [← e]; exact hp
      · exact absurd (hb j hj hkj) hy
    · have ei : (nI i).toNatClampNeg = i := nI_clamp (by omega)
      have hv : vp_in (nI i) 24 := vp_in_nI (by omega) (by omega)
      refine br_f (nI_ge (by omega) (by omega)) ⟨hv, ?_⟩
      rw [ei]
      by_cases hk : ky i = nI k
      · refine br_t hk ?_
        rw [zr_24, nI_clamp (n := r * 24 + i) (by omega)]
        refine ⟨vp_in_nI (by omega) (by omega), ?_⟩
        by_cases hy : yg (r * 24 + i) = 0
        · refine br_t hy (nm_r (nI_1 i) (ih (i + 1) (by omega) (by omega) ?_))
          intro u hu hku
          rcases Nat.lt_or_ge u i with z | z
          · exact hb u z hku
          · rw [show u = i from by omega]; exact hy
        · refine br_f hy ?_
          rcases hg with ⟨_, h⟩ | ⟨j, hj, e, hkj, hyj, h⟩
          · exact absurd (h i (by omega) hk) hy
          · rw [h i (by omega) hk hy, ← e]; exact hp
      · refine br_f hk (nm_r (nI_1 i) (ih (i + 1) (by omega) (by omega) ?_))
        intro u hu hku
        rcases Nat.lt_or_ge u i with z | z
        · exact hb u z hku
        · rw [show u = i from by omega] at hku; exact absurd hku hk
theorem zy_gathersFor {r k : Nat} (hs : zr_sz R K L S) (hr : r < R) {g : Int32} (hg : zr_g1 S ky yg r k g) {post : Int32 → Prop} (hp : post g) : wpY_gathersFor post (nI R, nI K, nI L, nI S, vw, ky, sr, vl, bs, an, cs, se, cr, re, go, kw, yg, iz, ms) (nI r) (nI k) := by
  unfold wpY_gathersFor
  exact ⟨S + 1, zy_gathersFor_l hs hr hg hp (S + 1) 0 (by omega) (by omega) (fun u hu => by omega)⟩
theorem zy_valid {r k : Nat} (hs : zr_sz R K L S) (hu : zr_ut R K S ky sr bs sp cs) (hq : zr_uq S ky sp) (hr : r < R) (hk : k < K)
    (hh : zr_hol R K S ky sp go ho) (hn : zr_kno R K S ho kw kn) {post : Int32 → Prop} (p0 : kn (r * 8 + k) = 0 → post 0) (p1 : kn (r * 8 + k) ≠ 0 → post 1) : wpY_valid post (nI R, nI K, nI L, nI S, vw, ky, sr, vl, bs, an, cs, se, cr, re, go, kw, yg, iz, ms) (nI r) (nI k) := by
  have hs' := hs
  obtain ⟨h1, h2, h3, h4, h5, h6, h7⟩ := hs'
  unfold wpY_valid
  refine zy_holds hs hu hq hr (hh r k hr hk) ?_
  rcases zr_b_v (hh r k hr hk) with e | ⟨j, hj, e⟩
  · exact br_t e (p1 ((hn r k hr hk).1 e))
  · rw [e]
    refine br_f (zr_ne1 (by omega)) ?_
    rw [zr_24, nI_clamp (n := r * 24 + j) (by omega)]
    refine ⟨vp_in_nI (by omega) (by omega), br_c (fun z => p0 (((hn r k hr hk).2 j hj e).mpr z)) (fun z => p1 (fun y => z (((hn r k hr hk).2 j hj e).mp y)))⟩
theorem zy_content {k : Nat} (hs : zr_sz R K L S) (hu : zr_ut R K S ky sr bs sp cs) (hq : zr_uq S ky sp) (hk : k < K)
    (hl : zr_lat K S ky sp se la) {post : Int32 → Prop} (h : post (zr_vl vl (la k))) : wpY_content post (nI R, nI K, nI L, nI S, vw, ky, sr, vl, bs, an, cs, se, cr, re, go, kw, yg, iz, ms) (nI k) := by
  have hs' := hs
  obtain ⟨h1, h2, h3, h4, h5, h6, h7⟩ := hs'
  unfold wpY_content
  refine zy_latest hs hu hq hk (hl k hk) ?_
  rcases zr_b_v (hl k hk) with e | ⟨j, hj, e⟩
  · rw [e] at h ⊢
    exact br_t rfl h
  · rw [e] at h ⊢
    have e2 : zr_vl vl (nI j) = vl (nI j).toNatClampNeg := if_neg (zr_ne1 (by omega))
    rw [e2] at h
    exact br_f (zr_ne1 (by omega)) ⟨vp_in_nI (by omega) (by omega), h⟩
end
end
section
/-! the calls that only read -/
def zr_oua (pX pY : (Int32 → Prop) → Prop) : Prop := ∃ r, (∀ post, post r → pX post) ∧ (∀ post, post r → pY post)
theorem zr_fin {pX : SX → (Int32 → Prop) → Prop} {pY : SY → (Int32 → Prop) → Prop} {u : SX} {v : SY} (I : zr_all u v)
    (H : ∀ (R K L S : Nat) (vw mb up : Int32) (cr re ky sr vl bs sp an cs se la ho kn ga gs wi go kw yg iz ms : Nat → Int32), zr_inv R K L S vw mb up ky sr vl bs sp an cs se la ho kn ga gs wi cr re go kw yg iz ms → zr_oua (pX (nI R, nI K, nI L, nI S, vw, mb, up, ky, sr, vl, bs, sp, an, cs, se, la, ho, kn, ga, gs, wi)) (pY (nI R, nI K, nI L, nI S, vw, ky, sr, vl, bs, an, cs, se, cr, re, go, kw, yg, iz, ms))) :
    pX u (fun r => pY v (fun r' => r' = r ∧ zr_all u v)) := by
  have J := I
  obtain ⟨R, K, L, S, vw, mb, up, cr, re, I⟩ := I
  revert J
  refine zr_el (P := fun u v => zr_all u v → pX u (fun r => pY v (fun r' => r' = r ∧ zr_all u v))) I ?_
  intro ky sr vl bs sp an cs se la ho kn ga gs wi go kw yg iz ms I J
  obtain ⟨r, hX, hY⟩ := H R K L S vw mb up cr re ky sr vl bs sp an cs se la ho kn ga gs wi go kw yg iz ms I
  exact hX _ (hY _ ⟨rfl, J⟩)
theorem zr_fiq {pX : SX → (Int32 → SX → Prop) → Prop} {pY : SY → (Int32 → SY → Prop) → Prop} {u : SX} {v : SY} (I : zr_all u v)
    (H : ∀ (R K L S : Nat) (vw mb up : Int32) (cr re ky sr vl bs sp an cs se la ho kn ga gs wi go kw yg iz ms : Nat → Int32), zr_inv R K L S vw mb up ky sr vl bs sp an cs se la ho kn ga gs wi cr re go kw yg iz ms → zr_ouq zr_all (pX (nI R, nI K, nI L, nI S, vw, mb, up, ky, sr, vl, bs, sp, an, cs, se, la, ho, kn, ga, gs, wi)) (pY (nI R, nI K, nI L, nI S, vw, ky, sr, vl, bs, an, cs, se, cr, re, go, kw, yg, iz, ms))) :
    pX u (fun r u' => pY v (fun r' v' => r' = r ∧ zr_all u' v')) := by
  obtain ⟨R, K, L, S, vw, mb, up, cr, re, I⟩ := I
  refine zr_el (P := fun u v => pX u (fun r u' => pY v (fun r' v' => r' = r ∧ zr_all u' v'))) I ?_
  intro ky sr vl bs sp an cs se la ho kn ga gs wi go kw yg iz ms I
  obtain ⟨r, u', v', J, hX, hY⟩ := H R K L S vw mb up cr re ky sr vl bs sp an cs se la ho kn ga gs wi go kw yg iz ms I
  exact hX _ (hY _ ⟨rfl, J⟩)
section
variable {R K L S : Nat} {vw mb up : Int32} {ky sr vl bs sp an cs se la ho kn ga gs wi cr re go kw yg iz ms : Nat → Int32}
theorem zo_read (I : zr_inv R K L S vw mb up ky sr vl bs sp an cs se la ho kn ga gs wi cr re go kw yg iz ms) (v1 v2 : Int32) : zr_oua (fun post => wpX_read post (nI R, nI K, nI L, nI S, vw, mb, up, ky, sr, vl, bs, sp, an, cs, se, la, ho, kn, ga, gs, wi) v1 v2) (fun post => wpY_read post (nI R, nI K, nI L, nI S, vw, ky, sr, vl, bs, an, cs, se, cr, re, go, kw, yg, iz, ms) v1 v2) := by
  have I0 := I
  obtain ⟨hsz, hup, hmb, hsb, hut, huq, hla, hho, hkn, hkw, hga, hgs, hwi, hms, hne, how, hyu, han, ha3⟩ := I
  have hsz0 := hsz
  obtain ⟨h1, h2, h3, h4, h5, h6, h7⟩ := hsz0
  rcases zb_place h2 h4 v1 v2 with ⟨r, k, hr, hk, rfl, rfl⟩ | hv
  · have e8 : (nI (r * 8 + k)).toNatClampNeg = r * 8 + k := nI_clamp (by omega)
    have er : (nI r).toNatClampNeg = r := nI_clamp (by omega)
    have i8 : vp_in (nI (r * 8 + k)) 40 := vp_in_nI (by omega) (by omega)
    have i5 : vp_in (nI r) 5 := vp_in_nI (by omega) (by omega)
    by_cases hc : cr r = 0
    · by_cases hn : kn (r * 8 + k) = 0
      · refine ⟨-4, fun post hp => ?_, fun post hp => ?_⟩
        · unfold wpX_read
          refine zx_place1 hr hk h2 h4 ?_
          refine br_f (by decide) ?_
          refine zx_up1 hr h2 hup hc ?_
          refine br_f (by decide) ?_
          rw [zr_8, e8]
          exact ⟨i8, br_t hn hp⟩
        · unfold wpY_read
          refine zy_out0 hr hk h2 h4 ?_
          refine br_t rfl ⟨i5, ?_⟩
          rw [er]
          refine br_t hc ?_
          refine zy_valid hsz hut huq hr hk hho hkn (fun _ => ?_) (fun z => absurd hn z)
          exact br_t rfl hp
      · refine ⟨zr_vl vl (la k), fun post hp => ?_, fun post hp => ?_⟩
        · unfold wpX_read
          refine zx_place1 hr hk h2 h4 ?_
          refine br_f (by decide) ?_
          refine zx_up1 hr h2 hup hc ?_
          refine br_f (by decide) ?_
          rw [zr_8, e8]
          refine ⟨i8, br_f hn ?_⟩
          exact zx_lval (by omega) (zr_v24 (by omega) (zr_b_v (hla k hk))) hp
        · unfold wpY_read
          refine zy_out0 hr hk h2 h4 ?_
          refine br_t rfl ⟨i5, ?_⟩
          rw [er]
          refine br_t hc ?_
          refine zy_valid hsz hut huq hr hk hho hkn (fun z => absurd z hn) (fun _ => ?_)
          refine br_f (by decide) ?_
          exact zy_content hsz hut huq hk hla hp
    · refine ⟨-3, fun post hp => ?_, fun post hp => ?_⟩
      · unfold wpX_read
        refine zx_place1 hr hk h2 h4 ?_
        refine br_f (by decide) ?_
        refine zx_up0 hr h2 hup hc ?_
        exact br_t rfl hp
      · unfold wpY_read
        refine zy_out0 hr hk h2 h4 ?_
        refine br_t rfl ⟨i5, ?_⟩
        rw [er]
        exact br_f hc hp
  · refine ⟨-2, fun post hp => ?_, fun post hp => ?_⟩
    · unfold wpX_read
      refine zx_place0 h2 hv ?_
      exact br_t rfl hp
    · unfold wpY_read
      refine zy_out1 hv ?_
      exact br_f (by decide) hp
theorem zo_held (I : zr_inv R K L S vw mb up ky sr vl bs sp an cs se la ho kn ga gs wi cr re go kw yg iz ms) (v1 v2 : Int32) : zr_oua (fun post => wpX_held post (nI R, nI K, nI L, nI S, vw, mb, up, ky, sr, vl, bs, sp, an, cs, se, la, ho, kn, ga, gs, wi) v1 v2) (fun post => wpY_held post (nI R, nI K, nI L, nI S, vw, ky, sr, vl, bs, an, cs, se, cr, re, go, kw, yg, iz, ms) v1 v2) := by
  have I0 := I
  obtain ⟨hsz, hup, hmb, hsb, hut, huq, hla, hho, hkn, hkw, hga, hgs, hwi, hms, hne, how, hyu, han, ha3⟩ := I
  have hsz0 := hsz
  obtain ⟨h1, h2, h3, h4, h5, h6, h7⟩ := hsz0
  rcases zb_place h2 h4 v1 v2 with ⟨r, k, hr, hk, rfl, rfl⟩ | hv
  · have e8 : (nI (r * 8 + k)).toNatClampNeg = r * 8 + k := nI_clamp (by omega)
    have er : (nI r).toNatClampNeg = r := nI_clamp (by omega)
    have i8 : vp_in (nI (r * 8 + k)) 40 := vp_in_nI (by omega) (by omega)
    have i5 : vp_in (nI r) 5 := vp_in_nI (by omega) (by omega)
    by_cases hc : cr r = 0
    · refine ⟨ho (r * 8 + k), fun post hp => ?_, fun post hp => ?_⟩
      · unfold wpX_held
        refine zx_place1 hr hk h2 h4 ?_
        refine br_f (by decide) ?_
        refine zx_up1 hr h2 hup hc ?_
        refine br_f (by decide) ?_
        rw [zr_8, e8]
        exact ⟨i8, hp⟩
      · unfold wpY_held
        refine zy_out0 hr hk h2 h4 ?_
        refine br_t rfl ⟨i5, ?_⟩
        rw [er]
        refine br_t hc ?_
        exact zy_holds hsz hut huq hr (hho r k hr hk) hp
    · refine ⟨-3, fun post hp => ?_, fun post hp => ?_⟩
      · unfold wpX_held
        refine zx_place1 hr hk h2 h4 ?_
        refine br_f (by decide) ?_
        refine zx_up0 hr h2 hup hc ?_
        exact br_t rfl hp
      · unfold wpY_held
        refine zy_out0 hr hk h2 h4 ?_
        refine br_t rfl ⟨i5, ?_⟩
        rw [er]
        exact br_f hc hp
  · refine ⟨-2, fun post hp => ?_, fun post hp => ?_⟩
    · unfold wpX_held
      refine zx_place0 h2 hv ?_
      exact br_t rfl hp
    · unfold wpY_held
      refine zy_out1 hv ?_
      exact br_f (by decide) hp
theorem zo_latest (I : zr_inv R K L S vw mb up ky sr vl bs sp an cs se la ho kn ga gs wi cr re go kw yg iz ms) (v1 : Int32) : zr_oua (fun post => wpX_latest post (nI R, nI K, nI L, nI S, vw, mb, up, ky, sr, vl, bs, sp, an, cs, se, la, ho, kn, ga, gs, wi) v1) (fun post => wpY_latest post (nI R, nI K, nI L, nI S, vw, ky, sr, vl, bs, an, cs, se, cr, re, go, kw, yg, iz, ms) v1) := by
  have I0 := I
  obtain ⟨hsz, hup, hmb, hsb, hut, huq, hla, hho, hkn, hkw, hga, hgs, hwi, hms, hne, how, hyu, han, ha3⟩ := I
  have hsz0 := hsz
  obtain ⟨h1, h2, h3, h4, h5, h6, h7⟩ := hsz0
  rcases pk_ix v1 (n := K) (by omega) with a | a | ⟨k, hk, rfl⟩
  · refine ⟨-2, fun post hp => ?_, fun post hp => ?_⟩
    · unfold wpX_latest
      refine zx_key0 (Or.inl a) ?_
      exact br_t rfl hp
    · unfold wpY_latest
      refine zy_out1 (Or.inr (Or.inl a)) ?_
      exact br_f (by decide) hp
  · refine ⟨-2, fun post hp => ?_, fun post hp => ?_⟩
    · unfold wpX_latest
      refine zx_key0 (Or.inr a) ?_
      exact br_t rfl hp
    · unfold wpY_latest
      refine zy_out1 (Or.inr (Or.inr a)) ?_
      exact br_f (by decide) hp
  · refine ⟨la k, fun post hp => ?_, fun post hp => zy_latest hsz hut huq hk (hla k hk) hp⟩
    unfold wpX_latest
    refine zx_key1 hk h4 ?_
    refine br_f (by decide) ⟨vp_in_nI (by omega) (by omega), ?_⟩
    rw [nI_clamp (by omega)]
    exact hp
theorem zo_state (I : zr_inv R K L S vw mb up ky sr vl bs sp an cs se la ho kn ga gs wi cr re go kw yg iz ms) (v1 v2 : Int32) : zr_oua (fun post => wpX_state post (nI R, nI K, nI L, nI S, vw, mb, up, ky, sr, vl, bs, sp, an, cs, se, la, ho, kn, ga, gs, wi) v1 v2) (fun post => wpY_state post (nI R, nI K, nI L, nI S, vw, ky, sr, vl, bs, an, cs, se, cr, re, go, kw, yg, iz, ms) v1 v2) := by
  have I0 := I
  obtain ⟨hsz, hup, hmb, hsb, hut, huq, hla, hho, hkn, hkw, hga, hgs, hwi, hms, hne, how, hyu, han, ha3⟩ := I
  have hsz0 := hsz
  obtain ⟨h1, h2, h3, h4, h5, h6, h7⟩ := hsz0
  rcases zb_place h2 h4 v1 v2 with ⟨r, k, hr, hk, rfl, rfl⟩ | hv
  · have e8 : (nI (r * 8 + k)).toNatClampNeg = r * 8 + k := nI_clamp (by omega)
    have er : (nI r).toNatClampNeg = r := nI_clamp (by omega)
    have i8 : vp_in (nI (r * 8 + k)) 40 := vp_in_nI (by omega) (by omega)
    have i5 : vp_in (nI r) 5 := vp_in_nI (by omega) (by omega)
    by_cases hm : re r = 0
    · have hm' : ¬ ((mb >>> (nI r &&& 31)) &&& 1) = 0 := fun z => (zr_bit mb (n := r) (by omega)).mp z ((hmb r (by omega)).mpr ⟨hr, hm⟩)
      by_cases hc : cr r = 0
      · by_cases hn : kn (r * 8 + k) = 0
        · rcases hga r k hr hk with hg | ⟨j, hj, eg, hkj, hyj, hg⟩
          · refine ⟨1, fun post hp => ?_, fun post hp => ?_⟩
            · unfold wpX_state
              refine zx_place1 hr hk h2 h4 ?_
              refine br_f (by decide) (br_f hm' ?_)
              refine zx_up1 hr h2 hup hc ?_
              refine br_f (by decide) (nm_r (zr_8 r k) ?_)
              rw [e8]
              exact ⟨i8, br_t hn ⟨i8, nm_e (br_t hg.1 hp)⟩⟩
            · unfold wpY_state
              refine zy_out0 hr hk h2 h4 ?_
              refine br_t rfl ⟨i5, ?_⟩
              rw [er]
              refine br_t hm ⟨i5, br_t hc ?_⟩
              refine zy_valid hsz hut huq hr hk hho hkn (fun _ => ?_) (fun z => absurd hn z)
              refine br_t rfl ?_
              refine zy_gathersFor hsz hr (hga r k hr hk) ?_
              exact br_t hg.1 hp
          · have ej : (nI j).toNatClampNeg = j := nI_clamp (by omega)
            have i24 : vp_in (nI j) 24 := vp_in_nI (by omega) (by omega)
            have hne1 : ¬ nI j = -1 := zr_ne1 (by omega)
            refine ⟨if sr j = nI r then (if ho (r * 8 + k) = nI j then 2 else 4) else 3, fun post hp => ?_, fun post hp => ?_⟩
            · unfold wpX_state
              refine zx_place1 hr hk h2 h4 ?_
              refine br_f (by decide) (br_f hm' ?_)
              refine zx_up1 hr h2 hup hc ?_
              refine br_f (by decide) (nm_r (zr_8 r k) ?_)
              rw [e8]
              refine ⟨i8, br_t hn ⟨i8, nm_r eg (br_f hne1 ⟨i24, ?_⟩)⟩⟩
              rw [ej]
              by_cases hsr : sr j = nI r
              · rw [if_pos hsr] at hp
                refine br_t hsr ⟨i8, ?_⟩
                by_cases hh : ho (r * 8 + k) = nI j
                · rw [if_pos hh] at hp; exact br_t hh hp
                · rw [if_neg hh] at hp; exact br_f hh hp
              · rw [if_neg hsr] at hp
                exact br_f hsr hp
            · unfold wpY_state
              refine zy_out0 hr hk h2 h4 ?_
              refine br_t rfl ⟨i5, ?_⟩
              rw [er]
              refine br_t hm ⟨i5, br_t hc ?_⟩
              refine zy_valid hsz hut huq hr hk hho hkn (fun _ => ?_) (fun z => absurd hn z)
              refine br_t rfl ?_
              refine zy_gathersFor hsz hr (hga r k hr hk) ?_
              rw [eg]
              refine br_f hne1 ⟨i24, ?_⟩
              rw [ej]
              by_cases hsr : sr j = nI r
              · rw [if_pos hsr] at hp
                refine br_t hsr ?_
                refine zy_holds hsz hut huq hr (hho r k hr hk) ?_
                by_cases hh : ho (r * 8 + k) = nI j
                · rw [if_pos hh] at hp; exact br_t hh hp
                · rw [if_neg hh] at hp; exact br_f hh hp
              · rw [if_neg hsr] at hp
                exact br_f hsr hp
        · refine ⟨0, fun post hp => ?_, fun post hp => ?_⟩
          · unfold wpX_state
            refine zx_place1 hr hk h2 h4 ?_
            refine br_f (by decide) (br_f hm' ?_)
            refine zx_up1 hr h2 hup hc ?_
            refine br_f (by decide) (nm_r (zr_8 r k) ?_)
            rw [e8]
            exact ⟨i8, br_f hn hp⟩
          · unfold wpY_state
            refine zy_out0 hr hk h2 h4 ?_
            refine br_t rfl ⟨i5, ?_⟩
            rw [er]
            refine br_t hm ⟨i5, br_t hc ?_⟩
            refine zy_valid hsz hut huq hr hk hho hkn (fun z => absurd z hn) (fun _ => ?_)
            exact br_f (by decide) hp
      · refine ⟨5, fun post hp => ?_, fun post hp => ?_⟩
        · unfold wpX_state
          refine zx_place1 hr hk h2 h4 ?_
          refine br_f (by decide) (br_f hm' ?_)
          refine zx_up0 hr h2 hup hc ?_
          exact br_t rfl hp
        · unfold wpY_state
          refine zy_out0 hr hk h2 h4 ?_
          refine br_t rfl ⟨i5, ?_⟩
          rw [er]
          exact br_t hm ⟨i5, br_f hc hp⟩
    · have hm' : ((mb >>> (nI r &&& 31)) &&& 1) = 0 := (zr_bit mb (n := r) (by omega)).mpr (fun z => hm ((hmb r (by omega)).mp z).2)
      refine ⟨6, fun post hp => ?_, fun post hp => ?_⟩
      · unfold wpX_state
        refine zx_place1 hr hk h2 h4 ?_
        exact br_f (by decide) (br_t hm' hp)
      · unfold wpY_state
        refine zy_out0 hr hk h2 h4 ?_
        refine br_t rfl ⟨i5, ?_⟩
        rw [er]
        exact br_f hm hp
  · refine ⟨-2, fun post hp => ?_, fun post hp => ?_⟩
    · unfold wpX_state
      refine zx_place0 h2 hv ?_
      exact br_t rfl hp
    · unfold wpY_state
      refine zy_out1 hv ?_
      exact br_f (by decide) hp
end
end
section
/-! messages under way; detail, gathered, underWay -/
section
variable {R K L S : Nat} {vw mb up : Int32} {ky sr vl bs sp an cs se la ho kn ga gs wi cr re go kw yg iz ms : Nat → Int32}
theorem zr_lt3 {v : Int32} (h : nI 3 ≤ v) : (2 : Int32) < v := by
  rw [Int32.lt_iff_toInt_lt]
  rw [Int32.le_iff_toInt_le] at h
  have h3 : (nI 3).toInt = 3 := by decide
  have h2 : (2 : Int32).toInt = 2 := by decide
  omega
theorem zy_place {c u a b : Nat} {post : Int32 → Prop} (h : post (nI (((c * 24 + u) * 5 + a) * 5 + b))) : wpY_place post (nI R, nI K, nI L, nI S, vw, ky, sr, vl, bs, an, cs, se, cr, re, go, kw, yg, iz, ms) (nI c) (nI u) (nI a) (nI b) := by
  show post ((((nI c * 24 + nI u) * 5 + nI a) * 5) + nI b)
  rw [zr_24, zr_5, zr_5]
  exact h
theorem zy_there {c u a b : Nat} (hs : zr_sz R K L S) (hms : zr_msg R S cr se ms) (hc : c < 3) (hu : u < S) (ha : a < R) (hb : b < R) {post : Int32 → Prop}
    (h : post (ms (((c * 24 + u) * 5 + a) * 5 + b))) : wpY_there post (nI R, nI K, nI L, nI S, vw, ky, sr, vl, bs, an, cs, se, cr, re, go, kw, yg, iz, ms) (nI c) (nI u) (nI a) (nI b) := by
  obtain ⟨h1, h2, h3, h4, h5, h6, h7⟩ := hs
  refine br_f (nI_pos (by omega)) (br_f (nI_nlt (b := c) (a := 2) (by omega) (by omega)) (br_f (nI_pos (by omega)) (br_t (nI_lt hu (by omega)) (br_f (nI_pos (by omega)) (br_f (nI_ge ha (by omega)) (br_f (nI_pos (by omega)) (br_t (nI_lt hb (by omega)) ?_)))))))
  refine zy_place ?_
  rw [nI_clamp (by omega)]
  refine ⟨vp_in_nI (by omega) (by omega), ?_, h⟩
  rcases hms c a b u hc ha hb (by omega) with e | ⟨e, _⟩
  · rw [e]; rfl
  · rw [e]; rfl
theorem zx_uw0 {c u a b : Nat} (hs : zr_sz R K L S) (hwi : zr_wir R S ms wi) (hc : c < 3) (hu : u < S) (ha : a < R) (hb : b < R) {post : Int32 → Prop}
    (hm : ms (((c * 24 + u) * 5 + a) * 5 + b) = 0) (h : post 0) : wpX_isUnderWay post (nI R, nI K, nI L, nI S, vw, mb, up, ky, sr, vl, bs, sp, an, cs, se, la, ho, kn, ga, gs, wi) (nI c) (nI u) (nI a) (nI b) := by
  obtain ⟨h1, h2, h3, h4, h5, h6, h7⟩ := hs
  unfold wpX_isUnderWay
  refine zx_kind1 hc ?_
  refine br_f (by decide) ?_
  refine zx_upd1 hu (by omega) ?_
  refine br_f (by decide) ?_
  refine zx_rep1 ha h2 ?_
  refine br_f (by decide) ?_
  refine zx_rep1 hb h2 ?_
  refine br_f (by decide) ?_
  rw [zr_5, zr_5, nI_clamp (n := (c * 5 + a) * 5 + b) (by omega)]
  refine ⟨vp_in_nI (by omega) (by omega), br_t ?_ h⟩
  rw [zr_bit _ (by omega)]
  intro z
  exact ((hwi c a b hc ha hb u (by omega)).mp z).2 hm
theorem zx_uw1 {c u a b : Nat} (hs : zr_sz R K L S) (hwi : zr_wir R S ms wi) (hc : c < 3) (hu : u < S) (ha : a < R) (hb : b < R) {post : Int32 → Prop}
    (hm : ms (((c * 24 + u) * 5 + a) * 5 + b) ≠ 0) (h : post 1) : wpX_isUnderWay post (nI R, nI K, nI L, nI S, vw, mb, up, ky, sr, vl, bs, sp, an, cs, se, la, ho, kn, ga, gs, wi) (nI c) (nI u) (nI a) (nI b) := by
  obtain ⟨h1, h2, h3, h4, h5, h6, h7⟩ := hs
  unfold wpX_isUnderWay
  refine zx_kind1 hc ?_
  refine br_f (by decide) ?_
  refine zx_upd1 hu (by omega) ?_
  refine br_f (by decide) ?_
  refine zx_rep1 ha h2 ?_
  refine br_f (by decide) ?_
  refine zx_rep1 hb h2 ?_
  refine br_f (by decide) ?_
  rw [zr_5, zr_5, nI_clamp (n := (c * 5 + a) * 5 + b) (by omega)]
  refine ⟨vp_in_nI (by omega) (by omega), br_f ?_ h⟩
  rw [zr_bit _ (by omega)]
  intro z
  exact z ((hwi c a b hc ha hb u (by omega)).mpr ⟨hu, hm⟩)
/-- a message's place in range, or the same 'no' on both sides -/
theorem zb_uw (hs : zr_sz R K L S) (v1 v2 v3 v4 : Int32) : (∃ c u a b, c < 3 ∧ u < S ∧ a < R ∧ b < R ∧ v1 = nI c ∧ v2 = nI u ∧ v3 = nI a ∧ v4 = nI b) ∨
    ((∀ post : Int32 → Prop, post 0 → wpX_isUnderWay post (nI R, nI K, nI L, nI S, vw, mb, up, ky, sr, vl, bs, sp, an, cs, se, la, ho, kn, ga, gs, wi) v1 v2 v3 v4) ∧ (∀ post : Int32 → Prop, post 0 → wpY_there post (nI R, nI K, nI L, nI S, vw, ky, sr, vl, bs, an, cs, se, cr, re, go, kw, yg, iz, ms) v1 v2 v3 v4)) := by
  obtain ⟨h1, h2, h3, h4, h5, h6, h7⟩ := hs
  have hK : v1 < 0 ∨ 2 < v1 ∨ ∃ c, c < 3 ∧ v1 = nI c := by
    rcases pk_ix v1 (n := 3) (by omega) with e | e | e
    · exact Or.inl e
    · exact Or.inr (Or.inl (zr_lt3 e))
    · exact Or.inr (Or.inr e)
  rcases hK with e | e | ⟨c, hc, rfl⟩
  · refine Or.inr ⟨fun post hp => ?_, fun post hp => br_t e hp⟩
    unfold wpX_isUnderWay
    refine zx_kind0 (Or.inl e) ?_
    exact br_t rfl hp
  · refine Or.inr ⟨fun post hp => ?_, fun post hp => br_c (fun _ => hp) (fun _ => br_t e hp)⟩
    unfold wpX_isUnderWay
    refine zx_kind0 (Or.inr e) ?_
    exact br_t rfl hp
  · have k0 : ¬ nI c < 0 := nI_pos (by omega)
    have k2 : ¬ (2 : Int32) < nI c := nI_nlt (b := c) (a := 2) (by omega) (by omega)
    rcases pk_ix v2 (n := S) (by omega) with e | e | ⟨u, hu, rfl⟩
    · refine Or.inr ⟨fun post hp => ?_, fun post hp => br_f k0 (br_f k2 (br_t e hp))⟩
      unfold wpX_isUnderWay
      refine zx_kind1 hc ?_
      refine br_f (by decide) ?_
      refine zx_upd0 (Or.inl e) ?_
      exact br_t rfl hp
    · refine Or.inr ⟨fun post hp => ?_, fun post hp => br_f k0 (br_f k2 (br_c (fun _ => hp) (fun _ => br_f (Int32.not_lt.mpr e) hp)))⟩
      unfold wpX_isUnderWay
      refine zx_kind1 hc ?_
      refine br_f (by decide) ?_
      refine zx_upd0 (Or.inr e) ?_
      exact br_t rfl hp
    · have u0 : ¬ nI u < 0 := nI_pos (by omega)
      have u1 : nI u < nI S := nI_lt hu (by omega)
      rcases pk_ix v3 (n := R) (by omega) with e | e | ⟨a, ha, rfl⟩
      · refine Or.inr ⟨fun post hp => ?_, fun post hp => br_f k0 (br_f k2 (br_f u0 (br_t u1 (br_t e hp))))⟩
        unfold wpX_isUnderWay
        refine zx_kind1 hc ?_
        refine br_f (by decide) ?_
        refine zx_upd1 hu (by omega) ?_
        refine br_f (by decide) ?_
        refine zx_rep0 (Or.inl e) ?_
        exact br_t rfl hp
      · refine Or.inr ⟨fun post hp => ?_, fun post hp => br_f k0 (br_f k2 (br_f u0 (br_t u1 (br_c (fun _ => hp) (fun _ => br_t e hp)))))⟩
        unfold wpX_isUnderWay
        refine zx_kind1 hc ?_
        refine br_f (by decide) ?_
        refine zx_upd1 hu (by omega) ?_
        refine br_f (by decide) ?_
        refine zx_rep0 (Or.inr e) ?_
        exact br_t rfl hp
      · have a0 : ¬ nI a < 0 := nI_pos (by omega)
        have a1 : ¬ nI R ≤ nI a := nI_ge ha (by omega)
        rcases pk_ix v4 (n := R) (by omega) with e | e | ⟨b, hb, rfl⟩
        · refine Or.inr ⟨fun post hp => ?_, fun post hp => br_f k0 (br_f k2 (br_f u0 (br_t u1 (br_f a0 (br_f a1 (br_t e hp))))))⟩
          unfold wpX_isUnderWay
          refine zx_kind1 hc ?_
          refine br_f (by decide) ?_
          refine zx_upd1 hu (by omega) ?_
          refine br_f (by decide) ?_
          refine zx_rep1 ha h2 ?_
          refine br_f (by decide) ?_
          refine zx_rep0 (Or.inl e) ?_
          exact br_t rfl hp
        · refine Or.inr ⟨fun post hp => ?_, fun post hp => br_f k0 (br_f k2 (br_f u0 (br_t u1 (br_f a0 (br_f a1 (br_c (fun _ => hp) (fun _ => br_f (Int32.not_lt.mpr e) hp)))))))⟩
          unfold wpX_isUnderWay
          refine zx_kind1 hc ?_
          refine br_f (by decide) ?_
          refine zx_upd1 hu (by omega) ?_
          refine br_f (by decide) ?_
          refine zx_rep1 ha h2 ?_
          refine br_f (by decide) ?_
          refine zx_rep0 (Or.inr e) ?_
          exact br_t rfl hp
        · exact Or.inl ⟨c, u, a, b, hc, hu, ha, hb, rfl, rfl, rfl, rfl⟩
theorem zo_detail (I : zr_inv R K L S vw mb up ky sr vl bs sp an cs se la ho kn ga gs wi cr re go kw yg iz ms) (v1 v2 : Int32) : zr_oua (fun post => wpX_detail post (nI R, nI K, nI L, nI S, vw, mb, up, ky, sr, vl, bs, sp, an, cs, se, la, ho, kn, ga, gs, wi) v1 v2) (fun post => wpY_detail post (nI R, nI K, nI L, nI S, vw, ky, sr, vl, bs, an, cs, se, cr, re, go, kw, yg, iz, ms) v1 v2) := by
  have I0 := I
  obtain ⟨hsz, hup, hmb, hsb, hut, huq, hla, hho, hkn, hkw, hga, hgs, hwi, hms, hne, how, hyu, han, ha3⟩ := I
  have hsz0 := hsz
  obtain ⟨h1, h2, h3, h4, h5, h6, h7⟩ := hsz0
  rcases pk_ix v1 (n := S) (by omega) with a | a | ⟨u, hu, rfl⟩
  · refine ⟨-2, fun post hp => ?_, fun post hp => br_t a hp⟩
    unfold wpX_detail
    refine zx_upd0 (Or.inl a) ?_
    exact br_t rfl hp
  · refine ⟨-2, fun post hp => ?_, fun post hp => br_c (fun _ => hp) (fun _ => br_f (Int32.not_lt.mpr a) hp)⟩
    unfold wpX_detail
    refine zx_upd0 (Or.inr a) ?_
    exact br_t rfl hp
  · have eu : (nI u).toNatClampNeg = u := nI_clamp (by omega)
    have iu : vp_in (nI u) 24 := vp_in_nI (by omega) (by omega)
    have u0 : ¬ nI u < 0 := nI_pos (by omega)
    have u1 : nI u < nI S := nI_lt hu (by omega)
    by_cases e0 : v2 = 0
    · subst e0
      refine ⟨an u, fun post hp => ?_, fun post hp => br_f u0 (br_t u1 (br_t rfl ⟨iu, by rw [eu]; exact hp⟩))⟩
      unfold wpX_detail
      refine zx_upd1 hu (by omega) ?_
      exact br_f (by decide) (br_f (by decide) (br_f (by decide) (br_t rfl ⟨iu, by rw [eu]; exact hp⟩)))
    by_cases e1 : v2 = 1
    · subst e1
      refine ⟨sp u, fun post hp => ?_, fun post hp => br_f u0 (br_t u1 (br_f e0 (br_t rfl ?_)))⟩
      · unfold wpX_detail
        refine zx_upd1 hu (by omega) ?_
        exact br_f (by decide) (br_f (by decide) (br_f (by decide) (br_f e0 (br_t rfl ⟨iu, by rw [eu]; exact hp⟩))))
      · refine zy_stamp (by omega) hut (Or.inr ⟨u, hu, rfl⟩) ?_
        rw [zr_st_j (by omega)]
        exact hp
    by_cases e2 : v2 = 2
    · subst e2
      refine ⟨vl u, fun post hp => ?_, fun post hp => br_f u0 (br_t u1 (br_f e0 (br_f e1 (br_t rfl ⟨iu, by rw [eu]; exact hp⟩))))⟩
      unfold wpX_detail
      refine zx_upd1 hu (by omega) ?_
      exact br_f (by decide) (br_f (by decide) (br_f (by decide) (br_f e0 (br_f e1 (br_t rfl ⟨iu, by rw [eu]; exact hp⟩)))))
    by_cases e3 : v2 = 3
    · subst e3
      refine ⟨ky u, fun post hp => ?_, fun post hp => br_f u0 (br_t u1 (br_f e0 (br_f e1 (br_f e2 (br_t rfl ⟨iu, by rw [eu]; exact hp⟩)))))⟩
      unfold wpX_detail
      refine zx_upd1 hu (by omega) ?_
      exact br_f (by decide) (br_f (by decide) (br_f (by decide) (br_f e0 (br_f e1 (br_f e2 (br_t rfl ⟨iu, by rw [eu]; exact hp⟩))))))
    by_cases e4 : v2 = 4
    · subst e4
      refine ⟨sr u, fun post hp => ?_, fun post hp => br_f u0 (br_t u1 (br_f e0 (br_f e1 (br_f e2 (br_f e3 (br_t rfl ⟨iu, by rw [eu]; exact hp⟩))))))⟩
      unfold wpX_detail
      refine zx_upd1 hu (by omega) ?_
      exact br_f (by decide) (br_f (by decide) (br_f (by decide) (br_f e0 (br_f e1 (br_f e2 (br_f e3 (br_t rfl ⟨iu, by rw [eu]; exact hp⟩)))))))
    by_cases e5 : v2 = 5
    · subst e5
      by_cases hse : se u = 0
      · refine ⟨0, fun post hp => ?_, fun post hp => br_f u0 (br_t u1 (br_f e0 (br_f e1 (br_f e2 (br_f e3 (br_f e4 (br_t rfl ⟨iu, br_t (by rw [eu]; exact hse) hp⟩)))))))⟩
        unfold wpX_detail
        refine zx_upd1 hu (by omega) ?_
        exact br_f (by decide) (br_f (by decide) (br_f (by decide) (br_f e0 (br_f e1 (br_f e2 (br_f e3 (br_f e4 (br_t rfl ⟨iu, br_t (by rw [eu]; exact hse) hp⟩))))))))
      · refine ⟨1, fun post hp => ?_, fun post hp => br_f u0 (br_t u1 (br_f e0 (br_f e1 (br_f e2 (br_f e3 (br_f e4 (br_t rfl ⟨iu, br_f (by rw [eu]; exact hse) hp⟩)))))))⟩
        unfold wpX_detail
        refine zx_upd1 hu (by omega) ?_
        exact br_f (by decide) (br_f (by decide) (br_f (by decide) (br_f e0 (br_f e1 (br_f e2 (br_f e3 (br_f e4 (br_t rfl ⟨iu, br_f (by rw [eu]; exact hse) hp⟩))))))))
    by_cases e6 : v2 = 6
    · subst e6
      refine ⟨bs u, fun post hp => ?_, fun post hp => br_f u0 (br_t u1 (br_f e0 (br_f e1 (br_f e2 (br_f e3 (br_f e4 (br_f e5 (br_t rfl ⟨iu, by rw [eu]; exact hp⟩))))))))⟩
      unfold wpX_detail
      refine zx_upd1 hu (by omega) ?_
      exact br_f (by decide) (br_f (by decide) (br_f (by decide) (br_f e0 (br_f e1 (br_f e2 (br_f e3 (br_f e4 (br_f e5 (br_t rfl ⟨iu, by rw [eu]; exact hp⟩)))))))))
    · refine ⟨-2, fun post hp => ?_, fun post hp => br_f u0 (br_t u1 (br_f e0 (br_f e1 (br_f e2 (br_f e3 (br_f e4 (br_f e5 (br_f e6 hp))))))))⟩
      unfold wpX_detail
      refine zx_upd1 hu (by omega) ?_
      exact br_f (by decide) (br_c (fun _ => hp) (fun _ => br_c (fun _ => hp) (fun _ => br_f e0 (br_f e1 (br_f e2 (br_f e3 (br_f e4 (br_f e5 (br_f e6 trivial)))))))))
theorem zy_gathered_l {r j : Nat} (hs : zr_sz R K L S) (hr : r < R) (hj : j < S) {G : Int32} (hG : ∀ i, i < 32 → (bt G i = true ↔ (i < R ∧ iz ((r * 24 + j) * 5 + i) ≠ 0)))
    {post : Int32 → Prop} (hp : post G) : ∀ (n i : Nat) (A : Int32), i ≤ R → R - i < n → (∀ b, b < 32 → (bt A b = true ↔ (b < i ∧ iz ((r * 24 + j) * 5 + b) ≠ 0))) →
      wY_gathered_37 post (nI r) (nI j) (nI R) (nI K) (nI L) (nI S) vw ky sr vl bs an cs se cr re go kw yg iz ms n A (nI i) := by
  obtain ⟨h1, h2, h3, h4, h5, h6, h7⟩ := hs
  intro n
  induction n with
  | zero => intro i A _ h; omega
  | succ n ih =>
    intro i A hi hn hA
    by_cases he : i = R
    · subst he
      have e : A = G := zr_bx (fun b hb => by rw [hA b hb, hG b hb])
      rw [e]
      exact br_t (nI_le (by omega) (by omega)) hp
    · refine br_f (nI_ge (by omega) (by omega)) (br_f (zr_ne1 (by omega)) ?_)
      rw [zr_24, zr_5, nI_clamp (n := (r * 24 + j) * 5 + i) (by omega)]
      refine ⟨vp_in_nI (by omega) (by omega), ?_⟩
      by_cases hz : iz ((r * 24 + j) * 5 + i) = 0
      · refine br_t hz (nm_r (nI_1 i) (ih (i + 1) A (by omega) (by omega) ?_))
        intro b hb
        rw [hA b hb]
        constructor
        · intro z; exact ⟨by omega, z.2⟩
        · intro z
          refine ⟨?_, z.2⟩
          rcases Nat.lt_or_ge b i with y | y
          · exact y
          · exact absurd hz (by rw [show i = b from by omega]; exact z.2)
      · have hb0 : ¬ bt A i = true := fun z => by
          have := ((hA i (by omega)).mp z).1
          omega
        refine br_f hz (nm_r (zr_addor (by omega) hb0) (nm_r (nI_1 i) (ih (i + 1) _ (by omega) (by omega) ?_)))
        intro b hb
        rw [zr_or, hA b hb, zr_sl (by omega) hb]
        constructor
        · rintro (z | z)
          · exact ⟨by omega, z.2⟩
          · rw [z]; exact ⟨by omega, hz⟩
        · intro z
          rcases Nat.lt_or_ge b i with y | y
          · exact Or.inl ⟨y, z.2⟩
          · exact Or.inr (by omega)
theorem zo_gathered (I : zr_inv R K L S vw mb up ky sr vl bs sp an cs se la ho kn ga gs wi cr re go kw yg iz ms) (v1 v2 : Int32) : zr_oua (fun post => wpX_gathered post (nI R, nI K, nI L, nI S, vw, mb, up, ky, sr, vl, bs, sp, an, cs, se, la, ho, kn, ga, gs, wi) v1 v2) (fun post => wpY_gathered post (nI R, nI K, nI L, nI S, vw, ky, sr, vl, bs, an, cs, se, cr, re, go, kw, yg, iz, ms) v1 v2) := by
  have I0 := I
  obtain ⟨hsz, hup, hmb, hsb, hut, huq, hla, hho, hkn, hkw, hga, hgs, hwi, hms, hne, how, hyu, han, ha3⟩ := I
  have hsz0 := hsz
  obtain ⟨h1, h2, h3, h4, h5, h6, h7⟩ := hsz0
  rcases zb_place h2 h4 v1 v2 with ⟨r, k, hr, hk, rfl, rfl⟩ | hv
  · have e8 : (nI (r * 8 + k)).toNatClampNeg = r * 8 + k := nI_clamp (by omega)
    have er : (nI r).toNatClampNeg = r := nI_clamp (by omega)
    have i8 : vp_in (nI (r * 8 + k)) 40 := vp_in_nI (by omega) (by omega)
    have i5 : vp_in (nI r) 5 := vp_in_nI (by omega) (by omega)
    by_cases hc : cr r = 0
    · refine ⟨gs (r * 8 + k), fun post hp => ?_, fun post hp => ?_⟩
      · unfold wpX_gathered
        refine zx_place1 hr hk h2 h4 ?_
        refine br_f (by decide) ?_
        refine zx_up1 hr h2 hup hc ?_
        refine br_f (by decide) ?_
        rw [zr_8, e8]
        exact ⟨i8, hp⟩
      · unfold wpY_gathered
        refine zy_out0 hr hk h2 h4 ?_
        refine br_t rfl ⟨i5, ?_⟩
        rw [er]
        refine br_t hc ?_
        refine zy_gathersFor hsz hr (hga r k hr hk) ?_
        rcases hga r k hr hk with hg | ⟨j, hj, eg, hkj, hyj, hg⟩
        · rw [hg.1]
          refine ⟨1, br_f (nI_ge (a := 0) (by omega) (by omega)) (br_t rfl ?_)⟩
          rw [(hgs r k hr hk).1 hg.1] at hp
          exact hp
        · rw [eg]
          refine ⟨R + 1, zy_gathered_l hsz hr hj ((hgs r k hr hk).2 j hj eg) hp (R + 1) 0 0 (by omega) (by omega) ?_⟩
          intro b hb
          exact ⟨fun z => absurd z zr_0, fun z => by omega⟩
    · refine ⟨-3, fun post hp => ?_, fun post hp => ?_⟩
      · unfold wpX_gathered
        refine zx_place1 hr hk h2 h4 ?_
        refine br_f (by decide) ?_
        refine zx_up0 hr h2 hup hc ?_
        exact br_t rfl hp
      · unfold wpY_gathered
        refine zy_out0 hr hk h2 h4 ?_
        refine br_t rfl ⟨i5, ?_⟩
        rw [er]
        exact br_f hc hp
  · refine ⟨-2, fun post hp => ?_, fun post hp => ?_⟩
    · unfold wpX_gathered
      refine zx_place0 h2 hv ?_
      exact br_t rfl hp
    · unfold wpY_gathered
      refine zy_out1 hv ?_
      exact br_f (by decide) hp
theorem zy_underWay_l {c a b : Nat} (hs : zr_sz R K L S) (hms : zr_msg R S cr se ms) (hc : c < 3) (ha : a < R) (hb : b < R) {G : Int32}
    (hG : ∀ i, i < 32 → (bt G i = true ↔ (i < S ∧ ms (((c * 24 + i) * 5 + a) * 5 + b) ≠ 0)))
    {post : Int32 → Prop} (hp : post G) : ∀ (n i : Nat) (A : Int32), i ≤ S → S - i < n → (∀ u, u < 32 → (bt A u = true ↔ (u < i ∧ ms (((c * 24 + u) * 5 + a) * 5 + b) ≠ 0))) →
      wY_underWay_36 post (nI c) (nI a) (nI b) (nI R) (nI K) (nI L) (nI S) vw ky sr vl bs an cs se cr re go kw yg iz ms n A (nI i) := by
  have hs' := hs
  obtain ⟨h1, h2, h3, h4, h5, h6, h7⟩ := hs'
  intro n
  induction n with
  | zero => intro i A _ h; omega
  | succ n ih =>
    intro i A hi hn hA
    by_cases he : i = S
    · subst he
      have e : A = G := zr_bx (fun b hb => by rw [hA b hb, hG b hb])
      rw [e]
      exact br_t (nI_le (by omega) (by omega)) hp
    · refine br_f (nI_ge (by omega) (by omega)) ?_
      refine zy_there hs hms hc (by omega) ha hb ?_
      by_cases hz : ms (((c * 24 + i) * 5 + a) * 5 + b) = 0
      · refine br_t hz (nm_r (nI_1 i) (ih (i + 1) A (by omega) (by omega) ?_))
        intro u hu
        rw [hA u hu]
        constructor
        · intro z; exact ⟨by omega, z.2⟩
        · intro z
          refine ⟨?_, z.2⟩
          rcases Nat.lt_or_ge u i with y | y
          · exact y
          · exact absurd hz (by rw [show i = u from by omega]; exact z.2)
      · have hb0 : ¬ bt A i = true := fun z => by
          have := ((hA i (by omega)).mp z).1
          omega
        refine br_f hz (nm_r (zr_addor (by omega) hb0) (nm_r (nI_1 i) (ih (i + 1) _ (by omega) (by omega) ?_)))
        intro u hu
        rw [zr_or, hA u hu, zr_sl (by omega) hu]
        constructor
        · rintro (z | z)
          · exact ⟨by omega, z.2⟩
          · rw [z]; exact ⟨by omega, hz⟩
        · intro z
          rcases Nat.lt_or_ge u i with y | y
          · exact Or.inl ⟨y, z.2⟩
          · exact Or.inr (by omega)
theorem zo_underWay (I : zr_inv R K L S vw mb up ky sr vl bs sp an cs se la ho kn ga gs wi cr re go kw yg iz ms) (v1 v2 v3 : Int32) : zr_oua (fun post => wpX_underWay post (nI R, nI K, nI L, nI S, vw, mb, up, ky, sr, vl, bs, sp, an, cs, se, la, ho, kn, ga, gs, wi) v1 v2 v3) (fun post => wpY_underWay post (nI R, nI K, nI L, nI S, vw, ky, sr, vl, bs, an, cs, se, cr, re, go, kw, yg, iz, ms) v1 v2 v3) := by
  have I0 := I
  obtain ⟨hsz, hup, hmb, hsb, hut, huq, hla, hho, hkn, hkw, hga, hgs, hwi, hms, hne, how, hyu, han, ha3⟩ := I
  have hsz0 := hsz
  obtain ⟨h1, h2, h3, h4, h5, h6, h7⟩ := hsz0
  have hK : v1 < 0 ∨ 2 < v1 ∨ ∃ c, c < 3 ∧ v1 = nI c := by
    rcases pk_ix v1 (n := 3) (by omega) with e | e | e
    · exact Or.inl e
    · exact Or.inr (Or.inl (zr_lt3 e))
    · exact Or.inr (Or.inr e)
  rcases hK with e | e | ⟨c, hc, rfl⟩
  · refine ⟨-2, fun post hp => ?_, fun post hp => br_t e hp⟩
    unfold wpX_underWay
    refine zx_kind0 (Or.inl e) ?_
    exact br_t rfl hp
  · refine ⟨-2, fun post hp => ?_, fun post hp => br_c (fun _ => hp) (fun _ => br_t e hp)⟩
    unfold wpX_underWay
    refine zx_kind0 (Or.inr e) ?_
    exact br_t rfl hp
  · have k0 : ¬ nI c < 0 := nI_pos (by omega)
    have k2 : ¬ (2 : Int32) < nI c := nI_nlt (b := c) (a := 2) (by omega) (by omega)
    have V2 : (v2 < 0 ∨ nI R ≤ v2) ∨ ∃ a, a < R ∧ v2 = nI a := by
      rcases pk_ix v2 (n := R) (by omega) with e | e | e
      · exact Or.inl (Or.inl e)
      · exact Or.inl (Or.inr e)
      · exact Or.inr e
    have V3 : (v3 < 0 ∨ nI R ≤ v3) ∨ ∃ a, a < R ∧ v3 = nI a := by
      rcases pk_ix v3 (n := R) (by omega) with e | e | e
      · exact Or.inl (Or.inl e)
      · exact Or.inl (Or.inr e)
      · exact Or.inr e
    rcases V2 with e | ⟨a, ha, rfl⟩
    · refine ⟨-2, fun post hp => ?_, fun post hp => br_f k0 (br_f k2 ?_)⟩
      · unfold wpX_underWay
        refine zx_kind1 hc ?_
        refine br_f (by decide) ?_
        refine zx_rep0 e ?_
        exact br_t rfl hp
      · refine zy_out1 (Or.inl e) ?_
        exact br_f (by decide) hp
    · rcases V3 with e | ⟨b, hb, rfl⟩
      · refine ⟨-2, fun post hp => ?_, fun post hp => br_f k0 (br_f k2 ?_)⟩
        · unfold wpX_underWay
          refine zx_kind1 hc ?_
          refine br_f (by decide) ?_
          refine zx_rep1 ha h2 ?_
          refine br_f (by decide) ?_
          refine zx_rep0 e ?_
          exact br_t rfl hp
        · refine zy_out0 (k := 0) ha (by omega) h2 h4 ?_
          refine br_t rfl ?_
          refine zy_out1 (Or.inl e) ?_
          exact br_f (by decide) hp
      · refine ⟨wi ((c * 5 + a) * 5 + b), fun post hp => ?_, fun post hp => br_f k0 (br_f k2 ?_)⟩
        · unfold wpX_underWay
          refine zx_kind1 hc ?_
          refine br_f (by decide) ?_
          refine zx_rep1 ha h2 ?_
          refine br_f (by decide) ?_
          refine zx_rep1 hb h2 ?_
          refine br_f (by decide) ?_
          rw [zr_5, zr_5, nI_clamp (n := (c * 5 + a) * 5 + b) (by omega)]
          exact ⟨vp_in_nI (by omega) (by omega), hp⟩
        · refine zy_out0 (k := 0) ha (by omega) h2 h4 ?_
          refine br_t rfl ?_
          refine zy_out0 (k := 0) hb (by omega) h2 h4 ?_
          refine br_t rfl ⟨S + 1, zy_underWay_l hsz hms hc ha hb (hwi c a b hc ha hb) hp (S + 1) 0 0 (by omega) (by omega) ?_⟩
          intro u hu
          exact ⟨fun z => absurd z zr_0, fun z => by omega⟩
end
end
section
/-! messages are put on the wire -/
theorem zr_01 : (1 : Int32) ≠ 0 := by decide
section
variable {R K L S : Nat} {vw mb up : Int32} {ky sr vl bs sp an cs se la ho kn ga gs wi cr re go kw yg iz ms : Nat → Int32}
theorem zp_set {c a b u : Nat} (hs : zr_sz R K L S) (hwi : zr_wir R S ms wi) (hms : zr_msg R S cr se ms) (hc : c < 3) (ha : a < R) (hb : b < R) (hu : u < S) (hcb : cr b = 0) (h2 : c = 2 → se u ≠ 0) :
    zr_wir R S (upd ms (((c * 24 + u) * 5 + a) * 5 + b) 1) (upd wi ((c * 5 + a) * 5 + b) (wi ((c * 5 + a) * 5 + b) ||| ((1 : Int32) <<< (nI u &&& 31)))) ∧
    zr_msg R S cr se (upd ms (((c * 24 + u) * 5 + a) * 5 + b) 1) := by
  obtain ⟨h1, h2', h3, h4, h5, h6, h7⟩ := hs
  constructor
  · intro c' a' b' hc' ha' hb' i hi
    by_cases hiS : i < S
    · by_cases hcell : c' = c ∧ a' = a ∧ b' = b
      · obtain ⟨rfl, rfl, rfl⟩ := hcell
        rw [zr_s rfl, zr_or, zr_sl (by omega) hi, hwi c' a' b' hc' ha' hb' i hi]
        by_cases hiu : i = u
        · subst hiu
          rw [zr_s rfl]
          exact ⟨fun _ => ⟨hiS, zr_01⟩, fun _ => Or.inr rfl⟩
        · rw [zr_n (by omega)]
          exact ⟨fun z => z.resolve_right hiu, fun z => Or.inl z⟩
      · rw [zr_n (by omega), zr_n (by omega)]
        exact hwi c' a' b' hc' ha' hb' i hi
    · constructor
      · intro z
        exfalso
        by_cases hcell : c' = c ∧ a' = a ∧ b' = b
        · obtain ⟨rfl, rfl, rfl⟩ := hcell
          rw [zr_s rfl, zr_or, zr_sl (by omega) hi, hwi c' a' b' hc' ha' hb' i hi] at z
          omega
        · rw [zr_n (by omega), hwi c' a' b' hc' ha' hb' i hi] at z
          exact hiS z.1
      · intro z
        exact absurd z.1 hiS
  · intro c' a' b' u' hc' ha' hb' hu'
    by_cases e : ((c' * 24 + u') * 5 + a') * 5 + b' = ((c * 24 + u) * 5 + a) * 5 + b
    · have e1 : c' = c := by omega
      have e2 : u' = u := by omega
      have e3 : b' = b := by omega
      rw [zr_s e]
      subst e1 e2 e3
      exact Or.inr ⟨rfl, hu, hcb, h2⟩
    · rw [zr_n e]
      exact hms c' a' b' u' hc' ha' hb' hu'
theorem zp_clr {c a b u : Nat} (hs : zr_sz R K L S) (hwi : zr_wir R S ms wi) (hms : zr_msg R S cr se ms) (hc : c < 3) (ha : a < R) (hb : b < R) (hu : u < S) :
    zr_wir R S (upd ms (((c * 24 + u) * 5 + a) * 5 + b) 0) (upd wi ((c * 5 + a) * 5 + b) (wi ((c * 5 + a) * 5 + b) &&& (((1 : Int32) <<< (nI u &&& 31)) ^^^ (-1)))) ∧
    zr_msg R S cr se (upd ms (((c * 24 + u) * 5 + a) * 5 + b) 0) := by
  obtain ⟨h1, h2', h3, h4, h5, h6, h7⟩ := hs
  constructor
  · intro c' a' b' hc' ha' hb' i hi
    by_cases hiS : i < S
    · by_cases hcell : c' = c ∧ a' = a ∧ b' = b
      · obtain ⟨rfl, rfl, rfl⟩ := hcell
        rw [zr_s rfl, zr_and, zr_not hi, zr_sl (by omega) hi, hwi c' a' b' hc' ha' hb' i hi]
        by_cases hiu : i = u
        · subst hiu
          rw [zr_s rfl]
          exact ⟨fun z => absurd rfl z.2, fun z => absurd rfl z.2⟩
        · rw [zr_n (by omega)]
          exact ⟨fun z => z.1, fun z => ⟨z, hiu⟩⟩
      · rw [zr_n (by omega), zr_n (by omega)]
        exact hwi c' a' b' hc' ha' hb' i hi
    · constructor
      · intro z
        exfalso
        by_cases hcell : c' = c ∧ a' = a ∧ b' = b
        · obtain ⟨rfl, rfl, rfl⟩ := hcell
          rw [zr_s rfl, zr_and, hwi c' a' b' hc' ha' hb' i hi] at z
          exact hiS z.1.1
        · rw [zr_n (by omega), hwi c' a' b' hc' ha' hb' i hi] at z
          exact hiS z.1
      · intro z
        exact absurd z.1 hiS
  · intro c' a' b' u' hc' ha' hb' hu'
    by_cases e : ((c' * 24 + u') * 5 + a') * 5 + b' = ((c * 24 + u) * 5 + a) * 5 + b
    · rw [zr_s e]
      exact Or.inl rfl
    · rw [zr_n e]
      exact hms c' a' b' u' hc' ha' hb' hu'
/-- only wire and messages change -/
theorem zi_wm {wi' ms' : Nat → Int32} (I : zr_inv R K L S vw mb up ky sr vl bs sp an cs se la ho kn ga gs wi cr re go kw yg iz ms) (h : zr_wir R S ms' wi' ∧ zr_msg R S cr se ms') : zr_inv R K L S vw mb up ky sr vl bs sp an cs se la ho kn ga gs wi' cr re go kw yg iz ms' := by
  obtain ⟨hsz, hup, hmb, hsb, hut, huq, hla, hho, hkn, hkw, hga, hgs, hwi, hms, hne, how, hyu, han, ha3⟩ := I
  exact ⟨hsz, hup, hmb, hsb, hut, huq, hla, hho, hkn, hkw, hga, hgs, h.1, h.2, hne, how, hyu, han, ha3⟩
theorem zo_send {vy : Int32} {c u a b : Nat} (I : zr_inv R K L S vw mb up ky sr vl bs sp an cs se la ho kn ga gs wi cr re go kw yg iz ms) (hc : c < 3) (hu : u < S) (ha : a < R) (hb : b < R) (hv : c = 2 → se u ≠ 0) :
    ∃ wi' ms', zr_inv R K L S vw mb up ky sr vl bs sp an cs se la ho kn ga gs wi' cr re go kw yg iz ms' ∧ (∀ post : SX → Prop, post (nI R, nI K, nI L, nI S, vw, mb, up, ky, sr, vl, bs, sp, an, cs, se, la, ho, kn, ga, gs, wi') → wpX_send post (nI R, nI K, nI L, nI S, vw, mb, up, ky, sr, vl, bs, sp, an, cs, se, la, ho, kn, ga, gs, wi) (nI c) (nI u) (nI a) (nI b)) ∧
      (∀ post : SY → Prop, post (nI R, nI K, nI L, nI S, vy, ky, sr, vl, bs, an, cs, se, cr, re, go, kw, yg, iz, ms') → wpY_send post (nI R, nI K, nI L, nI S, vy, ky, sr, vl, bs, an, cs, se, cr, re, go, kw, yg, iz, ms) (nI c) (nI u) (nI a) (nI b)) := by
  have I0 := I
  obtain ⟨hsz, hup, hmb, hsb, hut, huq, hla, hho, hkn, hkw, hga, hgs, hwi, hms, hne, how, hyu, han, ha3⟩ := I
  have hsz0 := hsz
  obtain ⟨h1, h2, h3, h4, h5, h6, h7⟩ := hsz0
  have eb : (nI b).toNatClampNeg = b := nI_clamp (by omega)
  have i5 : vp_in (nI b) 5 := vp_in_nI (by omega) (by omega)
  by_cases hcb : cr b = 0
  · refine ⟨_, _, zi_wm I0 (zp_set hsz hwi hms hc ha hb hu hcb hv), fun post hp => ?_, fun post hp => ?_⟩
    · unfold wpX_send
      refine zx_up1 hb h2 hup hcb ?_
      refine br_f (by decide) ?_
      rw [zr_5, zr_5, nI_clamp (n := (c * 5 + a) * 5 + b) (by omega)]
      have i75 : vp_in (nI ((c * 5 + a) * 5 + b)) 75 := vp_in_nI (by omega) (by omega)
      exact ⟨i75, i75, nm_e hp⟩
    · refine ⟨i5, ?_⟩
      rw [eb]
      refine br_t hcb ?_
      refine zy_place ?_
      rw [nI_clamp (by omega)]
      exact ⟨vp_in_nI (by omega) (by omega), nm_r (e' := upd ms (((c * 24 + u) * 5 + a) * 5 + b) 1) (by rw [zr_vb1]) hp⟩
  · refine ⟨wi, ms, I0, fun post hp => ?_, fun post hp => ?_⟩
    · unfold wpX_send
      refine zx_up0 hb h2 hup hcb ?_
      exact br_t rfl hp
    · refine ⟨i5, ?_⟩
      rw [eb]
      exact br_f hcb hp
theorem zo_sendo_l {vy : Int32} {c u a : Nat} (hc : c < 3) (hu : u < S) (ha : a < R) (hv : c = 2 → se u ≠ 0) : ∀ (d i : Nat), i + d = R → ∀ (wi ms : Nat → Int32), zr_inv R K L S vw mb up ky sr vl bs sp an cs se la ho kn ga gs wi cr re go kw yg iz ms →
    ∃ wi' ms', zr_inv R K L S vw mb up ky sr vl bs sp an cs se la ho kn ga gs wi' cr re go kw yg iz ms' ∧ (∀ (post : SX → Prop) (n : Nat), d < n → post (nI R, nI K, nI L, nI S, vw, mb, up, ky, sr, vl, bs, sp, an, cs, se, la, ho, kn, ga, gs, wi') → wX_sendToOthers_3 post (nI c) (nI u) (nI a) 0 n (nI i) (nI R) (nI K) (nI L) (nI S) vw mb up ky sr vl bs sp an cs se la ho kn ga gs wi) ∧
      (∀ (post : SY → Prop) (n : Nat), d < n → post (nI R, nI K, nI L, nI S, vy, ky, sr, vl, bs, an, cs, se, cr, re, go, kw, yg, iz, ms') → wY_sendOthers_3 post (nI c) (nI u) (nI a) n (nI i) (nI R) (nI K) (nI L) (nI S) vy ky sr vl bs an cs se cr re go kw yg iz ms) := by
  intro d
  induction d with
  | zero =>
    intro i hi wi ms I
    have hR : R ≤ 5 := I.1.2.1
    refine ⟨wi, ms, I, fun post n hn hp => ?_, fun post n hn hp => ?_⟩
    · obtain ⟨n, rfl⟩ : ∃ m, n = m + 1 := ⟨n - 1, by omega⟩
      exact br_t (nI_le (by omega) (by omega)) hp
    · obtain ⟨n, rfl⟩ : ∃ m, n = m + 1 := ⟨n - 1, by omega⟩
      exact br_t (nI_le (by omega) (by omega)) hp
  | succ d ih =>
    intro i hi wi ms I
    have hR : R ≤ 5 := I.1.2.1
    by_cases hia : i = a
    · obtain ⟨wi2, ms2, I2, hX2, hY2⟩ := ih (i + 1) (by omega) wi ms I
      refine ⟨wi2, ms2, I2, fun post n hn hp => ?_, fun post n hn hp => ?_⟩
      · obtain ⟨n, rfl⟩ : ∃ m, n = m + 1 := ⟨n - 1, by omega⟩
        exact br_f (nI_ge (by omega) (by omega)) (br_t (by rw [hia]) (nm_r (nI_1 i) (hX2 post n (by omega) hp)))
      · obtain ⟨n, rfl⟩ : ∃ m, n = m + 1 := ⟨n - 1, by omega⟩
        exact br_f (nI_ge (by omega) (by omega)) (br_t (by rw [hia]) (nm_r (nI_1 i) (hY2 post n (by omega) hp)))
    · obtain ⟨wi1, ms1, I1, hX1, hY1⟩ := zo_send (vy := vy) (b := i) I hc hu ha (by omega) hv
      obtain ⟨wi2, ms2, I2, hX2, hY2⟩ := ih (i + 1) (by omega) wi1 ms1 I1
      have hne : ¬ nI i = nI a := fun z => hia (zr_im z (by omega) (by omega))
      refine ⟨wi2, ms2, I2, fun post n hn hp => ?_, fun post n hn hp => ?_⟩
      · obtain ⟨n, rfl⟩ : ∃ m, n = m + 1 := ⟨n - 1, by omega⟩
        refine br_f (nI_ge (by omega) (by omega)) (br_f hne (br_t ((zr_bit 0 (n := i) (by omega)).mpr zr_0) ?_))
        refine hX1 _ ?_
        exact nm_r (nI_1 i) (hX2 post n (by omega) hp)
      · obtain ⟨n, rfl⟩ : ∃ m, n = m + 1 := ⟨n - 1, by omega⟩
        refine br_f (nI_ge (by omega) (by omega)) (br_f hne ?_)
        refine hY1 _ ?_
        exact nm_r (nI_1 i) (hY2 post n (by omega) hp)
theorem zo_sendo {vy : Int32} {c u a : Nat} (I : zr_inv R K L S vw mb up ky sr vl bs sp an cs se la ho kn ga gs wi cr re go kw yg iz ms) (hc : c < 3) (hu : u < S) (ha : a < R) (hv : c = 2 → se u ≠ 0) :
    ∃ wi' ms', zr_inv R K L S vw mb up ky sr vl bs sp an cs se la ho kn ga gs wi' cr re go kw yg iz ms' ∧ (∀ post : SX → Prop, post (nI R, nI K, nI L, nI S, vw, mb, up, ky, sr, vl, bs, sp, an, cs, se, la, ho, kn, ga, gs, wi') → wpX_sendToOthers post (nI R, nI K, nI L, nI S, vw, mb, up, ky, sr, vl, bs, sp, an, cs, se, la, ho, kn, ga, gs, wi) (nI c) (nI u) (nI a) 0) ∧
      (∀ post : SY → Prop, post (nI R, nI K, nI L, nI S, vy, ky, sr, vl, bs, an, cs, se, cr, re, go, kw, yg, iz, ms') → wpY_sendOthers post (nI R, nI K, nI L, nI S, vy, ky, sr, vl, bs, an, cs, se, cr, re, go, kw, yg, iz, ms) (nI c) (nI u) (nI a)) := by
  obtain ⟨wi', ms', J, hX, hY⟩ := zo_sendo_l (vy := vy) hc hu ha hv R 0 (by omega) wi ms I
  exact ⟨wi', ms', J, fun post hp => ⟨R + 1, hX post (R + 1) (by omega) hp⟩, fun post hp => ⟨R + 1, hY post (R + 1) (by omega) hp⟩⟩
/-- sending again to those that are not in the set -/
theorem zo_sendr_l {u a : Nat} {G : Int32} (hu : u < S) (ha : a < R) (hG : ∀ i, i < 32 → (bt G i = true ↔ (i < R ∧ iz ((a * 24 + u) * 5 + i) ≠ 0))) : ∀ (d i : Nat), i + d = R → ∀ (wi ms : Nat → Int32), zr_inv R K L S vw mb up ky sr vl bs sp an cs se la ho kn ga gs wi cr re go kw yg iz ms →
    ∃ wi' ms', zr_inv R K L S vw mb up ky sr vl bs sp an cs se la ho kn ga gs wi' cr re go kw yg iz ms' ∧ (∀ (post : SX → Prop) (n : Nat), d < n → post (nI R, nI K, nI L, nI S, vw, mb, up, ky, sr, vl, bs, sp, an, cs, se, la, ho, kn, ga, gs, wi') → wX_sendToOthers_3 post 0 (nI u) (nI a) G n (nI i) (nI R) (nI K) (nI L) (nI S) vw mb up ky sr vl bs sp an cs se la ho kn ga gs wi) ∧
      (∀ (post : Int32 → SY → Prop) (n : Nat), d < n → post 2 (nI R, nI K, nI L, nI S, vw, ky, sr, vl, bs, an, cs, se, cr, re, go, kw, yg, iz, ms') → wY_replay_39 post (nI a) (nI u) n (nI i) (nI R) (nI K) (nI L) (nI S) vw ky sr vl bs an cs se cr re go kw yg iz ms) := by
  intro d
  induction d with
  | zero =>
    intro i hi wi ms I
    have hR : R ≤ 5 := I.1.2.1
    refine ⟨wi, ms, I, fun post n hn hp => ?_, fun post n hn hp => ?_⟩
    · obtain ⟨n, rfl⟩ : ∃ m, n = m + 1 := ⟨n - 1, by omega⟩
      exact br_t (nI_le (by omega) (by omega)) hp
    · obtain ⟨n, rfl⟩ : ∃ m, n = m + 1 := ⟨n - 1, by omega⟩
      exact br_t (nI_le (by omega) (by omega)) hp
  | succ d ih =>
    intro i hi wi ms I
    have hsz := I.1
    obtain ⟨h1, h2, h3, h4, h5, h6, h7⟩ := hsz
    by_cases hia : i = a
    · obtain ⟨wi2, ms2, I2, hX2, hY2⟩ := ih (i + 1) (by omega) wi ms I
      refine ⟨wi2, ms2, I2, fun post n hn hp => ?_, fun post n hn hp => ?_⟩
      · obtain ⟨n, rfl⟩ : ∃ m, n = m + 1 := ⟨n - 1, by omega⟩
        exact br_f (nI_ge (by omega) (by omega)) (br_t (by rw [hia]) (nm_r (nI_1 i) (hX2 post n (by omega) hp)))
      · obtain ⟨n, rfl⟩ : ∃ m, n = m + 1 := ⟨n - 1, by omega⟩
        exact br_f (nI_ge (by omega) (by omega)) (br_t (by rw [hia]) (nm_r (nI_1 i) (hY2 post n (by omega) hp)))
    · have hne : ¬ nI i = nI a := fun z => hia (zr_im z (by omega) (by omega))
      have i6 : vp_in (nI ((a * 24 + u) * 5 + i)) 600 := vp_in_nI (by omega) (by omega)
      by_cases hz : iz ((a * 24 + u) * 5 + i) = 0
      · obtain ⟨wi1, ms1, I1, hX1, hY1⟩ := zo_send (vy := vw) (c := 0) (b := i) I (by omega) hu ha (by omega) (fun z => by omega)
        obtain ⟨wi2, ms2, I2, hX2, hY2⟩ := ih (i + 1) (by omega) wi1 ms1 I1
        refine ⟨wi2, ms2, I2, fun post n hn hp => ?_, fun post n hn hp => ?_⟩
        · obtain ⟨n, rfl⟩ : ∃ m, n = m + 1 := ⟨n - 1, by omega⟩
          refine br_f (nI_ge (by omega) (by omega)) (br_f hne (br_t ((zr_bit G (n := i) (by omega)).mpr (fun z => ((hG i (by omega)).mp z).2 hz)) ?_))
          refine hX1 _ ?_
          exact nm_r (nI_1 i) (hX2 post n (by omega) hp)
        · obtain ⟨n, rfl⟩ : ∃ m, n = m + 1 := ⟨n - 1, by omega⟩
          refine br_f (nI_ge (by omega) (by omega)) (br_f hne ?_)
          rw [zr_24, zr_5, nI_clamp (n := (a * 24 + u) * 5 + i) (by omega)]
          refine ⟨i6, br_t hz ?_⟩
          refine hY1 _ ?_
          exact nm_r (nI_1 i) (hY2 post n (by omega) hp)
      · obtain ⟨wi2, ms2, I2, hX2, hY2⟩ := ih (i + 1) (by omega) wi ms I
        refine ⟨wi2, ms2, I2, fun post n hn hp => ?_, fun post n hn hp => ?_⟩
        · obtain ⟨n, rfl⟩ : ∃ m, n = m + 1 := ⟨n - 1, by omega⟩
          exact br_f (nI_ge (by omega) (by omega)) (br_f hne (br_f (fun z => (zr_bit G (n := i) (by omega)).mp z ((hG i (by omega)).mpr ⟨by omega, hz⟩)) (nm_r (nI_1 i) (hX2 post n (by omega) hp))))
        · obtain ⟨n, rfl⟩ : ∃ m, n = m + 1 := ⟨n - 1, by omega⟩
          refine br_f (nI_ge (by omega) (by omega)) (br_f hne ?_)
          rw [zr_24, zr_5, nI_clamp (n := (a * 24 + u) * 5 + i) (by omega)]
          exact ⟨i6, br_f hz (nm_r (nI_1 i) (hY2 post n (by omega) hp))⟩
end
end
section
/-! the relation is kept by each small change -/
theorem zr_b_cong {S : Nat} {sp : Nat → Int32} {P P' : Nat → Prop} {b : Int32} (h : zr_best S sp P b) (e : ∀ u, u < S → (P' u ↔ P u)) : zr_best S sp P' b := by
  rcases h with ⟨e', h⟩ | ⟨m, hm, e', hp, h⟩
  · exact Or.inl ⟨e', fun u hu z => h u hu ((e u hu).mp z)⟩
  · exact Or.inr ⟨m, hm, e', (e m hm).mpr hp, fun u hu z => h u hu ((e u hu).mp z)⟩
theorem zr_b_alo {S j : Nat} {sp : Nat → Int32} {P P' : Nat → Prop} {b : Int32} (hS : S ≤ 24) (h : zr_best S sp P b) (e : ∀ u, u < S → (P' u ↔ (P u ∨ u = j))) (h0 : 0 < sp j)
    (hq : ∀ u, u < S → P u → sp u = sp j → u = j) (hl : sp j ≤ zr_st sp b) : zr_best S sp P' b := by
  rcases h with ⟨e', h⟩ | ⟨m, hm, e', hp, h⟩
  · rw [e', zr_st_n] at hl
    exact absurd hl (Int32.not_le.mpr h0)
  · refine Or.inr ⟨m, hm, e', (e m hm).mpr (Or.inl hp), fun u hu z => ?_⟩
    rcases (e u hu).mp z with y | y
    · exact h u hu y
    · rw [e', zr_st_j (by omega)] at hl
      by_cases hs : sp m = sp j
      · exact Or.inl (by rw [y, hq m hm hp hs])
      · rw [y]
        exact Or.inr (Int32.lt_of_le_of_ne hl (fun z => hs z.symm))
theorem zr_b_ahi {S j : Nat} {sp : Nat → Int32} {P P' : Nat → Prop} {b : Int32} (hS : S ≤ 24) (hj : j < S) (h : zr_best S sp P b) (e : ∀ u, u < S → (P' u ↔ (P u ∨ u = j)))
    (hl : ¬ sp j ≤ zr_st sp b) : zr_best S sp P' (nI j) := by
  refine Or.inr ⟨j, hj, rfl, (e j hj).mpr (Or.inr rfl), fun u hu z => ?_⟩
  rcases (e u hu).mp z with y | y
  · rcases h with ⟨e', h⟩ | ⟨m, hm, e', hp, h⟩
    · exact absurd y (h u hu)
    · rw [e', zr_st_j (by omega)] at hl
      have hlt := zr_lt hl
      rcases h u hu y with x | x
      · rw [x]; exact Or.inr hlt
      · exact Or.inr (zr_lin x hlt)
  · exact Or.inl y
theorem zr_m1 {f : Nat → Int32} {j u : Nat} (h : f u ≠ 0) : upd f j 1 u ≠ 0 := by
  by_cases e : u = j
  · rw [zr_s e]; exact zr_01
  · rw [zr_n e]; exact h
theorem zr_m1' {f : Nat → Int32} {j u : Nat} (h : upd f j 1 u = 0) : f u = 0 := by
  by_cases e : u = j
  · rw [zr_s e] at h; exact absurd h zr_01
  · rw [zr_n e] at h; exact h
theorem zr_m0 {f : Nat → Int32} {j u : Nat} (h : upd f j 0 u ≠ 0) : f u ≠ 0 := by
  by_cases e : u = j
  · rw [zr_s e] at h; exact absurd rfl h
  · rw [zr_n e] at h; exact h
theorem zr_g1_cong {S r k : Nat} {ky yg yg' : Nat → Int32} {g : Int32} (h : zr_g1 S ky yg r k g) (e : ∀ u, u < S → ky u = nI k → yg' (r * 24 + u) = yg (r * 24 + u)) : zr_g1 S ky yg' r k g := by
  rcases h with ⟨e', h⟩ | ⟨j, hj, e', hk, hy, h⟩
  · exact Or.inl ⟨e', fun u hu z => (e u hu z).trans (h u hu z)⟩
  · refine Or.inr ⟨j, hj, e', hk, by rw [e j hj hk]; exact hy, fun u hu z y => ?_⟩
    rw [e u hu z] at y
    exact h u hu z y
section
variable {R K L S : Nat} {vw mb up : Int32} {ky sr vl bs sp an cs se la ho kn ga gs wi cr re go kw yg iz ms : Nat → Int32}
theorem zi_settle {j k : Nat} {la' : Nat → Int32} (I : zr_inv R K L S vw mb up ky sr vl bs sp an cs se la ho kn ga gs wi cr re go kw yg iz ms) (hj : j < S) (hk : k < K) (hkj : ky j = nI k)
    (hl : (sp j ≤ zr_st sp (la k) ∧ la' = la) ∨ (¬ sp j ≤ zr_st sp (la k) ∧ la' = upd la k (nI j))) : zr_inv R K L S vw mb up ky sr vl bs sp an cs (upd se j 1) la' ho kn ga gs wi cr re go kw yg iz ms := by
  have I0 := I
  obtain ⟨hsz, hup, hmb, hsb, hut, huq, hla, hho, hkn, hkw, hga, hgs, hwi, hms, hne, how, hyu, han, ha3⟩ := I
  have hsz0 := hsz
  obtain ⟨h1, h2, h3, h4, h5, h6, h7⟩ := hsz0
  refine ⟨hsz, hup, hmb, hsb, hut, huq, ?_, hho, hkn, ?_, hga, hgs, hwi, ?_, ?_, how, hyu, han, ha3⟩
  · intro k' hk'
    by_cases e : k' = k
    · subst e
      have he : ∀ u, u < S → ((ky u = nI k' ∧ upd se j 1 u ≠ 0) ↔ ((ky u = nI k' ∧ se u ≠ 0) ∨ u = j)) := by
        intro u hu
        by_cases z : u = j
        · rw [zr_s z]
          exact ⟨fun _ => Or.inr z, fun _ => ⟨by rw [z]; exact hkj, zr_01⟩⟩
        · rw [zr_n z]
          exact ⟨fun y => Or.inl y, fun y => y.resolve_right z⟩
      rcases hl with ⟨hl, rfl⟩ | ⟨hl, rfl⟩
      · refine zr_b_alo (by omega) (hla k' hk') he (zr_pos (by omega) h2 hut hj) ?_ hl
        intro u hu hP hs
        exact huq u j hu hj (hP.1.trans hkj.symm) hs
      · rw [zr_s rfl]
        exact zr_b_ahi (by omega) hj (hla k' hk') he hl
    · have el : la' k' = la k' := by
        rcases hl with ⟨_, rfl⟩ | ⟨_, rfl⟩
        · rfl
        · rw [zr_n e]
      rw [el]
      refine zr_b_cong (hla k' hk') ?_
      intro u hu
      by_cases z : u = j
      · have hne : ¬ ky u = nI k' := by
          rw [z, hkj]
          intro y
          exact e (zr_im y (by omega) (by omega)).symm
        exact ⟨fun y => absurd y.1 hne, fun y => absurd y.1 hne⟩
      · rw [zr_n z]
  · intro r u hr hu hz
    have := hkw r u hr hu hz
    exact ⟨this.1, zr_m1 this.2⟩
  · intro c a b u hc ha hb hu
    rcases hms c a b u hc ha hb hu with z | ⟨z1, z2, z3, z4⟩
    · exact Or.inl z
    · exact Or.inr ⟨z1, z2, z3, fun y => zr_m1 (z4 y)⟩
  · intro u hu hu'
    have := hne u hu hu'
    rw [zr_n (by omega)]
    exact this
theorem zi_end {r k j : Nat} (I : zr_inv R K L S vw mb up ky sr vl bs sp an cs se la ho kn ga gs wi cr re go kw yg iz ms) (hr : r < R) (hk : k < K) (hj : j < S) (hg : ga (r * 8 + k) = nI j) :
    zr_inv R K L S vw mb up ky sr vl bs sp an cs se la ho kn (upd ga (r * 8 + k) (-1)) (upd gs (r * 8 + k) 0) wi cr re go kw (upd yg (r * 24 + j) 0) iz ms := by
  have I0 := I
  obtain ⟨hsz, hup, hmb, hsb, hut, huq, hla, hho, hkn, hkw, hga, hgs, hwi, hms, hne, how, hyu, han, ha3⟩ := I
  have hsz0 := hsz
  obtain ⟨h1, h2, h3, h4, h5, h6, h7⟩ := hsz0
  obtain ⟨j', hj', eg, hkj, hyj, hun⟩ : ∃ j', j' < S ∧ ga (r * 8 + k) = nI j' ∧ ky j' = nI k ∧ yg (r * 24 + j') ≠ 0 ∧ ∀ u, u < S → ky u = nI k → yg (r * 24 + u) ≠ 0 → u = j' := by
    rcases hga r k hr hk with z | z
    · exact absurd (hg.symm.trans z.1) (zr_ne1 (by omega))
    · exact z
  have ejj : j' = j := zr_im (eg.symm.trans hg) (by omega) (by omega)
  subst ejj
  refine ⟨hsz, hup, hmb, hsb, hut, huq, hla, hho, hkn, hkw, ?_, ?_, hwi, hms, ?_, how, ?_, ?_, ha3⟩
  · intro r' k' hr' hk'
    by_cases e : r' = r ∧ k' = k
    · obtain ⟨rfl, rfl⟩ := e
      rw [zr_s rfl]
      refine Or.inl ⟨rfl, fun u hu hku => ?_⟩
      by_cases z : u = j'
      · rw [zr_s (by rw [z])]
      · rw [zr_n (by omega)]
        by_cases y : yg (r' * 24 + u) = 0
        · exact y
        · exact absurd (hun u hu hku y) z
    · rw [zr_n (by omega)]
      refine zr_g1_cong (hga r' k' hr' hk') ?_
      intro u hu hku
      by_cases z : r' = r ∧ u = j'
      · obtain ⟨rfl, rfl⟩ := z
        have := zr_im (hku.symm.trans hkj) (by omega) (by omega)
        exact absurd ⟨rfl, this⟩ e
      · rw [zr_n (by omega)]
  · intro r' k' hr' hk'
    by_cases e : r' = r ∧ k' = k
    · obtain ⟨rfl, rfl⟩ := e
      rw [zr_s rfl, zr_s rfl]
      exact ⟨fun _ => rfl, fun j hj z => absurd z.symm (zr_ne1 (by omega))⟩
    · rw [zr_n (by omega), zr_n (by omega)]
      exact hgs r' k' hr' hk'
  · intro u hu hu'
    have := hne u hu hu'
    refine ⟨this.1, fun r' hr' => ?_⟩
    rw [zr_n (by omega)]
    exact this.2 r' hr'
  · intro r' u hr' hu z
    exact hyu r' u hr' hu (zr_m0 z)
  · intro u r' hu hr' z
    have := han u r' hu hr' z
    exact ⟨this.1, fun y => this.2 (zr_m0 y)⟩
theorem zi_know {r k j : Nat} (I : zr_inv R K L S vw mb up ky sr vl bs sp an cs se la ho kn ga gs wi cr re go kw yg iz ms) (hr : r < R) (hk : k < K) (hj : j < S) (hh : ho (r * 8 + k) = nI j) (hse : se j ≠ 0) :
    zr_inv R K L S vw mb up ky sr vl bs sp an cs se la ho (upd kn (r * 8 + k) 1) ga gs wi cr re go (upd kw (r * 24 + j) 1) yg iz ms := by
  have I0 := I
  obtain ⟨hsz, hup, hmb, hsb, hut, huq, hla, hho, hkn, hkw, hga, hgs, hwi, hms, hne, how, hyu, han, ha3⟩ := I
  have hsz0 := hsz
  obtain ⟨h1, h2, h3, h4, h5, h6, h7⟩ := hsz0
  have hP : ∀ k', k' < K → ho (r * 8 + k') = nI j → ky j = nI k' ∧ go (r * 24 + j) ≠ 0 := by
    intro k' hk' e
    rcases hho r k' hr hk' with z | ⟨m, hm, em, hp, _⟩
    · exact absurd (e.symm.trans z.1) (zr_ne1 (by omega))
    · have := zr_im (em.symm.trans e) (by omega) (by omega)
      subst this
      exact hp
  refine ⟨hsz, hup, hmb, hsb, hut, huq, hla, hho, ?_, ?_, hga, hgs, hwi, hms, ?_, how, hyu, han, ?_⟩
  · intro r' k' hr' hk'
    by_cases e : r' = r ∧ k' = k
    · obtain ⟨rfl, rfl⟩ := e
      rw [zr_s rfl]
      refine ⟨fun _ => zr_01, fun j' hj' z => ?_⟩
      have := zr_im (z.symm.trans hh) (by omega) (by omega)
      subst this
      rw [zr_s rfl]
    · rw [zr_n (by omega)]
      refine ⟨(hkn r' k' hr' hk').1, fun j' hj' z => ?_⟩
      by_cases y : r' = r ∧ j' = j
      · obtain ⟨rfl, rfl⟩ := y
        have a1 := (hP k' hk' z).1
        have a2 := (hP k hk hh).1
        have := zr_im (a1.symm.trans a2) (by omega) (by omega)
        exact absurd ⟨rfl, this⟩ e
      · rw [zr_n (by omega)]
        exact (hkn r' k' hr' hk').2 j' hj' z
  · intro r' u hr' hu z
    by_cases y : r' = r ∧ u = j
    · obtain ⟨rfl, rfl⟩ := y
      exact ⟨(hP k hk hh).2, hse⟩
    · rw [zr_n (by omega)] at z
      exact hkw r' u hr' hu z
  · intro u hu hu'
    have := hne u hu hu'
    refine ⟨this.1, fun r' hr' => ?_⟩
    rw [zr_n (by omega)]
    exact this.2 r' hr'
  · intro u r' k' hu hr' hk' a1 a2 a3 a4 a5 a6
    exact ha3 u r' k' hu hr' hk' a1 a2 a3 a4 a5 (zr_m1' a6)
theorem zi_ansr {r k j : Nat} {x : Int32} (I : zr_inv R K L S vw mb up ky sr vl bs sp an cs se la ho kn ga gs wi cr re go kw yg iz ms) (hr : r < R) (hk : k < K) (hj : j < S) (hkj : ky j = nI k) (hsr : sr j = nI r) (hy : yg (r * 24 + j) = 0)
    (hx : x = 1 ∨ (x = 2 ∧ cs j ≠ 0)) (hw : ho (r * 8 + k) = nI j → kw (r * 24 + j) ≠ 0) : zr_inv R K L S vw mb up ky sr vl bs sp (upd an j x) cs se la ho kn ga gs wi cr re go kw yg iz ms := by
  have I0 := I
  obtain ⟨hsz, hup, hmb, hsb, hut, huq, hla, hho, hkn, hkw, hga, hgs, hwi, hms, hne, how, hyu, han, ha3⟩ := I
  have hsz0 := hsz
  obtain ⟨h1, h2, h3, h4, h5, h6, h7⟩ := hsz0
  refine ⟨hsz, hup, hmb, hsb, hut, huq, hla, hho, hkn, hkw, hga, hgs, hwi, hms, hne, how, hyu, ?_, ?_⟩
  · intro u r' hu hr' z
    by_cases e : u = j
    · subst e
      rw [zr_s rfl]
      have := zr_im (z.symm.trans hsr) (by omega) (by omega)
      subst this
      refine ⟨?_, fun y => absurd hy y⟩
      rcases hx with rfl | ⟨rfl, hx⟩
      · exact Or.inr (Or.inl rfl)
      · exact Or.inr (Or.inr (Or.inl ⟨rfl, hx⟩))
    · rw [zr_n e]
      exact han u r' hu hr' z
  · intro u r' k' hu hr' hk' a1 a2 a3 a4 a5 a6
    by_cases e : u = j
    · subst e
      have e1 := zr_im (a1.symm.trans hsr) (by omega) (by omega)
      have e2 := zr_im (a2.symm.trans hkj) (by omega) (by omega)
      subst e1 e2
      exact absurd a6 (hw a5)
    · rw [zr_n e]
      exact ha3 u r' k' hu hr' hk' a1 a2 a3 a4 a5 a6
theorem zi_gse {r k j : Nat} {G : Int32} {iz' : Nat → Int32} (I : zr_inv R K L S vw mb up ky sr vl bs sp an cs se la ho kn ga gs wi cr re go kw yg iz ms) (hr : r < R) (hk : k < K) (hj : j < S) (hg : ga (r * 8 + k) = nI j)
    (hz1 : ∀ i, i < 32 → (bt G i = true ↔ (i < R ∧ iz' ((r * 24 + j) * 5 + i) ≠ 0))) (hz2 : ∀ x, (x < (r * 24 + j) * 5 ∨ (r * 24 + j) * 5 + 5 ≤ x) → iz' x = iz x) :
    zr_inv R K L S vw mb up ky sr vl bs sp an cs se la ho kn ga (upd gs (r * 8 + k) G) wi cr re go kw yg iz' ms := by
  have I0 := I
  obtain ⟨hsz, hup, hmb, hsb, hut, huq, hla, hho, hkn, hkw, hga, hgs, hwi, hms, hne, how, hyu, han, ha3⟩ := I
  have hsz0 := hsz
  obtain ⟨h1, h2, h3, h4, h5, h6, h7⟩ := hsz0
  refine ⟨hsz, hup, hmb, hsb, hut, huq, hla, hho, hkn, hkw, hga, ?_, hwi, hms, hne, how, hyu, han, ha3⟩
  have hK : ∀ k', k' < K → ga (r * 8 + k') = nI j → ky j = nI k' := by
    intro k' hk' e
    rcases hga r k' hr hk' with z | ⟨m, hm, em, hp, _⟩
    · exact absurd (e.symm.trans z.1) (zr_ne1 (by omega))
    · have := zr_im (em.symm.trans e) (by omega) (by omega)
      subst this
      exact hp
  intro r' k' hr' hk'
  by_cases e : r' = r ∧ k' = k
  · obtain ⟨rfl, rfl⟩ := e
    rw [zr_s rfl]
    refine ⟨fun z => absurd (hg.symm.trans z) (zr_ne1 (by omega)), fun j' hj' z => ?_⟩
    have := zr_im (z.symm.trans hg) (by omega) (by omega)
    subst this
    exact hz1
  · rw [zr_n (by omega)]
    refine ⟨(hgs r' k' hr' hk').1, fun j' hj' z i hi => ?_⟩
    rw [(hgs r' k' hr' hk').2 j' hj' z i hi]
    by_cases hiR : i < R
    · by_cases y : r' = r ∧ j' = j
      · obtain ⟨rfl, rfl⟩ := y
        have := zr_im ((hK k' hk' z).symm.trans (hK k hk hg)) (by omega) (by omega)
        exact absurd ⟨rfl, this⟩ e
      · rw [hz2 ((r' * 24 + j') * 5 + i) (by omega)]
    · exact ⟨fun y => absurd y.1 hiR, fun y => absurd y.1 hiR⟩
theorem zi_begin {r k j : Nat} {iz' : Nat → Int32} (I : zr_inv R K L S vw mb up ky sr vl bs sp an cs se la ho kn ga gs wi cr re go kw yg iz ms) (hr : r < R) (hk : k < K) (hj : j < S) (hkj : ky j = nI k) (hc : cr r = 0) (hg : ga (r * 8 + k) = -1)
    (hz1 : ∀ i, i < R → (iz' ((r * 24 + j) * 5 + i) ≠ 0 ↔ i = r)) (hz2 : ∀ x, (x < (r * 24 + j) * 5 ∨ (r * 24 + j) * 5 + 5 ≤ x) → iz' x = iz x)
    (hcs : cs j ≠ 0 → sr j = nI r → an j = 0) :
    zr_inv R K L S vw mb up ky sr vl bs sp an cs se la ho kn (upd ga (r * 8 + k) (nI j)) (upd gs (r * 8 + k) ((1 : Int32) <<< (nI r &&& 31))) wi cr re go kw (upd yg (r * 24 + j) 1) iz' ms := by
  have I0 := I
  obtain ⟨hsz, hup, hmb, hsb, hut, huq, hla, hho, hkn, hkw, hga, hgs, hwi, hms, hne, how, hyu, han, ha3⟩ := I
  have hsz0 := hsz
  obtain ⟨h1, h2, h3, h4, h5, h6, h7⟩ := hsz0
  have hall : ∀ u, u < S → ky u = nI k → yg (r * 24 + u) = 0 := by
    rcases hga r k hr hk with z | ⟨m, hm, em, _⟩
    · exact z.2
    · exact absurd (em.symm.trans hg) (zr_ne1 (by omega))
  refine ⟨hsz, hup, hmb, hsb, hut, huq, hla, hho, hkn, hkw, ?_, ?_, hwi, hms, ?_, how, ?_, ?_, ha3⟩
  · intro r' k' hr' hk'
    by_cases e : r' = r ∧ k' = k
    · obtain ⟨rfl, rfl⟩ := e
      rw [zr_s rfl]
      refine Or.inr ⟨j, hj, rfl, hkj, by rw [zr_s rfl]; exact zr_01, fun u hu hku z => ?_⟩
      by_cases y : u = j
      · exact y
      · rw [zr_n (by omega)] at z
        exact absurd (hall u hu hku) z
    · rw [zr_n (by omega)]
      refine zr_g1_cong (hga r' k' hr' hk') ?_
      intro u hu hku
      by_cases z : r' = r ∧ u = j
      · obtain ⟨rfl, rfl⟩ := z
        have := zr_im (hku.symm.trans hkj) (by omega) (by omega)
        exact absurd ⟨rfl, this⟩ e
      · rw [zr_n (by omega)]
  · intro r' k' hr' hk'
    by_cases e : r' = r ∧ k' = k
    · obtain ⟨rfl, rfl⟩ := e
      rw [zr_s rfl, zr_s rfl]
      refine ⟨fun z => absurd z (zr_ne1 (by omega)), fun j' hj' z i hi => ?_⟩
      have := zr_im z (by omega) (by omega)
      subst this
      rw [zr_sl (by omega) hi]
      exact ⟨fun y => ⟨by omega, (hz1 i (by omega)).mpr y⟩, fun y => (hz1 i y.1).mp y.2⟩
    · rw [zr_n (by omega), zr_n (by omega)]
      refine ⟨(hgs r' k' hr' hk').1, fun j' hj' z i hi => ?_⟩
      rw [(hgs r' k' hr' hk').2 j' hj' z i hi]
      by_cases hiR : i < R
      · by_cases y : r' = r ∧ j' = j
        · obtain ⟨rfl, rfl⟩ := y
          rcases hga r' k' hr' hk' with x | ⟨m, hm, em, hp, _⟩
          · exact absurd (z.symm.trans x.1) (zr_ne1 (by omega))
          · have e1 := zr_im (em.symm.trans z) (by omega) (by omega)
            subst e1
            have := zr_im (hp.symm.trans hkj) (by omega) (by omega)
            exact absurd ⟨rfl, this⟩ e
        · rw [hz2 ((r' * 24 + j') * 5 + i) (by omega)]
      · exact ⟨fun y => absurd y.1 hiR, fun y => absurd y.1 hiR⟩
  · intro u hu hu'
    have := hne u hu hu'
    refine ⟨this.1, fun r' hr' => ?_⟩
    rw [zr_n (by omega)]
    exact this.2 r' hr'
  · intro r' u hr' hu z
    by_cases y : r' = r ∧ u = j
    · rw [y.1]; exact hc
    · rw [zr_n (by omega)] at z
      exact hyu r' u hr' hu z
  · intro u r' hu hr' z
    have := han u r' hu hr' z
    refine ⟨this.1, fun y hcu => ?_⟩
    by_cases x : r' = r ∧ u = j
    · obtain ⟨rfl, rfl⟩ := x
      exact hcs hcu z
    · rw [zr_n (by omega)] at y
      exact this.2 y hcu
theorem zp_ngot {r k j : Nat} (I : zr_inv R K L S vw mb up ky sr vl bs sp an cs se la ho kn ga gs wi cr re go kw yg iz ms) (hr : r < R) (hk : k < K) (hj : j < S) (hkj : ky j = nI k) (hl : ¬ sp j ≤ zr_st sp (ho (r * 8 + k))) : go (r * 24 + j) = 0 := by
  have I0 := I
  obtain ⟨hsz, hup, hmb, hsb, hut, huq, hla, hho, hkn, hkw, hga, hgs, hwi, hms, hne, how, hyu, han, ha3⟩ := I
  have hsz0 := hsz
  obtain ⟨h1, h2, h3, h4, h5, h6, h7⟩ := hsz0
  by_cases e : go (r * 24 + j) = 0
  · exact e
  · exfalso
    rcases hho r k hr hk with z | ⟨m, hm, em, hp, h⟩
    · exact z.2 j hj ⟨hkj, e⟩
    · rw [em, zr_st_j (by omega)] at hl
      rcases h j hj ⟨hkj, e⟩ with y | y
      · rw [y] at hl
        exact hl Int32.le_rfl
      · exact hl (Int32.le_of_lt y)
theorem zp_gotP {r k j : Nat} (hr : r < R) (hK : K ≤ 8) (hS : S ≤ 24) (hj : j < S) (hk : k < K) (hkj : ky j = nI k) (r' k' : Nat) (hk' : k' < K) (u : Nat) (hu : u < S) :
    (ky u = nI k' ∧ upd go (r * 24 + j) 1 (r' * 24 + u) ≠ 0) ↔ ((ky u = nI k' ∧ go (r' * 24 + u) ≠ 0) ∨ (u = j ∧ r' = r ∧ k' = k)) := by
  by_cases y : r' = r ∧ u = j
  · obtain ⟨rfl, rfl⟩ := y
    rw [zr_s rfl]
    constructor
    · intro z
      exact Or.inr ⟨rfl, rfl, zr_im (z.1.symm.trans hkj) (by omega) (by omega)⟩
    · rintro (z | ⟨_, _, z⟩)
      · exact ⟨z.1, zr_01⟩
      · rw [z]; exact ⟨hkj, zr_01⟩
  · rw [zr_n (by omega)]
    exact ⟨fun z => Or.inl z, fun z => z.resolve_right (fun x => y ⟨x.2.1, x.1⟩)⟩
theorem zi_hold {r k j : Nat} (I : zr_inv R K L S vw mb up ky sr vl bs sp an cs se la ho kn ga gs wi cr re go kw yg iz ms) (hr : r < R) (hk : k < K) (hj : j < S) (hkj : ky j = nI k) (hl : ¬ sp j ≤ zr_st sp (ho (r * 8 + k))) :
    zr_inv R K L S vw mb up ky sr vl bs sp an cs se la (upd ho (r * 8 + k) (nI j)) (upd kn (r * 8 + k) 0) ga gs wi cr re (upd go (r * 24 + j) 1) kw yg iz ms := by
  have hgo := zp_ngot I hr hk hj hkj hl
  have I0 := I
  obtain ⟨hsz, hup, hmb, hsb, hut, huq, hla, hho, hkn, hkw, hga, hgs, hwi, hms, hne, how, hyu, han, ha3⟩ := I
  have hsz0 := hsz
  obtain ⟨h1, h2, h3, h4, h5, h6, h7⟩ := hsz0
  have hkw0 : kw (r * 24 + j) = 0 := by
    by_cases e : kw (r * 24 + j) = 0
    · exact e
    · exact absurd hgo (hkw r j hr hj e).1
  refine ⟨hsz, hup, hmb, hsb, hut, huq, hla, ?_, ?_, ?_, hga, hgs, hwi, hms, ?_, ?_, hyu, han, ?_⟩
  · intro r' k' hr' hk'
    by_cases e : r' = r ∧ k' = k
    · obtain ⟨rfl, rfl⟩ := e
      rw [zr_s rfl]
      refine zr_b_ahi (by omega) hj (hho r' k' hr' hk') ?_ hl
      intro u hu
      rw [zp_gotP hr h4 (by omega) hj hk hkj r' k' hk' u hu]
      exact ⟨fun z => z.imp id (fun y => y.1), fun z => z.imp id (fun y => ⟨y, rfl, rfl⟩)⟩
    · rw [zr_n (by omega)]
      refine zr_b_cong (hho r' k' hr' hk') ?_
      intro u hu
      rw [zp_gotP hr h4 (by omega) hj hk hkj r' k' hk' u hu]
      exact ⟨fun z => z.resolve_right (fun y => e ⟨y.2.1, y.2.2⟩), fun z => Or.inl z⟩
  · intro r' k' hr' hk'
    by_cases e : r' = r ∧ k' = k
    · obtain ⟨rfl, rfl⟩ := e
      rw [zr_s rfl, zr_s rfl]
      refine ⟨fun z => absurd z (zr_ne1 (by omega)), fun j' hj' z => ?_⟩
      have := zr_im z (by omega) (by omega)
      subst this
      exact ⟨fun _ => hkw0, fun _ => rfl⟩
    · rw [zr_n (by omega), zr_n (by omega)]
      exact hkn r' k' hr' hk'
  · intro r' u hr' hu z
    have := hkw r' u hr' hu z
    exact ⟨zr_m1 this.1, this.2⟩
  · intro u hu hu'
    have := hne u hu hu'
    refine ⟨this.1, fun r' hr' => ?_⟩
    rw [zr_n (by omega)]
    exact this.2 r' hr'
  · intro u r' hu hr' a1 a2
    exact zr_m1 (how u r' hu hr' a1 a2)
  · intro u r' k' hu hr' hk' a1 a2 a3 a4 a5 a6
    by_cases e : r' = r ∧ k' = k
    · obtain ⟨rfl, rfl⟩ := e
      rw [zr_s rfl] at a5
      have := zr_im a5 (by omega) (by omega)
      subst this
      exact absurd hgo (how j r' hj hr' a1 a3)
    · rw [zr_n (by omega)] at a5
      exact ha3 u r' k' hu hr' hk' a1 a2 a3 a4 a5 a6
theorem zi_got {r k j : Nat} (I : zr_inv R K L S vw mb up ky sr vl bs sp an cs se la ho kn ga gs wi cr re go kw yg iz ms) (hr : r < R) (hk : k < K) (hj : j < S) (hkj : ky j = nI k) (hl : sp j ≤ zr_st sp (ho (r * 8 + k))) :
    zr_inv R K L S vw mb up ky sr vl bs sp an cs se la ho kn ga gs wi cr re (upd go (r * 24 + j) 1) kw yg iz ms := by
  have I0 := I
  obtain ⟨hsz, hup, hmb, hsb, hut, huq, hla, hho, hkn, hkw, hga, hgs, hwi, hms, hne, how, hyu, han, ha3⟩ := I
  have hsz0 := hsz
  obtain ⟨h1, h2, h3, h4, h5, h6, h7⟩ := hsz0
  refine ⟨hsz, hup, hmb, hsb, hut, huq, hla, ?_, hkn, ?_, hga, hgs, hwi, hms, ?_, ?_, hyu, han, ha3⟩
  · intro r' k' hr' hk'
    by_cases e : r' = r ∧ k' = k
    · obtain ⟨rfl, rfl⟩ := e
      refine zr_b_alo (j := j) (by omega) (hho r' k' hr' hk') ?_ (zr_pos (by omega) h2 hut hj) ?_ hl
      · intro u hu
        rw [zp_gotP hr h4 (by omega) hj hk hkj r' k' hk' u hu]
        exact ⟨fun z => z.imp id (fun y => y.1), fun z => z.imp id (fun y => ⟨y, rfl, rfl⟩)⟩
      · intro u hu hP hs
        exact huq u j hu hj (hP.1.trans hkj.symm) hs
    · refine zr_b_cong (hho r' k' hr' hk') ?_
      intro u hu
      rw [zp_gotP hr h4 (by omega) hj hk hkj r' k' hk' u hu]
      exact ⟨fun z => z.resolve_right (fun y => e ⟨y.2.1, y.2.2⟩), fun z => Or.inl z⟩
  · intro r' u hr' hu z
    have := hkw r' u hr' hu z
    exact ⟨zr_m1 this.1, this.2⟩
  · intro u hu hu'
    have := hne u hu hu'
    refine ⟨this.1, fun r' hr' => ?_⟩
    rw [zr_n (by omega)]
    exact this.2 r' hr'
  · intro u r' hu hr' a1 a2
    exact zr_m1 (how u r' hu hr' a1 a2)
end
end
section
/-! a gathering that is complete -/
section
variable {R K L S : Nat} {vw mb up : Int32} {ky sr vl bs sp an cs se la ho kn ga gs wi cr re go kw yg iz ms : Nat → Int32}
theorem zx_answer {j : Nat} {x : Int32} (hj : j < 24) (h01 : an j = 0 ∨ an j = x) {post : SX → Prop} (hp : post (nI R, nI K, nI L, nI S, vw, mb, up, ky, sr, vl, bs, sp, upd an j x, cs, se, la, ho, kn, ga, gs, wi)) : wpX_answer post (nI R, nI K, nI L, nI S, vw, mb, up, ky, sr, vl, bs, sp, an, cs, se, la, ho, kn, ga, gs, wi) (nI j) x := by
  have ej : (nI j).toNatClampNeg = j := nI_clamp (by omega)
  have i24 : vp_in (nI j) 24 := vp_in_nI hj (by omega)
  refine ⟨i24, ?_⟩
  rw [ej]
  refine br_c (fun z => ⟨i24, nm_e hp⟩) (fun z => ?_)
  rw [zr_id (h01.resolve_left z)] at hp
  exact hp
theorem zx_endG {s : Nat} (hs : s < 40) {post : SX → Prop} (hp : post (nI R, nI K, nI L, nI S, vw, mb, up, ky, sr, vl, bs, sp, an, cs, se, la, ho, kn, upd ga s (-1), upd gs s 0, wi)) : wpX_endGathering post (nI R, nI K, nI L, nI S, vw, mb, up, ky, sr, vl, bs, sp, an, cs, se, la, ho, kn, ga, gs, wi) (nI s) := by
  have e : (nI s).toNatClampNeg = s := nI_clamp (by omega)
  have i40 : vp_in (nI s) 40 := vp_in_nI hs (by omega)
  refine ⟨i40, ?_⟩
  rw [e]
  exact nm_e ⟨i40, nm_e hp⟩
theorem zx_settle {j k : Nat} {la' : Nat → Int32} (hj : j < 24) (hk : k < 8) (hkj : ky j = nI k) (hv : la k = -1 ∨ ∃ j, j < 24 ∧ la k = nI j)
    (hl : (sp j ≤ zr_st sp (la k) ∧ la' = la) ∨ (¬ sp j ≤ zr_st sp (la k) ∧ la' = upd la k (nI j))) {post : SX → Prop} (hp : post (nI R, nI K, nI L, nI S, vw, mb, up, ky, sr, vl, bs, sp, an, cs, upd se j 1, la', ho, kn, ga, gs, wi)) : wpX_settle post (nI R, nI K, nI L, nI S, vw, mb, up, ky, sr, vl, bs, sp, an, cs, se, la, ho, kn, ga, gs, wi) (nI j) := by
  have ej : (nI j).toNatClampNeg = j := nI_clamp (by omega)
  have ek : (nI k).toNatClampNeg = k := nI_clamp (by omega)
  have i24 : vp_in (nI j) 24 := vp_in_nI hj (by omega)
  have i8 : vp_in (nI k) 8 := vp_in_nI hk (by omega)
  refine ⟨i24, ?_⟩
  rw [ej]
  refine nm_r (e' := upd se j 1) (by rw [zr_vb1]) ⟨i24, nm_r hkj ?_⟩
  refine zx_stamp (Or.inr ⟨j, hj, rfl⟩) ?_
  rw [ek]
  refine ⟨i8, ?_⟩
  refine zx_stamp hv ?_
  rw [zr_st_j (by omega)]
  rcases hl with ⟨hl, rfl⟩ | ⟨hl, rfl⟩
  · exact br_t hl hp
  · exact br_f hl ⟨i8, nm_e hp⟩
theorem zx_finish_26 {r j s : Nat} {kn' wi' : Nat → Int32} (hs : s < 40) (hk : (ho s = nI j ∧ kn' = upd kn s 1) ∨ (¬ ho s = nI j ∧ kn' = kn)) {post : SX → Prop}
    (hsend : ∀ post : SX → Prop, post (nI R, nI K, nI L, nI S, vw, mb, up, ky, sr, vl, bs, sp, an, cs, se, la, ho, kn', ga, gs, wi') → wpX_sendToOthers post (nI R, nI K, nI L, nI S, vw, mb, up, ky, sr, vl, bs, sp, an, cs, se, la, ho, kn', ga, gs, wi) (nI 2) (nI j) (nI r) 0) (hp : post (nI R, nI K, nI L, nI S, vw, mb, up, ky, sr, vl, bs, sp, an, cs, se, la, ho, kn', ga, gs, wi')) : wX_finish_26 post (nI r) (nI j) (nI s) (nI R) (nI K) (nI L) (nI S) vw mb up ky sr vl bs sp an cs se la ho kn ga gs wi := by
  have e : (nI s).toNatClampNeg = s := nI_clamp (by omega)
  have i40 : vp_in (nI s) 40 := vp_in_nI hs (by omega)
  refine ⟨i40, ?_⟩
  rw [e]
  rcases hk with ⟨h, rfl⟩ | ⟨h, rfl⟩
  · refine br_t h ⟨i40, nm_r (e' := upd kn s 1) (by rw [zr_vb1]) ?_⟩
    exact hsend _ hp
  · refine br_f h ?_
    exact hsend _ hp
theorem zx_finish {r j k : Nat} {an' la' kn' wi' : Nat → Int32} (hr : r < 5) (hj : j < 24) (hk : k < 8) (hkj : ky j = nI k) (hv : la k = -1 ∨ ∃ j, j < 24 ∧ la k = nI j)
    (hl : (sp j ≤ zr_st sp (la k) ∧ la' = la) ∨ (¬ sp j ≤ zr_st sp (la k) ∧ la' = upd la k (nI j)))
    (haa : (sr j = nI r ∧ (an j = 0 ∨ an j = 1) ∧ an' = upd an j 1) ∨ (¬ sr j = nI r ∧ an' = an))
    (hkk : (ho (r * 8 + k) = nI j ∧ kn' = upd kn (r * 8 + k) 1) ∨ (¬ ho (r * 8 + k) = nI j ∧ kn' = kn)) {post : SX → Prop}
    (hsend : ∀ post : SX → Prop, post (nI R, nI K, nI L, nI S, vw, mb, up, ky, sr, vl, bs, sp, an', cs, upd se j 1, la', ho, kn', upd ga (r * 8 + k) (-1), upd gs (r * 8 + k) 0, wi') →
      wpX_sendToOthers post (nI R, nI K, nI L, nI S, vw, mb, up, ky, sr, vl, bs, sp, an', cs, upd se j 1, la', ho, kn', upd ga (r * 8 + k) (-1), upd gs (r * 8 + k) 0, wi) (nI 2) (nI j) (nI r) 0)
    (hp : post (nI R, nI K, nI L, nI S, vw, mb, up, ky, sr, vl, bs, sp, an', cs, upd se j 1, la', ho, kn', upd ga (r * 8 + k) (-1), upd gs (r * 8 + k) 0, wi')) :
    wpX_finish post (nI R, nI K, nI L, nI S, vw, mb, up, ky, sr, vl, bs, sp, an, cs, se, la, ho, kn, ga, gs, wi) (nI r) (nI j) (nI (r * 8 + k)) := by
  unfold wpX_finish
  refine zx_settle hj hk hkj hv hl ?_
  refine zx_endG (by omega) ?_
  refine ⟨vp_in_nI hj (by omega), ?_⟩
  rw [nI_clamp (n := j) (by omega)]
  rcases haa with ⟨h, h01, rfl⟩ | ⟨h, rfl⟩
  · refine br_t h ?_
    refine zx_answer hj h01 ?_
    exact zx_finish_26 (by omega) hkk hsend hp
  · exact br_f h (zx_finish_26 (by omega) hkk hsend hp)
theorem zy_finish_80 {r j k : Nat} {kw' ms' : Nat → Int32} (hs : zr_sz R K L S) (hut : zr_ut R K S ky sr bs sp cs) (huq : zr_uq S ky sp) (hr : r < R) (hj : j < S) (hkj : ky j = nI k) {b : Int32}
    (hb : zr_best S sp (fun u => ky u = nI k ∧ go (r * 24 + u) ≠ 0) b) (hk : (b = nI j ∧ kw' = upd kw (r * 24 + j) 1) ∨ (¬ b = nI j ∧ kw' = kw)) {post : SY → Prop}
    (hsend : ∀ post : SY → Prop, post (nI R, nI K, nI L, nI S, vw, ky, sr, vl, bs, an, cs, se, cr, re, go, kw', yg, iz, ms') → wpY_sendOthers post (nI R, nI K, nI L, nI S, vw, ky, sr, vl, bs, an, cs, se, cr, re, go, kw', yg, iz, ms) (nI 2) (nI j) (nI r)) (hp : post (nI R, nI K, nI L, nI S, vw, ky, sr, vl, bs, an, cs, se, cr, re, go, kw', yg, iz, ms')) : wY_finishIfComplete_80 post (nI r) (nI j) (nI R) (nI K) (nI L) (nI S) vw ky sr vl bs an cs se cr re go kw yg iz ms := by
  have hs' := hs
  obtain ⟨h1, h2, h3, h4, h5, h6, h7⟩ := hs'
  refine ⟨vp_in_nI (by omega) (by omega), ?_⟩
  rw [nI_clamp (n := j) (by omega), hkj]
  refine zy_holds hs hut huq hr hb ?_
  rw [zr_24, nI_clamp (n := r * 24 + j) (by omega)]
  rcases hk with ⟨h, rfl⟩ | ⟨h, rfl⟩
  · refine br_t h ⟨vp_in_nI (by omega) (by omega), nm_r (e' := upd kw (r * 24 + j) 1) (by rw [zr_vb1]) ?_⟩
    exact hsend _ hp
  · refine br_f h ?_
    exact hsend _ hp
theorem zy_finish_l {r j k : Nat} {an' kw' ms' : Nat → Int32} (hs : zr_sz R K L S) (hut : zr_ut R K S ky sr bs sp cs) (huq : zr_uq S ky sp) (hr : r < R) (hj : j < S) (hkj : ky j = nI k) {b : Int32}
    (hb : zr_best S sp (fun u => ky u = nI k ∧ go (r * 24 + u) ≠ 0) b) (hk : (b = nI j ∧ kw' = upd kw (r * 24 + j) 1) ∨ (¬ b = nI j ∧ kw' = kw))
    (haa : (sr j = nI r ∧ an' = upd an j 1) ∨ (¬ sr j = nI r ∧ an' = an)) {post : SY → Prop}
    (hsend : ∀ post : SY → Prop, post (nI R, nI K, nI L, nI S, vw, ky, sr, vl, bs, an', cs, upd se j 1, cr, re, go, kw', upd yg (r * 24 + j) 0, iz, ms') → wpY_sendOthers post (nI R, nI K, nI L, nI S, vw, ky, sr, vl, bs, an', cs, upd se j 1, cr, re, go, kw', upd yg (r * 24 + j) 0, iz, ms) (nI 2) (nI j) (nI r))
    (hp : post (nI R, nI K, nI L, nI S, vw, ky, sr, vl, bs, an', cs, upd se j 1, cr, re, go, kw', upd yg (r * 24 + j) 0, iz, ms'))
    (hcomp : ∀ i, i < R → re i = 0 → iz ((r * 24 + j) * 5 + i) ≠ 0) : ∀ n i, i ≤ R → R - i < n → wY_finishIfComplete_2 post (nI r) (nI j) (nI R) (nI K) (nI L) (nI S) vw ky sr vl bs an cs se cr re go kw yg iz ms n (nI i) := by
  have hs' := hs
  obtain ⟨h1, h2, h3, h4, h5, h6, h7⟩ := hs'
  have ej : (nI j).toNatClampNeg = j := nI_clamp (by omega)
  have i24 : vp_in (nI j) 24 := vp_in_nI (by omega) (by omega)
  intro n
  induction n with
  | zero => intro i _ h; omega
  | succ n ih =>
    intro i hi hn
    by_cases he : i = R
    · subst he
      refine br_t (nI_le (by omega) (by omega)) ⟨i24, ?_⟩
      rw [ej, zr_24, nI_clamp (n := r * 24 + j) (by omega)]
      refine nm_r (e' := upd se j 1) (by rw [zr_vb1]) ⟨vp_in_nI (by omega) (by omega), nm_r (e' := upd yg (r * 24 + j) 0) (by rw [zr_vb0]) ⟨i24, ?_⟩⟩
      rcases haa with ⟨h, rfl⟩ | ⟨h, rfl⟩
      · exact br_t h ⟨i24, nm_e (zy_finish_80 hs hut huq hr hj hkj hb hk hsend hp)⟩
      · exact br_f h (zy_finish_80 hs hut huq hr hj hkj hb hk hsend hp)
    · refine br_f (nI_ge (by omega) (by omega)) ⟨vp_in_nI (by omega) (by omega), ?_⟩
      rw [nI_clamp (n := i) (by omega)]
      refine br_c (fun z => ?_) (fun z => nm_r (nI_1 i) (ih (i + 1) (by omega) (by omega)))
      rw [zr_24, zr_5, nI_clamp (n := (r * 24 + j) * 5 + i) (by omega)]
      exact ⟨vp_in_nI (by omega) (by omega), br_f (hcomp i (by omega) z) (nm_r (nI_1 i) (ih (i + 1) (by omega) (by omega)))⟩
theorem zy_finish_n {r j : Nat} (hs : zr_sz R K L S) (hr : r < R) (hj : j < S) {post : SY → Prop} (hp : post (nI R, nI K, nI L, nI S, vw, ky, sr, vl, bs, an, cs, se, cr, re, go, kw, yg, iz, ms)) : ∀ n i, i ≤ R → R - i < n →
    (∃ i', i ≤ i' ∧ i' < R ∧ re i' = 0 ∧ iz ((r * 24 + j) * 5 + i') = 0) → wY_finishIfComplete_2 post (nI r) (nI j) (nI R) (nI K) (nI L) (nI S) vw ky sr vl bs an cs se cr re go kw yg iz ms n (nI i) := by
  have hs' := hs
  obtain ⟨h1, h2, h3, h4, h5, h6, h7⟩ := hs'
  intro n
  induction n with
  | zero => intro i _ h; omega
  | succ n ih =>
    intro i hi hn hx
    obtain ⟨i', a1, a2, a3, a4⟩ := hx
    have hstep : (¬ (re i = 0 ∧ iz ((r * 24 + j) * 5 + i) = 0)) → wY_finishIfComplete_2 post (nI r) (nI j) (nI R) (nI K) (nI L) (nI S) vw ky sr vl bs an cs se cr re go kw yg iz ms n (nI (i + 1)) := by
      intro z
      refine ih (i + 1) (by omega) (by omega) ⟨i', ?_, a2, a3, a4⟩
      by_cases y : i = i'
      · subst y; exact absurd ⟨a3, a4⟩ z
      · omega
    refine br_f (nI_ge (by omega) (by omega)) ⟨vp_in_nI (by omega) (by omega), ?_⟩
    rw [nI_clamp (n := i) (by omega)]
    refine br_c (fun z => ?_) (fun z => nm_r (nI_1 i) (hstep (fun y => z y.1)))
    rw [zr_24, zr_5, nI_clamp (n := (r * 24 + j) * 5 + i) (by omega)]
    exact ⟨vp_in_nI (by omega) (by omega), br_c (fun _ => hp) (fun y => nm_r (nI_1 i) (hstep (fun x => y x.2)))⟩
theorem zo_finc {vy : Int32} {r k j : Nat} (I : zr_inv R K L S vw mb up ky sr vl bs sp an cs se la ho kn ga gs wi cr re go kw yg iz ms) (hr : r < R) (hk : k < K) (hj : j < S) (hg : ga (r * 8 + k) = nI j) :
    zr_ou R K L S vw mb up cr re vy (fun post => wpX_finishIfComplete post (nI R, nI K, nI L, nI S, vw, mb, up, ky, sr, vl, bs, sp, an, cs, se, la, ho, kn, ga, gs, wi) (nI r) (nI j) (nI (r * 8 + k))) (fun post => wpY_finishIfComplete post (nI R, nI K, nI L, nI S, vy, ky, sr, vl, bs, an, cs, se, cr, re, go, kw, yg, iz, ms) (nI r) (nI j)) := by
  have I0 := I
  obtain ⟨hsz, hup, hmb, hsb, hut, huq, hla, hho, hkn, hkw, hga, hgs, hwi, hms, hne, how, hyu, han, ha3⟩ := I
  have hsz0 := hsz
  obtain ⟨h1, h2, h3, h4, h5, h6, h7⟩ := hsz0
  obtain ⟨hkj, hyj⟩ : ky j = nI k ∧ yg (r * 24 + j) ≠ 0 := by
    rcases hga r k hr hk with z | ⟨m, hm, em, hp, hy, _⟩
    · exact absurd (hg.symm.trans z.1) (zr_ne1 (by omega))
    · have := zr_im (em.symm.trans hg) (by omega) (by omega)
      subst this
      exact ⟨hp, hy⟩
  have hc := hyu r j hr hj hyj
  have e8 : (nI (r * 8 + k)).toNatClampNeg = r * 8 + k := nI_clamp (by omega)
  have i8 : vp_in (nI (r * 8 + k)) 40 := vp_in_nI (by omega) (by omega)
  have hG := (hgs r k hr hk).2 j hj hg
  by_cases hcomp : ∀ i, i < R → re i = 0 → iz ((r * 24 + j) * 5 + i) ≠ 0
  · have hmask : (mb &&& (gs (r * 8 + k) ^^^ (-1))) = 0 := by
      apply zr_z
      intro i hi z
      rw [zr_and, zr_not hi] at z
      have a := (hmb i hi).mp z.1
      exact z.2 ((hG i hi).mpr ⟨a.1, hcomp i a.1 a.2⟩)
    obtain ⟨la', hl⟩ : ∃ la' : Nat → Int32, (sp j ≤ zr_st sp (la k) ∧ la' = la) ∨ (¬ sp j ≤ zr_st sp (la k) ∧ la' = upd la k (nI j)) := by
      by_cases z : sp j ≤ zr_st sp (la k)
      · exact ⟨la, Or.inl ⟨z, rfl⟩⟩
      · exact ⟨_, Or.inr ⟨z, rfl⟩⟩
    obtain ⟨kn', kw', hkk⟩ : ∃ kn' kw' : Nat → Int32, (ho (r * 8 + k) = nI j ∧ kn' = upd kn (r * 8 + k) 1 ∧ kw' = upd kw (r * 24 + j) 1) ∨ (¬ ho (r * 8 + k) = nI j ∧ kn' = kn ∧ kw' = kw) := by
      by_cases z : ho (r * 8 + k) = nI j
      · exact ⟨_, _, Or.inl ⟨z, rfl, rfl⟩⟩
      · exact ⟨_, _, Or.inr ⟨z, rfl, rfl⟩⟩
    obtain ⟨an', haa⟩ : ∃ an' : Nat → Int32, (sr j = nI r ∧ an' = upd an j 1) ∨ (¬ sr j = nI r ∧ an' = an) := by
      by_cases z : sr j = nI r
      · exact ⟨_, Or.inl ⟨z, rfl⟩⟩
      · exact ⟨_, Or.inr ⟨z, rfl⟩⟩
    have h01 : sr j = nI r → an j = 0 ∨ an j = 1 := by
      intro z
      have a := han j r hj hr z
      by_cases hcs : cs j = 0
      · rcases a.1 with b | b | b | b
        · exact Or.inl b
        · exact Or.inr b
        · exact absurd hcs b.2
        · exact absurd hc b.2
      · exact Or.inl (a.2 hyj hcs)
    have hsj : upd se j 1 j ≠ 0 := by rw [zr_s rfl]; exact zr_01
    have I1 := zi_settle I0 hj hk hkj hl
    have I2 := zi_end I1 hr hk hj hg
    have I3 : zr_inv R K L S vw mb up ky sr vl bs sp an cs (upd se j 1) la' ho kn' (upd ga (r * 8 + k) (-1)) (upd gs (r * 8 + k) 0) wi cr re go kw' (upd yg (r * 24 + j) 0) iz ms := by
      rcases hkk with ⟨z, rfl, rfl⟩ | ⟨z, rfl, rfl⟩
      · exact zi_know I2 hr hk hj z hsj
      · exact I2
    have I4 : zr_inv R K L S vw mb up ky sr vl bs sp an' cs (upd se j 1) la' ho kn' (upd ga (r * 8 + k) (-1)) (upd gs (r * 8 + k) 0) wi cr re go kw' (upd yg (r * 24 + j) 0) iz ms := by
      rcases haa with ⟨z, rfl⟩ | ⟨z, rfl⟩
      · refine zi_ansr I3 hr hk hj hkj z (zr_s rfl) (Or.inl rfl) ?_
        intro y
        rcases hkk with ⟨_, _, rfl⟩ | ⟨x, _, _⟩
        · rw [zr_s rfl]; exact zr_01
        · exact absurd y x
      · exact I3
    obtain ⟨wi', ms', I5, hXs, hYs⟩ := zo_sendo (vy := vy) (c := 2) I4 (by omega) hj hr (fun _ => hsj)
    refine zr_ou_in I5 (fun post hp => ?_) (fun post hp => ?_)
    · refine ⟨i8, ?_⟩
      rw [e8]
      refine br_t hmask ?_
      refine zx_finish (by omega) (by omega) (by omega) hkj (zr_v24 (by omega) (zr_b_v (hla k hk))) hl ?_ ?_ hXs hp
      · rcases haa with ⟨z, y⟩ | z
        · exact Or.inl ⟨z, h01 z, y⟩
        · exact Or.inr z
      · rcases hkk with ⟨z, y, _⟩ | ⟨z, y, _⟩
        · exact Or.inl ⟨z, y⟩
        · exact Or.inr ⟨z, y⟩
    · refine ⟨R + 1, zy_finish_l hsz hut huq hr hj hkj (hho r k hr hk) ?_ haa hYs hp hcomp (R + 1) 0 (by omega) (by omega)⟩
      rcases hkk with ⟨z, _, y⟩ | ⟨z, _, y⟩
      · exact Or.inl ⟨z, y⟩
      · exact Or.inr ⟨z, y⟩
  · have hex : ∃ i', 0 ≤ i' ∧ i' < R ∧ re i' = 0 ∧ iz ((r * 24 + j) * 5 + i') = 0 := by
      apply Classical.byContradiction
      intro z
      apply hcomp
      intro i hi hre hiz
      exact z ⟨i, by omega, hi, hre, hiz⟩
    have hmask : ¬ (mb &&& (gs (r * 8 + k) ^^^ (-1))) = 0 := by
      intro z
      obtain ⟨i, _, a2, a3, a4⟩ := hex
      have : bt (mb &&& (gs (r * 8 + k) ^^^ (-1))) i = true := by
        rw [zr_and, zr_not (by omega)]
        exact ⟨(hmb i (by omega)).mpr ⟨a2, a3⟩, fun y => ((hG i (by omega)).mp y).2 a4⟩
      rw [z] at this
      exact zr_0 this
    refine zr_ou_in I0 (fun post hp => ?_) (fun post hp => ?_)
    · refine ⟨i8, ?_⟩
      rw [e8]
      exact br_f hmask hp
    · exact ⟨R + 1, zy_finish_n hsz hr hj hp (R + 1) 0 (by omega) (by omega) hex⟩
end
end
section
/-! a gathering begins -/
section
variable {R K L S : Nat} {vw mb up : Int32} {ky sr vl bs sp an cs se la ho kn ga gs wi cr re go kw yg iz ms : Nat → Int32}
theorem zy_onlySelf_l {r j : Nat} (hs : zr_sz R K L S) (hr : r < R) (hj : j < S) : ∀ d i, i + d = R → ∀ iz : Nat → Int32, (∀ i', i' < i → (iz ((r * 24 + j) * 5 + i') ≠ 0 ↔ i' = r)) →
    ∃ iz' : Nat → Int32, (∀ i', i' < R → (iz' ((r * 24 + j) * 5 + i') ≠ 0 ↔ i' = r)) ∧ (∀ x, (x < (r * 24 + j) * 5 ∨ (r * 24 + j) * 5 + 5 ≤ x) → iz' x = iz x) ∧
      ∀ (post : SY → Prop) (n : Nat), d < n → post (nI R, nI K, nI L, nI S, vw, ky, sr, vl, bs, an, cs, se, cr, re, go, kw, yg, iz', ms) → wY_onlySelf_2 post (nI r) (nI j) (nI R) (nI K) (nI L) (nI S) vw n (nI i) ky sr vl bs an cs se cr re go kw yg iz ms := by
  obtain ⟨h1, h2, h3, h4, h5, h6, h7⟩ := hs
  intro d
  induction d with
  | zero =>
    intro i hi iz hz
    refine ⟨iz, fun i' hi' => hz i' (by omega), fun x _ => rfl, fun post n hn hp => ?_⟩
    obtain ⟨n, rfl⟩ : ∃ m, n = m + 1 := ⟨n - 1, by omega⟩
    exact br_t (nI_le (by omega) (by omega)) hp
  | succ d ih =>
    intro i hi iz hz
    have e6 : (nI ((r * 24 + j) * 5 + i)).toNatClampNeg = (r * 24 + j) * 5 + i := nI_clamp (by omega)
    have i6 : vp_in (nI ((r * 24 + j) * 5 + i)) 600 := vp_in_nI (by omega) (by omega)
    by_cases hir : i = r
    · obtain ⟨iz', a1, a2, a3⟩ := ih (i + 1) (by omega) (upd iz ((r * 24 + j) * 5 + i) 1) (by
        intro i' hi'
        by_cases z : i' = i
        · rw [zr_s (by rw [z])]
          exact ⟨fun _ => z.trans hir, fun _ => zr_01⟩
        · rw [zr_n (by omega)]
          exact hz i' (by omega))
      refine ⟨iz', a1, fun x hx => (a2 x hx).trans (zr_n (by omega)), fun post n hn hp => ?_⟩
      obtain ⟨n, rfl⟩ : ∃ m, n = m + 1 := ⟨n - 1, by omega⟩
      refine br_f (nI_ge (by omega) (by omega)) ?_
      rw [zr_24, zr_5, e6]
      exact br_t (by rw [hir]) ⟨i6, nm_r (e' := upd iz ((r * 24 + j) * 5 + i) 1) (by rw [zr_vb1]) (nm_r (nI_1 i) (a3 post n (by omega) hp))⟩
    · obtain ⟨iz', a1, a2, a3⟩ := ih (i + 1) (by omega) (upd iz ((r * 24 + j) * 5 + i) 0) (by
        intro i' hi'
        by_cases z : i' = i
        · rw [zr_s (by rw [z])]
          exact ⟨fun y => absurd rfl y, fun y => absurd (z.symm.trans y) hir⟩
        · rw [zr_n (by omega)]
          exact hz i' (by omega))
      refine ⟨iz', a1, fun x hx => (a2 x hx).trans (zr_n (by omega)), fun post n hn hp => ?_⟩
      obtain ⟨n, rfl⟩ : ∃ m, n = m + 1 := ⟨n - 1, by omega⟩
      refine br_f (nI_ge (by omega) (by omega)) ?_
      rw [zr_24, zr_5, e6]
      exact br_f (fun z => hir (zr_im z (by omega) (by omega))) ⟨i6, nm_r (e' := upd iz ((r * 24 + j) * 5 + i) 0) (by rw [zr_vb0]) (nm_r (nI_1 i) (a3 post n (by omega) hp))⟩
theorem zy_onlySelf {r j : Nat} (hs : zr_sz R K L S) (hr : r < R) (hj : j < S) :
    ∃ iz' : Nat → Int32, (∀ i', i' < R → (iz' ((r * 24 + j) * 5 + i') ≠ 0 ↔ i' = r)) ∧ (∀ x, (x < (r * 24 + j) * 5 ∨ (r * 24 + j) * 5 + 5 ≤ x) → iz' x = iz x) ∧
      ∀ (post : SY → Prop), post (nI R, nI K, nI L, nI S, vw, ky, sr, vl, bs, an, cs, se, cr, re, go, kw, yg, iz', ms) → wpY_onlySelf post (nI R, nI K, nI L, nI S, vw, ky, sr, vl, bs, an, cs, se, cr, re, go, kw, yg, iz, ms) (nI r) (nI j) := by
  obtain ⟨iz', a1, a2, a3⟩ := zy_onlySelf_l hs hr hj R 0 (by omega) iz (fun i' hi' => by omega)
  exact ⟨iz', a1, a2, fun post hp => ⟨R + 1, a3 post (R + 1) (by omega) hp⟩⟩
theorem zo_gather {r k j : Nat} (I : zr_inv R K L S vw mb up ky sr vl bs sp an cs se la ho kn ga gs wi cr re go kw yg iz ms) (hr : r < R) (hk : k < K) (hj : j < S) (hkj : ky j = nI k) (hc : cr r = 0) (hg : ga (r * 8 + k) = -1)
    (hcs : cs j ≠ 0 → sr j = nI r → an j = 0) :
    zr_ou R K L S vw mb up cr re vw (fun post => wpX_beginGathering post (nI R, nI K, nI L, nI S, vw, mb, up, ky, sr, vl, bs, sp, an, cs, se, la, ho, kn, ga, gs, wi) (nI r) (nI j) (nI (r * 8 + k))) (fun post => wpY_gather post (nI R, nI K, nI L, nI S, vw, ky, sr, vl, bs, an, cs, se, cr, re, go, kw, yg, iz, ms) (nI r) (nI j)) := by
  have hsz := I.1
  have hsz0 := hsz
  obtain ⟨h1, h2, h3, h4, h5, h6, h7⟩ := hsz0
  have e8 : (nI (r * 8 + k)).toNatClampNeg = r * 8 + k := nI_clamp (by omega)
  have i8 : vp_in (nI (r * 8 + k)) 40 := vp_in_nI (by omega) (by omega)
  obtain ⟨iz', a1, a2, a3⟩ := zy_onlySelf (iz := iz) (vw := vw) (ky := ky) (sr := sr) (vl := vl) (bs := bs) (an := an) (cs := cs) (se := se) (cr := cr) (re := re) (go := go) (kw := kw) (yg := upd yg (r * 24 + j) 1) (ms := ms) hsz hr hj
  have I1 := zi_begin I hr hk hj hkj hc hg a1 a2 hcs
  obtain ⟨wi', ms', I2, hXs, hYs⟩ := zo_sendo (vy := vw) (c := 0) I1 (by omega) hj hr (fun z => by omega)
  obtain ⟨ky'', sr'', vl'', bs'', sp'', an'', cs'', se'', la'', ho'', kn'', ga'', gs'', wi'', go'', kw'', yg'', iz'', ms'', I3, hXf, hYf⟩ := zo_finc (vy := vw) I2 hr hk hj (zr_s rfl)
  refine zr_ou_in I3 (fun post hp => ?_) (fun post hp => ?_)
  · refine ⟨i8, ?_⟩
    rw [e8]
    refine nm_e ⟨i8, nm_e ?_⟩
    refine hXs _ ?_
    exact hXf _ hp
  · unfold wpY_gather
    dsimp only
    rw [zr_24, nI_clamp (n := r * 24 + j) (by omega)]
    refine ⟨vp_in_nI (by omega) (by omega), nm_r (e' := upd yg (r * 24 + j) 1) (by rw [zr_vb1]) ?_⟩
    refine a3 _ ?_
    refine hYs _ ?_
    exact hYf _ hp
end
end
section
/-! a new update: the relation -/
def zr_un (f : Nat → Nat) (k v : Nat) : Nat → Nat := fun j => if j = k then v else f j
theorem zr_un_s {f : Nat → Nat} {k v : Nat} : zr_un f k v k = v := if_pos rfl
theorem zr_un_n {f : Nat → Nat} {k v j : Nat} (h : j ≠ k) : zr_un f k v j = f j := if_neg h
theorem zr_gb_un {f : Nat → Nat} {k v : Nat} {x : Int32} (hk : k < 2 ^ 31) (hx : x = -1 ∨ ∃ j, j < k ∧ x = nI j) : zr_gb (zr_un f k v) x = zr_gb f x := by
  rcases hx with rfl | ⟨j, hj, rfl⟩
  · rw [zr_gb_n, zr_gb_n]
  · rw [zr_gb_j (by omega), zr_gb_j (by omega), zr_un_n (by omega)]
theorem zr_b_le {S u : Nat} {sp : Nat → Int32} {P : Nat → Prop} {b : Int32} (hS : S ≤ 24) (h : zr_best S sp P b) (hu : u < S) (hp : P u) : sp u ≤ zr_st sp b := by
  rcases h with z | ⟨j, hj, e, hpj, h⟩
  · exact absurd hp (z.2 u hu)
  · rw [e, zr_st_j (by omega)]
    rcases h u hu hp with z | z
    · rw [z]; exact Int32.le_rfl
    · exact Int32.le_of_lt z
theorem zr_b_ext {S : Nat} {sp sp' : Nat → Int32} {P P' : Nat → Prop} {b : Int32} (h : zr_best S sp P b) (hs : ∀ u, u < S → sp' u = sp u) (hp : ∀ u, u < S → (P' u ↔ P u)) (hn : ¬ P' S) : zr_best (S + 1) sp' P' b := by
  rcases h with ⟨e, h⟩ | ⟨j, hj, e, hpj, h⟩
  · refine Or.inl ⟨e, fun u hu z => ?_⟩
    by_cases y : u = S
    · subst y; exact hn z
    · exact h u (by omega) ((hp u (by omega)).mp z)
  · refine Or.inr ⟨j, by omega, e, (hp j hj).mpr hpj, fun u hu z => ?_⟩
    by_cases y : u = S
    · subst y; exact absurd z hn
    · rw [hs u (by omega), hs j hj]
      exact h u (by omega) ((hp u (by omega)).mp z)
section
variable {R K L S : Nat} {vw mb up : Int32} {ky sr vl bs sp an cs se la ho kn ga gs wi cr re go kw yg iz ms : Nat → Int32}
theorem zr_u1_keep {ve wr ch : Nat → Nat} {k r v w c : Nat} {x1 x2 x3 x4 x5 : Int32} {u : Nat} (hS : S < 24) (hu : u < S) (h : zr_u1 R K ky sr bs sp cs ve wr ch u) :
    zr_u1 R K (upd ky S x1) (upd sr S x2) (upd bs S x3) (upd sp S x4) (upd cs S x5) (zr_un ve S v) (zr_un wr S w) (zr_un ch S c) u := by
  have hne : u ≠ S := by omega
  unfold zr_u1 at h ⊢
  rw [zr_n hne, zr_n hne, zr_n hne, zr_n hne, zr_n hne, zr_un_n hne, zr_un_n hne, zr_un_n hne]
  obtain ⟨a1, a2, a3⟩ := h
  have hb : bs u = -1 ∨ ∃ j, j < S ∧ bs u = nI j := by
    rcases a2 with z | ⟨j, hj, z⟩
    · exact Or.inl z
    · exact Or.inr ⟨j, by omega, z⟩
  rw [zr_gb_un (by omega) hb, zr_gb_un (by omega) hb, zr_gb_un (by omega) hb]
  exact ⟨a1, a2, a3⟩
/-- the digits of a stamp, of an update or of none -/
theorem zp_dig {ve wr ch : Nat → Nat} {b : Int32} (hS : S ≤ 24) (hR : R ≤ 5) (hu : ∀ u, u < S → zr_u1 R K ky sr bs sp cs ve wr ch u) (hb : b = -1 ∨ ∃ j, j < S ∧ b = nI j) :
    ∃ g, g ≤ 4 ∧ zr_st sp b = nI (zr_gb ve b * 2048 + zr_gb wr b * 256 + zr_gb ch b * 8 + g) ∧ zr_gb ve b ≤ S ∧ zr_gb wr b ≤ 4 ∧ zr_gb ch b ≤ S := by
  rcases hb with rfl | ⟨j, hj, rfl⟩
  · rw [zr_st_n, zr_gb_n, zr_gb_n, zr_gb_n]
    exact ⟨0, by omega, rfl, by omega, by omega, by omega⟩
  · rw [zr_st_j (by omega), zr_gb_j (by omega), zr_gb_j (by omega), zr_gb_j (by omega)]
    obtain ⟨_, _, r, hr, _, hc, b1, b2, b3⟩ := hu j hj
    rcases hc with ⟨_, _, _, hc, hs⟩ | ⟨_, _, _, hc, hs⟩
    · exact ⟨0, by omega, by rw [hs, hc]; exact congrArg nI (by omega), by omega, by omega, by omega⟩
    · exact ⟨r, by omega, hs, by omega, by omega, by omega⟩
theorem zr_bn {n i : Nat} (hi : i < 32) : bt (nI n) i = n.testBit i := by
  show (BitVec.ofNat 32 n).getLsbD i = _
  rw [BitVec.getLsbD_ofNat]
  simp [hi]
theorem zr_bm8 : ∀ i, i < 32 → bt (-8) i = decide (3 ≤ i) := by decide +kernel
theorem zr_m8 (n : Nat) : nI n &&& (-8) = nI (n / 8 * 8) := by
  apply b_ext
  intro i hi
  rw [b_and, zr_bm8 i hi, zr_bn hi, zr_bn hi, show n / 8 * 8 = (n >>> 3) <<< 3 from by rw [Nat.shiftRight_eq_div_pow, Nat.shiftLeft_eq], Nat.testBit_shiftLeft, Nat.testBit_shiftRight]
  by_cases h : 3 ≤ i
  · rw [show 3 + (i - 3) = i from by omega, decide_eq_true h, Bool.and_true, Bool.true_and]
  · rw [decide_eq_false h, Bool.and_false, Bool.false_and]
theorem zp_ut {k r : Nat} {b c T : Int32} (hs : zr_sz R K L S) (hSL : S < L) (hut : zr_ut R K S ky sr bs sp cs) (hr : r < R) (hk : k < K) (hb : b = -1 ∨ ∃ j, j < S ∧ b = nI j)
    (hT : (c = 0 ∧ T = ((zr_st sp b >>> ((11 : Int32) &&& 31)) + 1) * 2048 + nI r * 256) ∨ (c = 1 ∧ T = ((zr_st sp b &&& (-8)) + 8) + nI r)) :
    zr_ut R K (S + 1) (upd ky S (nI k)) (upd sr S (nI r)) (upd bs S b) (upd sp S T) (upd cs S c) ∧ zr_st sp b < T := by
  obtain ⟨h1, h2, h3, h4, h5, h6, h7⟩ := hs
  obtain ⟨ve, wr, ch, hu⟩ := hut
  obtain ⟨g, hg, est, b1, b2, b3⟩ := zp_dig (by omega) h2 hu hb
  rcases hT with ⟨rfl, hT⟩ | ⟨rfl, hT⟩
  · have eT : T = nI ((zr_gb ve b + 1) * 2048 + r * 256) := by
      rw [hT, est, pk_shrN (by omega) _ 11 (by decide)]
      have : (zr_gb ve b * 2048 + zr_gb wr b * 256 + zr_gb ch b * 8 + g) / 2 ^ 11 = zr_gb ve b := by omega
      rw [this, nI_1]
      show nI (zr_gb ve b + 1) * nI 2048 + nI r * nI 256 = _
      rw [pk_mul, pk_mul, nI_add]
    constructor
    · refine ⟨zr_un ve S (zr_gb ve b + 1), zr_un wr S r, zr_un ch S 0, fun u huS => ?_⟩
      by_cases e : u = S
      · subst e
        unfold zr_u1
        rw [zr_s rfl, zr_s rfl, zr_s rfl, zr_s rfl, zr_s rfl, zr_un_s, zr_un_s, zr_un_s, zr_gb_un (by omega) hb]
        exact ⟨⟨k, hk, rfl⟩, hb, r, hr, rfl, Or.inl ⟨rfl, rfl, rfl, rfl, eT⟩, by omega, by omega, by omega⟩
      · exact zr_u1_keep (k := 0) (r := 0) (by omega) (by omega) (hu u (by omega))
    · rw [eT, est]
      exact nI_lt (by omega) (by omega)
  · have eT : T = nI (zr_gb ve b * 2048 + zr_gb wr b * 256 + (zr_gb ch b + 1) * 8 + r) := by
      rw [hT, est, zr_m8]
      have : (zr_gb ve b * 2048 + zr_gb wr b * 256 + zr_gb ch b * 8 + g) / 8 * 8 = zr_gb ve b * 2048 + zr_gb wr b * 256 + zr_gb ch b * 8 := by omega
      rw [this]
      show nI _ + nI 8 + nI r = _
      rw [nI_add, nI_add]
      congr 1
      omega
    constructor
    · refine ⟨zr_un ve S (zr_gb ve b), zr_un wr S (zr_gb wr b), zr_un ch S (zr_gb ch b + 1), fun u huS => ?_⟩
      by_cases e : u = S
      · subst e
        unfold zr_u1
        rw [zr_s rfl, zr_s rfl, zr_s rfl, zr_s rfl, zr_s rfl, zr_un_s, zr_un_s, zr_un_s, zr_gb_un (by omega) hb, zr_gb_un (by omega) hb, zr_gb_un (by omega) hb]
        exact ⟨⟨k, hk, rfl⟩, hb, r, hr, rfl, Or.inr ⟨rfl, rfl, rfl, rfl, eT⟩, by omega, by omega, by omega⟩
      · exact zr_u1_keep (k := 0) (r := 0) (by omega) (by omega) (hu u (by omega))
    · rw [eT, est]
      exact nI_lt (by omega) (by omega)
/-- equal stamps: equal starters -/
theorem zp_same (hS : S ≤ 24) (hR : R ≤ 5) (hut : zr_ut R K S ky sr bs sp cs) {u w : Nat} (hu : u < S) (hw : w < S) (e : sp u = sp w) : sr u = sr w := by
  obtain ⟨ve, wr, ch, h⟩ := hut
  obtain ⟨_, _, r, hr, er, hc, b1, b2, b3⟩ := h u hu
  obtain ⟨_, _, r', hr', er', hc', b1', b2', b3'⟩ := h w hw
  rw [er, er']
  rcases hc with ⟨_, _, c2, c3, c4⟩ | ⟨_, _, c2, c3, c4⟩ <;> rcases hc' with ⟨_, _, d2, d3, d4⟩ | ⟨_, _, d2, d3, d4⟩ <;> rw [c4, d4] at e
  · have := zr_im e (by omega) (by omega)
    exact congrArg nI (by omega)
  · have := zr_im e (by omega) (by omega)
    exact congrArg nI (by omega)
  · have := zr_im e (by omega) (by omega)
    exact congrArg nI (by omega)
  · have := zr_im e (by omega) (by omega)
    exact congrArg nI (by omega)
end
end
section
/-! a new update -/
section
variable {R K L S : Nat} {vw mb up : Int32} {ky sr vl bs sp an cs se la ho kn ga gs wi cr re go kw yg iz ms : Nat → Int32}
theorem zi_start {r k : Nat} {c T val : Int32} (I : zr_inv R K L S vw mb up ky sr vl bs sp an cs se la ho kn ga gs wi cr re go kw yg iz ms) (hr : r < R) (hk : k < K) (hSL : S < L) (hc : cr r = 0) (hn0 : kn (r * 8 + k) ≠ 0) (hc01 : c = 0 ∨ c = 1)
    (hT : (c = 0 ∧ T = ((zr_st sp (la k) >>> ((11 : Int32) &&& 31)) + 1) * 2048 + nI r * 256) ∨ (c = 1 ∧ T = ((zr_st sp (la k) &&& (-8)) + 8) + nI r)) :
    zr_inv R K L (S + 1) vw mb up (upd ky S (nI k)) (upd sr S (nI r)) (upd vl S val) (upd bs S (la k)) (upd sp S T) (upd an S 0) (upd cs S c) se la (upd ho (r * 8 + k) (nI S)) (upd kn (r * 8 + k) 0) ga gs wi cr re (upd go (r * 24 + S) 1) kw yg iz ms := by
  have I0 := I
  obtain ⟨hsz, hup, hmb, hsb, hut, huq, hla, hho, hkn, hkw, hga, hgs, hwi, hms, hne, how, hyu, han, ha3⟩ := I
  have hsz0 := hsz
  obtain ⟨h1, h2, h3, h4, h5, h6, h7⟩ := hsz0
  obtain ⟨hut', hlt⟩ := zp_ut hsz hSL hut hr hk (zr_b_v (hla k hk)) hT
  have hnS := hne S (by omega) (by omega)
  -- all that r got of this key lies below the new stamp
  have hlow : ∀ u, u < S → ky u = nI k → go (r * 24 + u) ≠ 0 → sp u < T := by
    intro u hu hku hgu
    have a1 := zr_b_le (by omega) (hho r k hr hk) hu ⟨hku, hgu⟩
    rcases hho r k hr hk with z | ⟨m, hm, em, hp, _⟩
    · exact absurd ⟨hku, hgu⟩ (z.2 u hu)
    · rw [em, zr_st_j (by omega)] at a1
      have hw : kw (r * 24 + m) ≠ 0 := fun y => hn0 (((hkn r k hr hk).2 m hm em).mpr y)
      have a2 := zr_b_le (by omega) (hla k hk) hm ⟨hp.1, (hkw r m hr hm hw).2⟩
      exact Int32.lt_of_le_of_lt (Int32.le_trans a1 a2) hlt
  have hnew : ∀ w, w < S → ky w = nI k → sp w ≠ T := by
    intro w hw hkw' e
    have := zp_same (by omega) h2 hut' (u := w) (w := S) (by omega) (by omega) (by rw [zr_n (by omega), zr_s rfl]; exact e)
    rw [zr_n (by omega), zr_s rfl] at this
    have hl := hlow w hw hkw' (how w r hw hr this hc)
    rw [e] at hl
    exact zr_irr hl
  refine ⟨⟨h1, h2, h3, h4, h5, h6, by omega⟩, hup, hmb, hsb, hut', ?_, ?_, ?_, ?_, ?_, ?_, ?_, ?_, ?_, ?_, ?_, ?_, ?_, ?_⟩
  · intro u w hu hw hky hsp
    by_cases e : u = S <;> by_cases e' : w = S
    · omega
    · subst e
      rw [zr_s rfl, zr_n e'] at hky hsp
      exact absurd hsp.symm (hnew w (by omega) hky.symm)
    · subst e'
      rw [zr_s rfl, zr_n e] at hky hsp
      exact absurd hsp (hnew u (by omega) hky)
    · rw [zr_n e, zr_n e'] at hky hsp
      exact huq u w (by omega) (by omega) hky hsp
  · intro k' hk'
    refine zr_b_ext (hla k' hk') (fun u hu => zr_n (by omega)) ?_ (fun z => z.2 hnS.1)
    intro u hu
    rw [zr_n (by omega)]
  · intro r' k' hr' hk'
    by_cases e : r' = r ∧ k' = k
    · obtain ⟨rfl, rfl⟩ := e
      rw [zr_s rfl]
      refine Or.inr ⟨S, by omega, rfl, ⟨zr_s rfl, by rw [zr_s rfl]; exact zr_01⟩, fun u hu z => ?_⟩
      by_cases y : u = S
      · exact Or.inl y
      · dsimp only at z
        rw [zr_n y, zr_n (by omega)] at z
        rw [zr_n y, zr_s rfl]
        exact Or.inr (hlow u (by omega) z.1 z.2)
    · rw [zr_n (by omega)]
      refine zr_b_ext (hho r' k' hr' hk') (fun u hu => zr_n (by omega)) ?_ ?_
      · intro u hu
        rw [zr_n (by omega), zr_n (by omega)]
      · rintro ⟨z1, z2⟩
        rw [zr_s rfl] at z1
        have hkk := zr_im z1 (by omega) (by omega)
        rw [zr_n (by omega)] at z2
        exact z2 (hnS.2 r' hr').1
  · intro r' k' hr' hk'
    by_cases e : r' = r ∧ k' = k
    · obtain ⟨rfl, rfl⟩ := e
      rw [zr_s rfl, zr_s rfl]
      refine ⟨fun z => absurd z (zr_ne1 (by omega)), fun j hj z => ?_⟩
      have := zr_im z (by omega) (by omega)
      subst this
      exact ⟨fun _ => (hnS.2 r' hr').2.1, fun _ => rfl⟩
    · rw [zr_n (by omega), zr_n (by omega)]
      refine ⟨(hkn r' k' hr' hk').1, fun j hj z => ?_⟩
      refine (hkn r' k' hr' hk').2 j ?_ z
      rcases zr_b_v (hho r' k' hr' hk') with y | ⟨m, hm, y⟩
      · exact absurd (z.symm.trans y) (zr_ne1 (by omega))
      · have := zr_im (z.symm.trans y) (by omega) (by omega)
        omega
  · intro r' u hr' hu z
    by_cases e : u = S
    · subst e
      exact absurd (hnS.2 r' hr').2.1 z
    · have := hkw r' u hr' (by omega) z
      exact ⟨zr_m1 this.1, this.2⟩
  · intro r' k' hr' hk'
    rcases hga r' k' hr' hk' with ⟨z1, z2⟩ | ⟨m, hm, em, hp, hy, hun⟩
    · refine Or.inl ⟨z1, fun u hu hku => ?_⟩
      by_cases e : u = S
      · subst e
        exact (hnS.2 r' hr').2.2
      · rw [zr_n e] at hku
        exact z2 u (by omega) hku
    · refine Or.inr ⟨m, by omega, em, by rw [zr_n (by omega)]; exact hp, hy, fun u hu hku hyu' => ?_⟩
      by_cases e : u = S
      · subst e
        exact absurd (hnS.2 r' hr').2.2 hyu'
      · rw [zr_n e] at hku
        exact hun u (by omega) hku hyu'
  · intro r' k' hr' hk'
    refine ⟨(hgs r' k' hr' hk').1, fun j hj z => ?_⟩
    refine (hgs r' k' hr' hk').2 j ?_ z
    rcases hga r' k' hr' hk' with y | ⟨m, hm, y, _⟩
    · exact absurd (z.symm.trans y.1) (zr_ne1 (by omega))
    · have := zr_im (z.symm.trans y) (by omega) (by omega)
      omega
  · intro c' a b hc' ha hb i hi
    rw [hwi c' a b hc' ha hb i hi]
    refine ⟨fun z => ⟨by omega, z.2⟩, fun z => ⟨?_, z.2⟩⟩
    by_cases e : i = S
    · subst e
      rcases hms c' a b i hc' ha hb (by omega) with y | y
      · exact absurd y z.2
      · exact y.2.1
    · omega
  · intro c' a b u hc' ha hb hu
    rcases hms c' a b u hc' ha hb hu with y | y
    · exact Or.inl y
    · exact Or.inr ⟨y.1, by omega, y.2.2⟩
  · intro u hu hu'
    have := hne u (by omega) hu'
    refine ⟨this.1, fun r' hr' => ?_⟩
    rw [zr_n (by omega)]
    exact this.2 r' hr'
  · intro u r' hu hr' z hc'
    by_cases e : u = S
    · subst e
      rw [zr_s rfl] at z
      have := zr_im z (by omega) (by omega)
      subst this
      rw [zr_s rfl]
      exact zr_01
    · rw [zr_n e] at z
      exact zr_m1 (how u r' (by omega) hr' z hc')
  · intro r' u hr' hu z
    by_cases e : u = S
    · subst e
      exact absurd (hnS.2 r' hr').2.2 z
    · exact hyu r' u hr' (by omega) z
  · intro u r' hu hr' z
    by_cases e : u = S
    · subst e
      rw [zr_s rfl]
      exact ⟨Or.inl rfl, fun _ _ => rfl⟩
    · rw [zr_n e] at z
      rw [zr_n e, zr_n e]
      exact han u r' (by omega) hr' z
  · intro u r' k' hu hr' hk' a1 a2 a3 a4 a5 a6
    by_cases e : u = S
    · subst e
      exact zr_s rfl
    · rw [zr_n e] at a1 a2 a4 ⊢
      by_cases y : r' = r ∧ k' = k
      · obtain ⟨rfl, rfl⟩ := y
        rw [zr_s rfl] at a5
        have := zr_im a5 (by omega) (by omega)
        omega
      · rw [zr_n (by omega)] at a5
        exact ha3 u r' k' (by omega) hr' hk' a1 a2 a3 a4 a5 a6
theorem zx_wst {r : Nat} {b : Int32} (hb : b = -1 ∨ ∃ j, j < 24 ∧ b = nI j) {post : Int32 → Prop} (h : post (((zr_st sp b >>> ((11 : Int32) &&& 31)) + 1) * 2048 + nI r * 256)) : wpX_writeStamp post (nI R, nI K, nI L, nI S, vw, mb, up, ky, sr, vl, bs, sp, an, cs, se, la, ho, kn, ga, gs, wi) b (nI r) := by
  unfold wpX_writeStamp
  refine zx_stamp hb ?_
  exact nm_e h
theorem zx_cst {r : Nat} {b : Int32} (hb : b = -1 ∨ ∃ j, j < 24 ∧ b = nI j) {post : Int32 → Prop} (h : post (((zr_st sp b &&& (-8)) + 8) + nI r)) : wpX_casStamp post (nI R, nI K, nI L, nI S, vw, mb, up, ky, sr, vl, bs, sp, an, cs, se, la, ho, kn, ga, gs, wi) b (nI r) := by
  unfold wpX_casStamp
  refine zx_stamp hb ?_
  exact nm_e h
theorem zr_vbc {c : Int32} (h : c = 0 ∨ c = 1) : vp_nar .boolean c = c := by
  rcases h with rfl | rfl
  · exact zr_vb0
  · exact zr_vb1
theorem zx_start_85 {r k : Nat} {c T : Int32} {S' : Nat} (hr : r < 5) (hk : k < 8) (hS : S < 24) (hc01 : c = 0 ∨ c = 1) (hse : se S = 0) {post : Int32 → SX → Prop}
    (h : wpX_beginGathering (fun u => post (nI S) u) (nI R, nI K, nI L, nI (S'), vw, mb, up, ky, sr, vl, bs, upd sp S T, upd an S 0, upd cs S c, se, la, upd ho (r * 8 + k) (nI S), upd kn (r * 8 + k) 0, ga, gs, wi) (nI r) (nI S) (nI (r * 8 + k))) :
    wX_start_85 post (nI r) (nI k) c (nI S) T (nI S) (nI R) (nI K) (nI L) (nI (S')) vw mb up ky sr vl bs sp an cs se la ho kn ga gs wi := by
  have eS : (nI S).toNatClampNeg = S := nI_clamp (by omega)
  have iS : vp_in (nI S) 24 := vp_in_nI hS (by omega)
  have e8 : (nI (r * 8 + k)).toNatClampNeg = r * 8 + k := nI_clamp (by omega)
  have i8 : vp_in (nI (r * 8 + k)) 40 := vp_in_nI (by omega) (by omega)
  refine ⟨iS, ?_⟩
  rw [eS]
  refine nm_e ⟨iS, nm_e ⟨iS, nm_r (e' := upd cs S c) (by rw [zr_vbc hc01]) ⟨iS, nm_r (e' := se) (by rw [zr_vb0]; exact zr_id hse) (nm_r (zr_8 r k) ?_)⟩⟩⟩
  rw [e8]
  refine ⟨i8, nm_e ⟨i8, nm_r (e' := upd kn (r * 8 + k) 0) (by rw [zr_vb0]) ?_⟩⟩
  exact h
end
end
section
/-! write, cas, replay -/
section
variable {R K L S : Nat} {vw mb up : Int32} {ky sr vl bs sp an cs se la ho kn ga gs wi cr re go kw yg iz ms : Nat → Int32}
def zr_oq (R K L S : Nat) (vw mb up : Int32) (cr re : Nat → Int32) (a : Int32) (pX : (Int32 → SX → Prop) → Prop) (pY : (Int32 → SY → Prop) → Prop) : Prop :=
  ∃ ky sr vl bs sp an cs se la ho kn ga gs wi go kw yg iz ms : Nat → Int32, zr_inv R K L S vw mb up ky sr vl bs sp an cs se la ho kn ga gs wi cr re go kw yg iz ms ∧ (∀ post : Int32 → SX → Prop, post a (nI R, nI K, nI L, nI S, vw, mb, up, ky, sr, vl, bs, sp, an, cs, se, la, ho, kn, ga, gs, wi) → pX post) ∧ (∀ post : Int32 → SY → Prop, post a (nI R, nI K, nI L, nI S, vw, ky, sr, vl, bs, an, cs, se, cr, re, go, kw, yg, iz, ms) → pY post)
theorem zr_oq_in {a : Int32} {pX : (Int32 → SX → Prop) → Prop} {pY : (Int32 → SY → Prop) → Prop} (I : zr_inv R K L S vw mb up ky sr vl bs sp an cs se la ho kn ga gs wi cr re go kw yg iz ms) (hX : ∀ post : Int32 → SX → Prop, post a (nI R, nI K, nI L, nI S, vw, mb, up, ky, sr, vl, bs, sp, an, cs, se, la, ho, kn, ga, gs, wi) → pX post) (hY : ∀ post : Int32 → SY → Prop, post a (nI R, nI K, nI L, nI S, vw, ky, sr, vl, bs, an, cs, se, cr, re, go, kw, yg, iz, ms) → pY post) : zr_oq R K L S vw mb up cr re a pX pY :=
  ⟨ky, sr, vl, bs, sp, an, cs, se, la, ho, kn, ga, gs, wi, go, kw, yg, iz, ms, I, hX, hY⟩
theorem zr_ouq_in {a : Int32} {pX : (Int32 → SX → Prop) → Prop} {pY : (Int32 → SY → Prop) → Prop} (I : zr_inv R K L S vw mb up ky sr vl bs sp an cs se la ho kn ga gs wi cr re go kw yg iz ms) (hX : ∀ post : Int32 → SX → Prop, post a (nI R, nI K, nI L, nI S, vw, mb, up, ky, sr, vl, bs, sp, an, cs, se, la, ho, kn, ga, gs, wi) → pX post) (hY : ∀ post : Int32 → SY → Prop, post a (nI R, nI K, nI L, nI S, vw, ky, sr, vl, bs, an, cs, se, cr, re, go, kw, yg, iz, ms) → pY post) : zr_ouq zr_all pX pY :=
  ⟨a, _, _, ⟨R, K, L, S, vw, mb, up, cr, re, zr_in I⟩, hX, hY⟩
theorem zo_start {r k : Nat} {c val : Int32} (I : zr_inv R K L S vw mb up ky sr vl bs sp an cs se la ho kn ga gs wi cr re go kw yg iz ms) (hr : r < R) (hk : k < K) (hSL : S < L) (hc : cr r = 0) (hn0 : kn (r * 8 + k) ≠ 0) (hg : ga (r * 8 + k) = -1) (hc01 : c = 0 ∨ c = 1) :
    zr_oq R K L (S + 1) vw mb up cr re (nI S) (fun post => wpX_start post (nI R, nI K, nI L, nI S, vw, mb, up, ky, sr, vl, bs, sp, an, cs, se, la, ho, kn, ga, gs, wi) (nI r) (nI k) val c) (fun post => wpY_start post (nI R, nI K, nI L, nI S, vw, ky, sr, vl, bs, an, cs, se, cr, re, go, kw, yg, iz, ms) (nI r) (nI k) val c) := by
  obtain ⟨T, hT⟩ : ∃ T : Int32, (c = 0 ∧ T = ((zr_st sp (la k) >>> ((11 : Int32) &&& 31)) + 1) * 2048 + nI r * 256) ∨ (c = 1 ∧ T = ((zr_st sp (la k) &&& (-8)) + 8) + nI r) := by
    rcases hc01 with z | z
    · exact ⟨_, Or.inl ⟨z, rfl⟩⟩
    · exact ⟨_, Or.inr ⟨z, rfl⟩⟩
  have I1 := zi_start (val := val) I hr hk hSL hc hn0 hc01 hT
  have I0 := I
  obtain ⟨hsz, hup, hmb, hsb, hut, huq, hla, hho, hkn, hkw, hga, hgs, hwi, hms, hne, how, hyu, han, ha3⟩ := I
  have hsz0 := hsz
  obtain ⟨h1, h2, h3, h4, h5, h6, h7⟩ := hsz0
  obtain ⟨ky'', sr'', vl'', bs'', sp'', an'', cs'', se'', la'', ho'', kn'', ga'', gs'', wi'', go'', kw'', yg'', iz'', ms'', I2, hXg, hYg⟩ := zo_gather (r := r) (k := k) (j := S) I1 hr hk (by omega) (zr_s rfl) hc hg (fun _ _ => zr_s rfl)
  have eS : (nI S).toNatClampNeg = S := nI_clamp (by omega)
  have iS : vp_in (nI S) 24 := vp_in_nI (by omega) (by omega)
  have ek : (nI k).toNatClampNeg = k := nI_clamp (by omega)
  have i8 : vp_in (nI k) 8 := vp_in_nI (by omega) (by omega)
  have hv := zr_v24 (S := S) (by omega) (zr_b_v (hla k hk))
  refine zr_oq_in I2 (fun post hp => ?_) (fun post hp => ?_)
  · refine ⟨i8, ?_⟩
    rw [ek, eS]
    refine nm_e (nm_r (nI_1 S) ⟨iS, nm_e ⟨iS, nm_e ⟨iS, nm_e ⟨iS, nm_e ?_⟩⟩⟩⟩)
    rcases hT with ⟨z, hT⟩ | ⟨z, hT⟩
    · refine br_t z ?_
      refine zx_wst hv ?_
      rw [← hT]
      exact zx_start_85 (by omega) (by omega) (by omega) hc01 (hne S (by omega) (by omega)).1 (hXg _ hp)
    · refine br_f (by rw [z]; decide) ?_
      refine zx_cst hv ?_
      rw [← hT]
      exact zx_start_85 (by omega) (by omega) (by omega) hc01 (hne S (by omega) (by omega)).1 (hXg _ hp)
  · refine br_t (nI_lt hSL (by omega)) ?_
    refine zy_latest hsz hut huq hk (hla k hk) ?_
    rw [eS]
    refine nm_r (nI_1 S) ⟨iS, nm_e ⟨iS, nm_e ⟨iS, nm_e ⟨iS, nm_e ⟨iS, nm_r (e' := upd cs S c) (by rw [zr_vbc hc01]) ⟨iS, nm_e ?_⟩⟩⟩⟩⟩⟩
    rw [zr_24, nI_clamp (n := r * 24 + S) (by omega)]
    refine ⟨vp_in_nI (by omega) (by omega), nm_r (e' := upd go (r * 24 + S) 1) (by rw [zr_vb1]) ?_⟩
    exact hYg _ hp
theorem zo_check {r k : Nat} (I : zr_inv R K L S vw mb up ky sr vl bs sp an cs se la ho kn ga gs wi cr re go kw yg iz ms) (hr : r < R) (hk : k < K) : ∃ c : Int32, (∀ post : Int32 → Prop, post c → wpX_checkStart post (nI R, nI K, nI L, nI S, vw, mb, up, ky, sr, vl, bs, sp, an, cs, se, la, ho, kn, ga, gs, wi) (nI r) (nI k)) ∧ (∀ post : Int32 → Prop, post c → wpY_refusal post (nI R, nI K, nI L, nI S, vw, ky, sr, vl, bs, an, cs, se, cr, re, go, kw, yg, iz, ms) (nI r) (nI k)) ∧
    ((c = 1 ∧ cr r = 0 ∧ kn (r * 8 + k) ≠ 0 ∧ ga (r * 8 + k) = -1) ∨ ¬ c = 1) := by
  have I0 := I
  obtain ⟨hsz, hup, hmb, hsb, hut, huq, hla, hho, hkn, hkw, hga, hgs, hwi, hms, hne, how, hyu, han, ha3⟩ := I
  have hsz0 := hsz
  obtain ⟨h1, h2, h3, h4, h5, h6, h7⟩ := hsz0
  have e8 : (nI (r * 8 + k)).toNatClampNeg = r * 8 + k := nI_clamp (by omega)
  have er : (nI r).toNatClampNeg = r := nI_clamp (by omega)
  have i8 : vp_in (nI (r * 8 + k)) 40 := vp_in_nI (by omega) (by omega)
  have i5 : vp_in (nI r) 5 := vp_in_nI (by omega) (by omega)
  by_cases hc : cr r = 0
  · by_cases hn : kn (r * 8 + k) = 0
    · refine ⟨-4, fun post hp => ?_, fun post hp => ?_, Or.inr (by decide)⟩
      · unfold wpX_checkStart
        refine zx_up1 hr h2 hup hc ?_
        refine br_f (by decide) (nm_r (zr_8 r k) ?_)
        rw [e8]
        exact ⟨i8, br_t hn hp⟩
      · refine ⟨i5, ?_⟩
        rw [er]
        refine br_t hc ?_
        refine zy_valid hsz hut huq hr hk hho hkn (fun _ => ?_) (fun z => absurd hn z)
        exact br_t rfl hp
    · by_cases hg : ga (r * 8 + k) = -1
      · refine ⟨1, fun post hp => ?_, fun post hp => ?_, Or.inl ⟨rfl, hc, hn, hg⟩⟩
        · unfold wpX_checkStart
          refine zx_up1 hr h2 hup hc ?_
          refine br_f (by decide) (nm_r (zr_8 r k) ?_)
          rw [e8]
          exact ⟨i8, br_f hn ⟨i8, br_t hg hp⟩⟩
        · refine ⟨i5, ?_⟩
          rw [er]
          refine br_t hc ?_
          refine zy_valid hsz hut huq hr hk hho hkn (fun z => absurd z hn) (fun _ => ?_)
          refine br_f (by decide) ?_
          refine zy_gathersFor hsz hr (hga r k hr hk) ?_
          exact br_t hg hp
      · refine ⟨-5, fun post hp => ?_, fun post hp => ?_, Or.inr (by decide)⟩
        · unfold wpX_checkStart
          refine zx_up1 hr h2 hup hc ?_
          refine br_f (by decide) (nm_r (zr_8 r k) ?_)
          rw [e8]
          exact ⟨i8, br_f hn ⟨i8, br_f hg hp⟩⟩
        · refine ⟨i5, ?_⟩
          rw [er]
          refine br_t hc ?_
          refine zy_valid hsz hut huq hr hk hho hkn (fun z => absurd z hn) (fun _ => ?_)
          refine br_f (by decide) ?_
          refine zy_gathersFor hsz hr (hga r k hr hk) ?_
          exact br_f hg hp
  · refine ⟨-3, fun post hp => ?_, fun post hp => ?_, Or.inr (by decide)⟩
    · unfold wpX_checkStart
      refine zx_up0 hr h2 hup hc ?_
      exact br_t rfl hp
    · refine ⟨i5, ?_⟩
      rw [er]
      exact br_f hc hp
theorem zx_val1 {v : Int32} (h0 : ¬ v < 0) (h1 : ¬ 255 < v) {post : Int32 → Prop} (h : post 1) : wpX_isValue post (nI R, nI K, nI L, nI S, vw, mb, up, ky, sr, vl, bs, sp, an, cs, se, la, ho, kn, ga, gs, wi) v := br_f h0 (br_f h1 h)
theorem zx_val0 {v : Int32} (h0 : v < 0 ∨ 255 < v) {post : Int32 → Prop} (h : post 0) : wpX_isValue post (nI R, nI K, nI L, nI S, vw, mb, up, ky, sr, vl, bs, sp, an, cs, se, la, ho, kn, ga, gs, wi) v := br_c (fun _ => h) (fun z => br_t (h0.resolve_left z) h)
theorem zo_write (I : zr_inv R K L S vw mb up ky sr vl bs sp an cs se la ho kn ga gs wi cr re go kw yg iz ms) (v1 v2 v3 : Int32) : zr_ouq zr_all (fun post => wpX_write post (nI R, nI K, nI L, nI S, vw, mb, up, ky, sr, vl, bs, sp, an, cs, se, la, ho, kn, ga, gs, wi) v1 v2 v3) (fun post => wpY_write post (nI R, nI K, nI L, nI S, vw, ky, sr, vl, bs, an, cs, se, cr, re, go, kw, yg, iz, ms) v1 v2 v3) := by
  have I0 := I
  obtain ⟨hsz, hup, hmb, hsb, hut, huq, hla, hho, hkn, hkw, hga, hgs, hwi, hms, hne, how, hyu, han, ha3⟩ := I
  have hsz0 := hsz
  obtain ⟨h1, h2, h3, h4, h5, h6, h7⟩ := hsz0
  rcases zb_place h2 h4 v1 v2 with ⟨r, k, hr, hk, rfl, rfl⟩ | hv
  · by_cases hval : v3 < 0 ∨ 255 < v3
    · refine zr_ouq_in (a := -2) I0 (fun post hp => ?_) (fun post hp => ?_)
      · unfold wpX_write
        refine zx_place1 hr hk h2 h4 ?_
        refine br_f (by decide) ?_
        refine zx_val0 hval ?_
        exact br_t rfl hp
      · unfold wpY_write
        refine zy_out0 hr hk h2 h4 ?_
        refine br_t rfl (br_c (fun _ => hp) (fun z => br_f ?_ hp))
        exact Int32.not_le.mpr (hval.resolve_left z)
    · have q0 : ¬ v3 < 0 := fun z => hval (Or.inl z)
      have q1 : ¬ 255 < v3 := fun z => hval (Or.inr z)
      obtain ⟨c, hXc, hYc, hcc⟩ := zo_check I0 hr hk
      rcases hcc with ⟨rfl, hc, hn, hg⟩ | hcc
      · by_cases hSL : S < L
        · obtain ⟨ky', sr', vl', bs', sp', an', cs', se', la', ho', kn', ga', gs', wi', go', kw', yg', iz', ms', I1, hX1, hY1⟩ := zo_start (val := v3) (c := 0) I0 hr hk hSL hc hn hg (Or.inl rfl)
          refine zr_ouq_in (a := nI S) I1 (fun post hp => ?_) (fun post hp => ?_)
          · unfold wpX_write
            refine zx_place1 hr hk h2 h4 ?_
            refine br_f (by decide) ?_
            refine zx_val1 q0 q1 ?_
            refine br_f (by decide) ?_
            refine hXc _ ?_
            refine br_t rfl (br_t (nI_lt hSL (by omega)) ?_)
            exact hX1 _ hp
          · unfold wpY_write
            refine zy_out0 hr hk h2 h4 ?_
            refine br_t rfl (br_f q0 (br_t (Int32.not_lt.mp q1) ?_))
            refine hYc _ ?_
            refine br_t rfl ?_
            exact hY1 _ hp
        · have hnl : ¬ nI S < nI L := nI_nlt (by omega) (by omega)
          refine zr_ouq_in (a := -7) I0 (fun post hp => ?_) (fun post hp => ?_)
          · unfold wpX_write
            refine zx_place1 hr hk h2 h4 ?_
            refine br_f (by decide) ?_
            refine zx_val1 q0 q1 ?_
            refine br_f (by decide) ?_
            refine hXc _ ?_
            exact br_t rfl (br_f hnl hp)
          · unfold wpY_write
            refine zy_out0 hr hk h2 h4 ?_
            refine br_t rfl (br_f q0 (br_t (Int32.not_lt.mp q1) ?_))
            refine hYc _ ?_
            exact br_t rfl (br_f hnl hp)
      · refine zr_ouq_in (a := c) I0 (fun post hp => ?_) (fun post hp => ?_)
        · unfold wpX_write
          refine zx_place1 hr hk h2 h4 ?_
          refine br_f (by decide) ?_
          refine zx_val1 q0 q1 ?_
          refine br_f (by decide) ?_
          refine hXc _ ?_
          exact br_f hcc hp
        · unfold wpY_write
          refine zy_out0 hr hk h2 h4 ?_
          refine br_t rfl (br_f q0 (br_t (Int32.not_lt.mp q1) ?_))
          refine hYc _ ?_
          exact br_f hcc hp
  · refine zr_ouq_in (a := -2) I0 (fun post hp => ?_) (fun post hp => ?_)
    · unfold wpX_write
      refine zx_place0 h2 hv ?_
      exact br_t rfl hp
    · unfold wpY_write
      refine zy_out1 hv ?_
      exact br_f (by decide) hp
theorem zo_cas (I : zr_inv R K L S vw mb up ky sr vl bs sp an cs se la ho kn ga gs wi cr re go kw yg iz ms) (v1 v2 v3 v4 : Int32) : zr_ouq zr_all (fun post => wpX_cas post (nI R, nI K, nI L, nI S, vw, mb, up, ky, sr, vl, bs, sp, an, cs, se, la, ho, kn, ga, gs, wi) v1 v2 v3 v4) (fun post => wpY_cas post (nI R, nI K, nI L, nI S, vw, ky, sr, vl, bs, an, cs, se, cr, re, go, kw, yg, iz, ms) v1 v2 v3 v4) := by
  have I0 := I
  obtain ⟨hsz, hup, hmb, hsb, hut, huq, hla, hho, hkn, hkw, hga, hgs, hwi, hms, hne, how, hyu, han, ha3⟩ := I
  have hsz0 := hsz
  obtain ⟨h1, h2, h3, h4, h5, h6, h7⟩ := hsz0
  rcases zb_place h2 h4 v1 v2 with ⟨r, k, hr, hk, rfl, rfl⟩ | hv
  · by_cases hval : v3 < 0 ∨ 255 < v3
    · refine zr_ouq_in (a := -2) I0 (fun post hp => ?_) (fun post hp => ?_)
      · unfold wpX_cas
        refine zx_place1 hr hk h2 h4 ?_
        refine br_f (by decide) ?_
        refine zx_val0 hval ?_
        exact br_t rfl hp
      · unfold wpY_cas
        refine zy_out0 hr hk h2 h4 ?_
        exact br_t rfl (br_c (fun _ => hp) (fun z => br_t (hval.resolve_left z) hp))
    · have q0 : ¬ v3 < 0 := fun z => hval (Or.inl z)
      have q1 : ¬ 255 < v3 := fun z => hval (Or.inr z)
      by_cases hval4 : v4 < 0 ∨ 255 < v4
      · refine zr_ouq_in (a := -2) I0 (fun post hp => ?_) (fun post hp => ?_)
        · unfold wpX_cas
          refine zx_place1 hr hk h2 h4 ?_
          refine br_f (by decide) ?_
          refine zx_val1 q0 q1 ?_
          refine br_f (by decide) ?_
          refine zx_val0 hval4 ?_
          exact br_t rfl hp
        · unfold wpY_cas
          refine zy_out0 hr hk h2 h4 ?_
          refine br_t rfl (br_f q0 (br_f q1 (br_c (fun _ => hp) (fun z => br_f ?_ hp))))
          exact Int32.not_le.mpr (hval4.resolve_left z)
      · have p0 : ¬ v4 < 0 := fun z => hval4 (Or.inl z)
        have p1 : ¬ 255 < v4 := fun z => hval4 (Or.inr z)
        have p1' : v4 ≤ 255 := Int32.not_lt.mp p1
        obtain ⟨c, hXc, hYc, hcc⟩ := zo_check I0 hr hk
        have hl24 := zr_v24 (S := S) (by omega) (zr_b_v (hla k hk))
        rcases hcc with ⟨rfl, hc, hn, hg⟩ | hcc
        · by_cases hm : zr_vl vl (la k) = v3
          · by_cases hSL : S < L
            · obtain ⟨ky', sr', vl', bs', sp', an', cs', se', la', ho', kn', ga', gs', wi', go', kw', yg', iz', ms', I1, hX1, hY1⟩ := zo_start (val := v4) (c := 1) I0 hr hk hSL hc hn hg (Or.inr rfl)
              refine zr_ouq_in (a := nI S) I1 (fun post hp => ?_) (fun post hp => ?_)
              · unfold wpX_cas
                refine zx_place1 hr hk h2 h4 ?_
                refine br_f (by decide) ?_
                refine zx_val1 q0 q1 ?_
                refine br_f (by decide) ?_
                refine zx_val1 p0 p1 ?_
                refine br_f (by decide) ?_
                refine hXc _ ?_
                refine br_t rfl ?_
                refine zx_lval (by omega) hl24 ?_
                refine br_t hm (br_t (nI_lt hSL (by omega)) ?_)
                exact hX1 _ hp
              · unfold wpY_cas
                refine zy_out0 hr hk h2 h4 ?_
                refine br_t rfl (br_f q0 (br_f q1 (br_f p0 (br_t p1' ?_))))
                refine hYc _ ?_
                refine br_t rfl ?_
                refine zy_content hsz hut huq hk hla ?_
                refine br_t hm ?_
                exact hY1 _ hp
            · have hnl : ¬ nI S < nI L := nI_nlt (by omega) (by omega)
              refine zr_ouq_in (a := -7) I0 (fun post hp => ?_) (fun post hp => ?_)
              · unfold wpX_cas
                refine zx_place1 hr hk h2 h4 ?_
                refine br_f (by decide) ?_
                refine zx_val1 q0 q1 ?_
                refine br_f (by decide) ?_
                refine zx_val1 p0 p1 ?_
                refine br_f (by decide) ?_
                refine hXc _ ?_
                refine br_t rfl ?_
                refine zx_lval (by omega) hl24 ?_
                exact br_t hm (br_f hnl hp)
              · unfold wpY_cas
                refine zy_out0 hr hk h2 h4 ?_
                refine br_t rfl (br_f q0 (br_f q1 (br_f p0 (br_t p1' ?_))))
                refine hYc _ ?_
                refine br_t rfl ?_
                refine zy_content hsz hut huq hk hla ?_
                exact br_t hm (br_f hnl hp)
          · refine zr_ouq_in (a := -6) I0 (fun post hp => ?_) (fun post hp => ?_)
            · unfold wpX_cas
              refine zx_place1 hr hk h2 h4 ?_
              refine br_f (by decide) ?_
              refine zx_val1 q0 q1 ?_
              refine br_f (by decide) ?_
              refine zx_val1 p0 p1 ?_
              refine br_f (by decide) ?_
              refine hXc _ ?_
              refine br_t rfl ?_
              refine zx_lval (by omega) hl24 ?_
              exact br_f hm hp
            · unfold wpY_cas
              refine zy_out0 hr hk h2 h4 ?_
              refine br_t rfl (br_f q0 (br_f q1 (br_f p0 (br_t p1' ?_))))
              refine hYc _ ?_
              refine br_t rfl ?_
              refine zy_content hsz hut huq hk hla ?_
              exact br_f hm hp
        · refine zr_ouq_in (a := c) I0 (fun post hp => ?_) (fun post hp => ?_)
          · unfold wpX_cas
            refine zx_place1 hr hk h2 h4 ?_
            refine br_f (by decide) ?_
            refine zx_val1 q0 q1 ?_
            refine br_f (by decide) ?_
            refine zx_val1 p0 p1 ?_
            refine br_f (by decide) ?_
            refine hXc _ ?_
            exact br_f hcc hp
          · unfold wpY_cas
            refine zy_out0 hr hk h2 h4 ?_
            refine br_t rfl (br_f q0 (br_f q1 (br_f p0 (br_t p1' ?_))))
            refine hYc _ ?_
            exact br_f hcc hp
  · refine zr_ouq_in (a := -2) I0 (fun post hp => ?_) (fun post hp => ?_)
    · unfold wpX_cas
      refine zx_place0 h2 hv ?_
      exact br_t rfl hp
    · unfold wpY_cas
      refine zy_out1 hv ?_
      exact br_f (by decide) hp
theorem zo_replay (I : zr_inv R K L S vw mb up ky sr vl bs sp an cs se la ho kn ga gs wi cr re go kw yg iz ms) (v1 v2 : Int32) : zr_ouq zr_all (fun post => wpX_replay post (nI R, nI K, nI L, nI S, vw, mb, up, ky, sr, vl, bs, sp, an, cs, se, la, ho, kn, ga, gs, wi) v1 v2) (fun post => wpY_replay post (nI R, nI K, nI L, nI S, vw, ky, sr, vl, bs, an, cs, se, cr, re, go, kw, yg, iz, ms) v1 v2) := by
  have I0 := I
  obtain ⟨hsz, hup, hmb, hsb, hut, huq, hla, hho, hkn, hkw, hga, hgs, hwi, hms, hne, how, hyu, han, ha3⟩ := I
  have hsz0 := hsz
  obtain ⟨h1, h2, h3, h4, h5, h6, h7⟩ := hsz0
  rcases zb_place h2 h4 v1 v2 with ⟨r, k, hr, hk, rfl, rfl⟩ | hv
  · have e8 : (nI (r * 8 + k)).toNatClampNeg = r * 8 + k := nI_clamp (by omega)
    have er : (nI r).toNatClampNeg = r := nI_clamp (by omega)
    have i8 : vp_in (nI (r * 8 + k)) 40 := vp_in_nI (by omega) (by omega)
    have i5 : vp_in (nI r) 5 := vp_in_nI (by omega) (by omega)
    by_cases hc : cr r = 0
    · rcases hga r k hr hk with hg | ⟨j, hj, eg, hkj, hyj, hg⟩
      · by_cases hn : kn (r * 8 + k) = 0
        · obtain ⟨m, hm, em, hkm⟩ : ∃ m, m < S ∧ ho (r * 8 + k) = nI m ∧ ky m = nI k := by
            rcases hho r k hr hk with z | ⟨m, hm, em, hp, _⟩
            · exact absurd hn ((hkn r k hr hk).1 z.1)
            · exact ⟨m, hm, em, hp.1⟩
          have hkm0 := ((hkn r k hr hk).2 m hm em).mp hn
          obtain ⟨ky', sr', vl', bs', sp', an', cs', se', la', ho', kn', ga', gs', wi', go', kw', yg', iz', ms', I1, hX1, hY1⟩ := zo_gather I0 hr hk hm hkm hc hg.1 (fun a b => ha3 m r k hm hr hk b hkm hc a em hkm0)
          refine zr_ouq_in (a := 1) I1 (fun post hp => ?_) (fun post hp => ?_)
          · unfold wpX_replay
            refine zx_place1 hr hk h2 h4 ?_
            refine br_f (by decide) ?_
            refine zx_up1 hr h2 hup hc ?_
            refine br_f (by decide) (nm_r (zr_8 r k) ?_)
            rw [e8]
            refine ⟨i8, br_t hg.1 ⟨i8, br_t hn ⟨i8, ?_⟩⟩⟩
            rw [em]
            exact hX1 _ hp
          · unfold wpY_replay
            refine zy_out0 hr hk h2 h4 ?_
            refine br_t rfl ⟨i5, ?_⟩
            rw [er]
            refine br_t hc ?_
            refine zy_gathersFor hsz hr (hga r k hr hk) ?_
            refine br_t hg.1 ?_
            refine zy_valid hsz hut huq hr hk hho hkn (fun _ => ?_) (fun z => absurd hn z)
            refine br_t rfl ?_
            refine zy_holds hsz hut huq hr (hho r k hr hk) ?_
            rw [em]
            exact hY1 _ hp
        · refine zr_ouq_in (a := -11) I0 (fun post hp => ?_) (fun post hp => ?_)
          · unfold wpX_replay
            refine zx_place1 hr hk h2 h4 ?_
            refine br_f (by decide) ?_
            refine zx_up1 hr h2 hup hc ?_
            refine br_f (by decide) (nm_r (zr_8 r k) ?_)
            rw [e8]
            exact ⟨i8, br_t hg.1 ⟨i8, br_f hn hp⟩⟩
          · unfold wpY_replay
            refine zy_out0 hr hk h2 h4 ?_
            refine br_t rfl ⟨i5, ?_⟩
            rw [er]
            refine br_t hc ?_
            refine zy_gathersFor hsz hr (hga r k hr hk) ?_
            refine br_t hg.1 ?_
            refine zy_valid hsz hut huq hr hk hho hkn (fun z => absurd z hn) (fun _ => ?_)
            exact br_f (by decide) hp
      · have hne1 : ¬ ga (r * 8 + k) = -1 := by rw [eg]; exact zr_ne1 (by omega)
        obtain ⟨wi', ms', I1, hX1, hY1⟩ := zo_sendr_l hj hr ((hgs r k hr hk).2 j hj eg) R 0 (by omega) wi ms I0
        refine zr_ouq_in (a := 2) I1 (fun post hp => ?_) (fun post hp => ?_)
        · unfold wpX_replay
          refine zx_place1 hr hk h2 h4 ?_
          refine br_f (by decide) ?_
          refine zx_up1 hr h2 hup hc ?_
          refine br_f (by decide) (nm_r (zr_8 r k) ?_)
          rw [e8]
          refine ⟨i8, br_f hne1 ⟨i8, i8, ?_⟩⟩
          rw [eg]
          exact ⟨R + 1, hX1 _ (R + 1) (by omega) hp⟩
        · unfold wpY_replay
          refine zy_out0 hr hk h2 h4 ?_
          refine br_t rfl ⟨i5, ?_⟩
          rw [er]
          refine br_t hc ?_
          refine zy_gathersFor hsz hr (hga r k hr hk) ?_
          refine br_f hne1 ?_
          rw [eg]
          exact ⟨R + 1, hY1 _ (R + 1) (by omega) hp⟩
    · refine zr_ouq_in (a := -3) I0 (fun post hp => ?_) (fun post hp => ?_)
      · unfold wpX_replay
        refine zx_place1 hr hk h2 h4 ?_
        refine br_f (by decide) ?_
        refine zx_up0 hr h2 hup hc ?_
        exact br_t rfl hp
      · unfold wpY_replay
        refine zy_out0 hr hk h2 h4 ?_
        refine br_t rfl ⟨i5, ?_⟩
        rw [er]
        exact br_f hc hp
  · refine zr_ouq_in (a := -2) I0 (fun post hp => ?_) (fun post hp => ?_)
    · unfold wpX_replay
      refine zx_place0 h2 hv ?_
      exact br_t rfl hp
    · unfold wpY_replay
      refine zy_out1 hv ?_
      exact br_f (by decide) hp
end
end
section
/-! what a delivered message does -/
section
variable {R K L S : Nat} {vw mb up : Int32} {ky sr vl bs sp an cs se la ho kn ga gs wi cr re go kw yg iz ms : Nat → Int32}
theorem zo_inv_t {k j a b : Nat} (I : zr_inv R K L S vw mb up ky sr vl bs sp an cs se la ho kn ga gs wi cr re go kw yg iz ms) (hj : j < S) (hk : k < K) (ha : a < R) (hb : b < R) (hkj : ky j = nI k) (hgo : go (b * 24 + j) ≠ 0) :
    zr_ou R K L S vw mb up cr re vw (fun post => wX_handleInv_27 post (nI j) (nI a) (nI b) (nI (b * 8 + k)) (nI R) (nI K) (nI L) (nI S) vw mb up ky sr vl bs sp an cs se la ho kn ga gs wi) (fun post => wY_act_125 post (nI j) (nI a) (nI b) (nI k) (nI R) (nI K) (nI L) (nI S) vw ky sr vl bs an cs se cr re go kw yg iz ms) := by
  have I0 := I
  obtain ⟨hsz, hup, hmb, hsb, hut, huq, hla, hho, hkn, hkw, hga, hgs, hwi, hms, hne, how, hyu, han, ha3⟩ := I
  have hsz0 := hsz
  obtain ⟨h1, h2, h3, h4, h5, h6, h7⟩ := hsz0
  have e8 : (nI (b * 8 + k)).toNatClampNeg = b * 8 + k := nI_clamp (by omega)
  have i8 : vp_in (nI (b * 8 + k)) 40 := vp_in_nI (by omega) (by omega)
  have ej : (nI j).toNatClampNeg = j := nI_clamp (by omega)
  have i24 : vp_in (nI j) 24 := vp_in_nI (by omega) (by omega)
  obtain ⟨m, hm, em⟩ : ∃ m, m < S ∧ ho (b * 8 + k) = nI m := by
    rcases hho b k hb hk with z | ⟨m, hm, em, _⟩
    · exact absurd ⟨hkj, hgo⟩ (z.2 j hj)
    · exact ⟨m, hm, em⟩
  by_cases hsend : cs j = 0 ∨ ho (b * 8 + k) = nI j
  · obtain ⟨wi', ms', I1, hX1, hY1⟩ := zo_send (vy := vw) (c := 1) I0 (by omega) hj hb ha (fun z => by omega)
    refine zr_ou_in I1 (fun post hp => ?_) (fun post hp => ?_)
    · refine ⟨i8, ?_⟩
      rw [e8]
      refine nm_e ⟨i24, ?_⟩
      rw [ej]
      by_cases hcs : cs j = 0
      · refine br_t hcs ?_
        exact hX1 _ hp
      · refine br_f hcs (br_t (hsend.resolve_left hcs) ?_)
        exact hX1 _ hp
    · unfold wY_act_125
      refine zy_holds hsz hut huq hb (hho b k hb hk) ?_
      refine ⟨i24, ?_⟩
      rw [ej]
      by_cases hcs : cs j = 0
      · refine br_t hcs ?_
        exact hY1 _ hp
      · refine br_f hcs (br_t (hsend.resolve_left hcs) ?_)
        exact hY1 _ hp
  · have hcs : ¬ cs j = 0 := fun z => hsend (Or.inl z)
    have hho' : ¬ ho (b * 8 + k) = nI j := fun z => hsend (Or.inr z)
    obtain ⟨wi', ms', I1, hX1, hY1⟩ := zo_send (vy := vw) (c := 0) I0 (by omega) hm hb ha (fun z => by omega)
    refine zr_ou_in I1 (fun post hp => ?_) (fun post hp => ?_)
    · refine ⟨i8, ?_⟩
      rw [e8]
      refine nm_e ⟨i24, ?_⟩
      rw [ej]
      refine br_f hcs (br_f hho' ?_)
      rw [em]
      exact hX1 _ hp
    · unfold wY_act_125
      refine zy_holds hsz hut huq hb (hho b k hb hk) ?_
      refine ⟨i24, ?_⟩
      rw [ej]
      refine br_f hcs (br_f hho' ?_)
      rw [em]
      exact hY1 _ hp
theorem zx_hold {j b s : Nat} (hs : s < 40) {post : SX → Prop} (h : ∀ x4, x4 = ga s → ((x4 = (-1) → (post (nI R, nI K, nI L, nI S, vw, mb, up, ky, sr, vl, bs, sp, an, cs, se, la, upd ho s (nI j), upd kn s 0, ga, gs, wi))) ∧ (¬ x4 = (-1) → (vp_in x4 24 ∧ ((((sr x4.toNatClampNeg) = nI b → (vp_in x4 24 ∧ ((((cs x4.toNatClampNeg) = 0 → (post (nI R, nI K, nI L, nI S, vw, mb, up, ky, sr, vl, bs, sp, an, cs, se, la, upd ho s (nI j), upd kn s 0, ga, gs, wi))) ∧ (¬ (cs x4.toNatClampNeg) = 0 → (wpX_answer (fun u => wpX_endGathering post u (nI s)) (nI R, nI K, nI L, nI S, vw, mb, up, ky, sr, vl, bs, sp, an, cs, se, la, upd ho s (nI j), upd kn s 0, ga, gs, wi) x4 2)))))) ∧ (¬ (sr x4.toNatClampNeg) = nI b → (wpX_endGathering post (nI R, nI K, nI L, nI S, vw, mb, up, ky, sr, vl, bs, sp, an, cs, se, la, upd ho s (nI j), upd kn s 0, ga, gs, wi) (nI s))))))))) :
    wpX_holdHigher post (nI R, nI K, nI L, nI S, vw, mb, up, ky, sr, vl, bs, sp, an, cs, se, la, ho, kn, ga, gs, wi) (nI j) (nI b) (nI s) := by
  have e8 : (nI s).toNatClampNeg = s := nI_clamp (by omega)
  have i8 : vp_in (nI s) 40 := vp_in_nI (by omega) (by omega)
  refine ⟨i8, ?_⟩
  rw [e8]
  refine nm_e ⟨i8, nm_r (e' := upd kn s 0) (by rw [zr_vb0]) ⟨i8, ?_⟩⟩
  exact h
theorem zo_inv {k j a b : Nat} (I : zr_inv R K L S vw mb up ky sr vl bs sp an cs se la ho kn ga gs wi cr re go kw yg iz ms) (hj : j < S) (hk : k < K) (ha : a < R) (hb : b < R) (hkj : ky j = nI k) (hcb : cr b = 0) :
    zr_ou R K L S vw mb up cr re vw (fun post => wpX_handleInv post (nI R, nI K, nI L, nI S, vw, mb, up, ky, sr, vl, bs, sp, an, cs, se, la, ho, kn, ga, gs, wi) (nI j) (nI a) (nI b) (nI (b * 8 + k))) (fun post => wpY_act post (nI R, nI K, nI L, nI S, vw, ky, sr, vl, bs, an, cs, se, cr, re, go, kw, yg, iz, ms) 0 (nI j) (nI a) (nI b)) := by
  have I0 := I
  obtain ⟨hsz, hup, hmb, hsb, hut, huq, hla, hho, hkn, hkw, hga, hgs, hwi, hms, hne, how, hyu, han, ha3⟩ := I
  have hsz0 := hsz
  obtain ⟨h1, h2, h3, h4, h5, h6, h7⟩ := hsz0
  have e8 : (nI (b * 8 + k)).toNatClampNeg = b * 8 + k := nI_clamp (by omega)
  have i8 : vp_in (nI (b * 8 + k)) 40 := vp_in_nI (by omega) (by omega)
  have ej : (nI j).toNatClampNeg = j := nI_clamp (by omega)
  have i24 : vp_in (nI j) 24 := vp_in_nI (by omega) (by omega)
  have e24 : (nI (b * 24 + j)).toNatClampNeg = b * 24 + j := nI_clamp (by omega)
  have i120 : vp_in (nI (b * 24 + j)) 120 := vp_in_nI (by omega) (by omega)
  have hv := zr_b_v (hho b k hb hk)
  have hv24 := zr_v24 (S := S) (by omega) hv
  have g1 : upd go (b * 24 + j) 1 (b * 24 + j) ≠ 0 := by rw [zr_s rfl]; exact zr_01
  by_cases hl : sp j ≤ zr_st sp (ho (b * 8 + k))
  · have I1 := zi_got I0 hb hk hj hkj hl
    obtain ⟨ky'', sr'', vl'', bs'', sp'', an'', cs'', se'', la'', ho'', kn'', ga'', gs'', wi'', go'', kw'', yg'', iz'', ms'', I2, hX2, hY2⟩ := zo_inv_t (a := a) I1 hj hk ha hb hkj g1
    refine zr_ou_in I2 (fun post hp => ?_) (fun post hp => ?_)
    · unfold wpX_handleInv
      refine zx_stamp (Or.inr ⟨j, by omega, rfl⟩) ?_
      rw [e8]
      refine ⟨i8, ?_⟩
      refine zx_stamp hv24 ?_
      rw [zr_st_j (by omega)]
      exact br_t hl (hX2 _ hp)
    · refine ⟨i24, ?_⟩
      rw [ej]
      refine nm_r hkj (nm_r (zr_24 b j) (br_t rfl ?_))
      refine zy_holds hsz hut huq hb (hho b k hb hk) ?_
      rw [e24]
      refine ⟨i120, nm_r (e' := upd go (b * 24 + j) 1) (by rw [zr_vb1]) ?_⟩
      refine zy_stamp (by omega) hut (Or.inr ⟨j, hj, rfl⟩) ?_
      refine zy_stamp (by omega) hut hv ?_
      rw [zr_st_j (by omega)]
      exact br_t hl (hY2 _ hp)
  · have I1 := zi_hold I0 hb hk hj hkj hl
    have hng := zp_ngot I0 hb hk hj hkj hl
    rcases hga b k hb hk with hg | ⟨g, hg', eg, hkg, hyg, hun⟩
    · obtain ⟨ky'', sr'', vl'', bs'', sp'', an'', cs'', se'', la'', ho'', kn'', ga'', gs'', wi'', go'', kw'', yg'', iz'', ms'', I2, hX2, hY2⟩ := zo_inv_t (a := a) I1 hj hk ha hb hkj g1
      refine zr_ou_in I2 (fun post hp => ?_) (fun post hp => ?_)
      · unfold wpX_handleInv
        refine zx_stamp (Or.inr ⟨j, by omega, rfl⟩) ?_
        rw [e8]
        refine ⟨i8, ?_⟩
        refine zx_stamp hv24 ?_
        rw [zr_st_j (by omega)]
        refine br_f hl ?_
        refine zx_hold (by omega) ?_
        exact nm_r hg.1 (br_t rfl (hX2 _ hp))
      · refine ⟨i24, ?_⟩
        rw [ej]
        refine nm_r hkj (nm_r (zr_24 b j) (br_t rfl ?_))
        refine zy_holds hsz hut huq hb (hho b k hb hk) ?_
        rw [e24]
        refine ⟨i120, nm_r (e' := upd go (b * 24 + j) 1) (by rw [zr_vb1]) ?_⟩
        refine zy_stamp (by omega) hut (Or.inr ⟨j, hj, rfl⟩) ?_
        refine zy_stamp (by omega) hut hv ?_
        rw [zr_st_j (by omega)]
        refine br_f hl ?_
        refine zy_gathersFor hsz hb (hga b k hb hk) ?_
        exact br_t hg.1 (hY2 _ hp)
    · have eg24 : (nI g).toNatClampNeg = g := nI_clamp (by omega)
      have ig : vp_in (nI g) 24 := vp_in_nI (by omega) (by omega)
      have hne1 : ¬ nI g = -1 := zr_ne1 (by omega)
      by_cases hsr : sr g = nI b
      · by_cases hcs : cs g = 0
        · obtain ⟨ky'', sr'', vl'', bs'', sp'', an'', cs'', se'', la'', ho'', kn'', ga'', gs'', wi'', go'', kw'', yg'', iz'', ms'', I2, hX2, hY2⟩ := zo_inv_t (a := a) I1 hj hk ha hb hkj g1
          refine zr_ou_in I2 (fun post hp => ?_) (fun post hp => ?_)
          · unfold wpX_handleInv
            refine zx_stamp (Or.inr ⟨j, by omega, rfl⟩) ?_
            rw [e8]
            refine ⟨i8, ?_⟩
            refine zx_stamp hv24 ?_
            rw [zr_st_j (by omega)]
            refine br_f hl ?_
            refine zx_hold (by omega) ?_
            refine nm_r eg (br_f hne1 ⟨ig, ?_⟩)
            rw [eg24]
            exact br_t hsr ⟨ig, br_t hcs (hX2 _ hp)⟩
          · refine ⟨i24, ?_⟩
            rw [ej]
            refine nm_r hkj (nm_r (zr_24 b j) (br_t rfl ?_))
            refine zy_holds hsz hut huq hb (hho b k hb hk) ?_
            rw [e24]
            refine ⟨i120, nm_r (e' := upd go (b * 24 + j) 1) (by rw [zr_vb1]) ?_⟩
            refine zy_stamp (by omega) hut (Or.inr ⟨j, hj, rfl⟩) ?_
            refine zy_stamp (by omega) hut hv ?_
            rw [zr_st_j (by omega)]
            refine br_f hl ?_
            refine zy_gathersFor hsz hb (hga b k hb hk) ?_
            rw [eg]
            refine br_f hne1 ⟨ig, ?_⟩
            rw [eg24]
            exact br_t hsr ⟨ig, br_t hcs (hY2 _ hp)⟩
        · have I2 := zi_end I1 hb hk hg' eg
          have hjg : j ≠ g := by
            intro z
            subst z
            exact how j b hj hb hsr hcb hng
          have I3 := zi_ansr (x := 2) I2 hb hk hg' hkg hsr (zr_s rfl) (Or.inr ⟨rfl, hcs⟩) (by
            rw [zr_s rfl]
            intro z
            exact absurd (zr_im z (by omega) (by omega)) hjg)
          have han0 : an g = 0 := (han g b hg' hb hsr).2 hyg hcs
          obtain ⟨ky'', sr'', vl'', bs'', sp'', an'', cs'', se'', la'', ho'', kn'', ga'', gs'', wi'', go'', kw'', yg'', iz'', ms'', I4, hX2, hY2⟩ := zo_inv_t (a := a) I3 hj hk ha hb hkj g1
          refine zr_ou_in I4 (fun post hp => ?_) (fun post hp => ?_)
          · unfold wpX_handleInv
            refine zx_stamp (Or.inr ⟨j, by omega, rfl⟩) ?_
            rw [e8]
            refine ⟨i8, ?_⟩
            refine zx_stamp hv24 ?_
            rw [zr_st_j (by omega)]
            refine br_f hl ?_
            refine zx_hold (by omega) ?_
            refine nm_r eg (br_f hne1 ⟨ig, ?_⟩)
            rw [eg24]
            refine br_t hsr ⟨ig, br_f hcs ?_⟩
            refine zx_answer (by omega) (Or.inl han0) ?_
            refine zx_endG (by omega) ?_
            exact hX2 _ hp
          · refine ⟨i24, ?_⟩
            rw [ej]
            refine nm_r hkj (nm_r (zr_24 b j) (br_t rfl ?_))
            refine zy_holds hsz hut huq hb (hho b k hb hk) ?_
            rw [e24]
            refine ⟨i120, nm_r (e' := upd go (b * 24 + j) 1) (by rw [zr_vb1]) ?_⟩
            refine zy_stamp (by omega) hut (Or.inr ⟨j, hj, rfl⟩) ?_
            refine zy_stamp (by omega) hut hv ?_
            rw [zr_st_j (by omega)]
            refine br_f hl ?_
            refine zy_gathersFor hsz hb (hga b k hb hk) ?_
            rw [eg]
            refine br_f hne1 ⟨ig, ?_⟩
            rw [eg24]
            refine br_t hsr ⟨ig, br_f hcs ?_⟩
            unfold wY_act_91
            rw [zr_24, nI_clamp (n := b * 24 + g) (by omega), eg24]
            exact ⟨vp_in_nI (by omega) (by omega), nm_r (e' := upd yg (b * 24 + g) 0) (by rw [zr_vb0]) ⟨ig, br_t hsr ⟨ig, nm_e (hY2 _ hp)⟩⟩⟩
      · have I2 := zi_end I1 hb hk hg' eg
        obtain ⟨ky'', sr'', vl'', bs'', sp'', an'', cs'', se'', la'', ho'', kn'', ga'', gs'', wi'', go'', kw'', yg'', iz'', ms'', I4, hX2, hY2⟩ := zo_inv_t (a := a) I2 hj hk ha hb hkj g1
        refine zr_ou_in I4 (fun post hp => ?_) (fun post hp => ?_)
        · unfold wpX_handleInv
          refine zx_stamp (Or.inr ⟨j, by omega, rfl⟩) ?_
          rw [e8]
          refine ⟨i8, ?_⟩
          refine zx_stamp hv24 ?_
          rw [zr_st_j (by omega)]
          refine br_f hl ?_
          refine zx_hold (by omega) ?_
          refine nm_r eg (br_f hne1 ⟨ig, ?_⟩)
          rw [eg24]
          refine br_f hsr ?_
          refine zx_endG (by omega) ?_
          exact hX2 _ hp
        · refine ⟨i24, ?_⟩
          rw [ej]
          refine nm_r hkj (nm_r (zr_24 b j) (br_t rfl ?_))
          refine zy_holds hsz hut huq hb (hho b k hb hk) ?_
          rw [e24]
          refine ⟨i120, nm_r (e' := upd go (b * 24 + j) 1) (by rw [zr_vb1]) ?_⟩
          refine zy_stamp (by omega) hut (Or.inr ⟨j, hj, rfl⟩) ?_
          refine zy_stamp (by omega) hut hv ?_
          rw [zr_st_j (by omega)]
          refine br_f hl ?_
          refine zy_gathersFor hsz hb (hga b k hb hk) ?_
          rw [eg]
          refine br_f hne1 ⟨ig, ?_⟩
          rw [eg24]
          refine br_f hsr ?_
          unfold wY_act_91
          rw [zr_24, nI_clamp (n := b * 24 + g) (by omega), eg24]
          exact ⟨vp_in_nI (by omega) (by omega), nm_r (e' := upd yg (b * 24 + g) 0) (by rw [zr_vb0]) ⟨ig, br_f hsr (hY2 _ hp)⟩⟩
theorem zp_ga {k j b : Nat} (I : zr_inv R K L S vw mb up ky sr vl bs sp an cs se la ho kn ga gs wi cr re go kw yg iz ms) (hj : j < S) (hk : k < K) (hb : b < R) (hkj : ky j = nI k) : (ga (b * 8 + k) = nI j ∧ yg (b * 24 + j) ≠ 0) ∨ (¬ ga (b * 8 + k) = nI j ∧ yg (b * 24 + j) = 0) := by
  have I0 := I
  obtain ⟨hsz, hup, hmb, hsb, hut, huq, hla, hho, hkn, hkw, hga, hgs, hwi, hms, hne, how, hyu, han, ha3⟩ := I
  have hsz0 := hsz
  obtain ⟨h1, h2, h3, h4, h5, h6, h7⟩ := hsz0
  rcases hga b k hb hk with ⟨z1, z2⟩ | ⟨g, hg', eg, hkg, hyg, hun⟩
  · refine Or.inr ⟨fun z => zr_ne1 (by omega) (z.symm.trans z1), z2 j hj hkj⟩
  · by_cases e : j = g
    · subst e
      exact Or.inl ⟨eg, hyg⟩
    · refine Or.inr ⟨fun z => e (zr_im (z.symm.trans eg) (by omega) (by omega)), ?_⟩
      by_cases y : yg (b * 24 + j) = 0
      · exact y
      · exact absurd (hun j hj hkj y) e
theorem zo_ack {k j a b : Nat} (I : zr_inv R K L S vw mb up ky sr vl bs sp an cs se la ho kn ga gs wi cr re go kw yg iz ms) (hj : j < S) (hk : k < K) (ha : a < R) (hb : b < R) (hkj : ky j = nI k) :
    zr_ou R K L S vw mb up cr re vw (fun post => wpX_handleAck post (nI R, nI K, nI L, nI S, vw, mb, up, ky, sr, vl, bs, sp, an, cs, se, la, ho, kn, ga, gs, wi) (nI j) (nI a) (nI b) (nI (b * 8 + k))) (fun post => wpY_act post (nI R, nI K, nI L, nI S, vw, ky, sr, vl, bs, an, cs, se, cr, re, go, kw, yg, iz, ms) 1 (nI j) (nI a) (nI b)) := by
  have I0 := I
  obtain ⟨hsz, hup, hmb, hsb, hut, huq, hla, hho, hkn, hkw, hga, hgs, hwi, hms, hne, how, hyu, han, ha3⟩ := I
  have hsz0 := hsz
  obtain ⟨h1, h2, h3, h4, h5, h6, h7⟩ := hsz0
  have e8 : (nI (b * 8 + k)).toNatClampNeg = b * 8 + k := nI_clamp (by omega)
  have i8 : vp_in (nI (b * 8 + k)) 40 := vp_in_nI (by omega) (by omega)
  have ej : (nI j).toNatClampNeg = j := nI_clamp (by omega)
  have i24 : vp_in (nI j) 24 := vp_in_nI (by omega) (by omega)
  have e24 : (nI (b * 24 + j)).toNatClampNeg = b * 24 + j := nI_clamp (by omega)
  have i120 : vp_in (nI (b * 24 + j)) 120 := vp_in_nI (by omega) (by omega)
  rcases zp_ga I0 hj hk hb hkj with ⟨hg, hy⟩ | ⟨hg, hy⟩
  · have I1 : zr_inv R K L S vw mb up ky sr vl bs sp an cs se la ho kn ga (upd gs (b * 8 + k) (gs (b * 8 + k) ||| ((1 : Int32) <<< (nI a &&& 31)))) wi cr re go kw yg (upd iz ((b * 24 + j) * 5 + a) 1) ms := by
      refine zi_gse I0 hb hk hj hg ?_ (fun x hx => zr_n (by omega))
      intro i hi
      rw [zr_or, zr_sl (by omega) hi, (hgs b k hb hk).2 j hj hg i hi]
      by_cases z : i = a
      · rw [zr_s (by rw [z])]
        exact ⟨fun _ => ⟨by omega, zr_01⟩, fun _ => Or.inr z⟩
      · rw [zr_n (by omega)]
        exact ⟨fun y => y.resolve_right z, fun y => Or.inl y⟩
    obtain ⟨ky'', sr'', vl'', bs'', sp'', an'', cs'', se'', la'', ho'', kn'', ga'', gs'', wi'', go'', kw'', yg'', iz'', ms'', I2, hX2, hY2⟩ := zo_finc (vy := vw) I1 hb hk hj hg
    refine zr_ou_in I2 (fun post hp => ?_) (fun post hp => ?_)
    · refine ⟨i8, ?_⟩
      rw [e8]
      exact br_t hg ⟨i8, i8, nm_e (hX2 _ hp)⟩
    · refine ⟨i24, ?_⟩
      rw [ej]
      refine nm_r hkj (nm_r (zr_24 b j) (br_f (by decide) (br_t rfl ?_)))
      rw [e24, zr_5, nI_clamp (n := (b * 24 + j) * 5 + a) (by omega)]
      exact ⟨i120, br_f hy ⟨vp_in_nI (by omega) (by omega), nm_r (e' := upd iz ((b * 24 + j) * 5 + a) 1) (by rw [zr_vb1]) (hY2 _ hp)⟩⟩
  · refine zr_ou_in I0 (fun post hp => ?_) (fun post hp => ?_)
    · refine ⟨i8, ?_⟩
      rw [e8]
      exact br_f hg hp
    · refine ⟨i24, ?_⟩
      rw [ej]
      refine nm_r hkj (nm_r (zr_24 b j) (br_f (by decide) (br_t rfl ?_)))
      rw [e24]
      exact ⟨i120, br_t hy hp⟩
theorem zo_val_t {k j b : Nat} (I : zr_inv R K L S vw mb up ky sr vl bs sp an cs se la ho kn ga gs wi cr re go kw yg iz ms) (hj : j < S) (hk : k < K) (hb : b < R) (hkj : ky j = nI k) (hw : ho (b * 8 + k) = nI j → kw (b * 24 + j) ≠ 0) :
    zr_ou R K L S vw mb up cr re vw (fun post => wX_handleVal_17 post (nI j) (nI b) (nI (b * 8 + k)) (nI R) (nI K) (nI L) (nI S) vw mb up ky sr vl bs sp an cs se la ho kn ga gs wi) (fun post => wY_act_232 post (nI j) (nI b) (nI (b * 24 + j)) (nI R) (nI K) (nI L) (nI S) vw ky sr vl bs an cs se cr re go kw yg iz ms) := by
  have I0 := I
  obtain ⟨hsz, hup, hmb, hsb, hut, huq, hla, hho, hkn, hkw, hga, hgs, hwi, hms, hne, how, hyu, han, ha3⟩ := I
  have hsz0 := hsz
  obtain ⟨h1, h2, h3, h4, h5, h6, h7⟩ := hsz0
  have e8 : (nI (b * 8 + k)).toNatClampNeg = b * 8 + k := nI_clamp (by omega)
  have i8 : vp_in (nI (b * 8 + k)) 40 := vp_in_nI (by omega) (by omega)
  have ej : (nI j).toNatClampNeg = j := nI_clamp (by omega)
  have i24 : vp_in (nI j) 24 := vp_in_nI (by omega) (by omega)
  have e24 : (nI (b * 24 + j)).toNatClampNeg = b * 24 + j := nI_clamp (by omega)
  have i120 : vp_in (nI (b * 24 + j)) 120 := vp_in_nI (by omega) (by omega)
  rcases zp_ga I0 hj hk hb hkj with ⟨hg, hy⟩ | ⟨hg, hy⟩
  · have I1 := zi_end I0 hb hk hj hg
    have hcb := hyu b j hb hj hy
    by_cases hsr : sr j = nI b
    · have h01 : an j = 0 ∨ an j = 1 := by
        have a := han j b hj hb hsr
        by_cases hcs : cs j = 0
        · rcases a.1 with b | b | b | b
          · exact Or.inl b
          · exact Or.inr b
          · exact absurd hcs b.2
          · exact absurd hcb b.2
        · exact Or.inl (a.2 hy hcs)
      have I2 := zi_ansr (x := 1) I1 hb hk hj hkj hsr (zr_s rfl) (Or.inl rfl) hw
      refine zr_ou_in I2 (fun post hp => ?_) (fun post hp => ?_)
      · refine ⟨i8, ?_⟩
        rw [e8]
        refine br_t hg ?_
        refine zx_endG (by omega) ?_
        refine ⟨i24, ?_⟩
        rw [ej]
        refine br_t hsr ?_
        exact zx_answer (by omega) h01 hp
      · refine ⟨i120, ?_⟩
        rw [e24]
        refine br_f hy ⟨i120, nm_r (e' := upd yg (b * 24 + j) 0) (by rw [zr_vb0]) ⟨i24, ?_⟩⟩
        rw [ej]
        exact br_t hsr ⟨i24, nm_e hp⟩
    · refine zr_ou_in I1 (fun post hp => ?_) (fun post hp => ?_)
      · refine ⟨i8, ?_⟩
        rw [e8]
        refine br_t hg ?_
        refine zx_endG (by omega) ?_
        refine ⟨i24, ?_⟩
        rw [ej]
        exact br_f hsr hp
      · refine ⟨i120, ?_⟩
        rw [e24]
        refine br_f hy ⟨i120, nm_r (e' := upd yg (b * 24 + j) 0) (by rw [zr_vb0]) ⟨i24, ?_⟩⟩
        rw [ej]
        exact br_f hsr hp
  · refine zr_ou_in I0 (fun post hp => ?_) (fun post hp => ?_)
    · refine ⟨i8, ?_⟩
      rw [e8]
      exact br_f hg hp
    · refine ⟨i120, ?_⟩
      rw [e24]
      exact br_t hy hp
theorem zo_val {k j a b : Nat} (I : zr_inv R K L S vw mb up ky sr vl bs sp an cs se la ho kn ga gs wi cr re go kw yg iz ms) (hj : j < S) (hk : k < K) (hb : b < R) (hkj : ky j = nI k) (hse : se j ≠ 0) :
    zr_ou R K L S vw mb up cr re vw (fun post => wpX_handleVal post (nI R, nI K, nI L, nI S, vw, mb, up, ky, sr, vl, bs, sp, an, cs, se, la, ho, kn, ga, gs, wi) (nI j) (nI b) (nI (b * 8 + k))) (fun post => wpY_act post (nI R, nI K, nI L, nI S, vw, ky, sr, vl, bs, an, cs, se, cr, re, go, kw, yg, iz, ms) 2 (nI j) (nI a) (nI b)) := by
  have I0 := I
  obtain ⟨hsz, hup, hmb, hsb, hut, huq, hla, hho, hkn, hkw, hga, hgs, hwi, hms, hne, how, hyu, han, ha3⟩ := I
  have hsz0 := hsz
  obtain ⟨h1, h2, h3, h4, h5, h6, h7⟩ := hsz0
  have e8 : (nI (b * 8 + k)).toNatClampNeg = b * 8 + k := nI_clamp (by omega)
  have i8 : vp_in (nI (b * 8 + k)) 40 := vp_in_nI (by omega) (by omega)
  have ej : (nI j).toNatClampNeg = j := nI_clamp (by omega)
  have i24 : vp_in (nI j) 24 := vp_in_nI (by omega) (by omega)
  have e24 : (nI (b * 24 + j)).toNatClampNeg = b * 24 + j := nI_clamp (by omega)
  have i120 : vp_in (nI (b * 24 + j)) 120 := vp_in_nI (by omega) (by omega)
  by_cases hh : ho (b * 8 + k) = nI j
  · have I1 := zi_know I0 hb hk hj hh hse
    obtain ⟨ky'', sr'', vl'', bs'', sp'', an'', cs'', se'', la'', ho'', kn'', ga'', gs'', wi'', go'', kw'', yg'', iz'', ms'', I2, hX2, hY2⟩ := zo_val_t I1 hj hk hb hkj (fun _ => by rw [zr_s rfl]; exact zr_01)
    refine zr_ou_in I2 (fun post hp => ?_) (fun post hp => ?_)
    · refine ⟨i8, ?_⟩
      rw [e8]
      exact br_t hh ⟨i8, nm_r (e' := upd kn (b * 8 + k) 1) (by rw [zr_vb1]) (hX2 _ hp)⟩
    · refine ⟨i24, ?_⟩
      rw [ej]
      refine nm_r hkj (nm_r (zr_24 b j) (br_f (by decide) (br_f (by decide) ?_)))
      refine zy_holds hsz hut huq hb (hho b k hb hk) ?_
      rw [e24]
      exact br_t hh ⟨i120, nm_r (e' := upd kw (b * 24 + j) 1) (by rw [zr_vb1]) (hY2 _ hp)⟩
  · obtain ⟨ky'', sr'', vl'', bs'', sp'', an'', cs'', se'', la'', ho'', kn'', ga'', gs'', wi'', go'', kw'', yg'', iz'', ms'', I2, hX2, hY2⟩ := zo_val_t I0 hj hk hb hkj (fun z => absurd z hh)
    refine zr_ou_in I2 (fun post hp => ?_) (fun post hp => ?_)
    · refine ⟨i8, ?_⟩
      rw [e8]
      exact br_f hh (hX2 _ hp)
    · refine ⟨i24, ?_⟩
      rw [ej]
      refine nm_r hkj (nm_r (zr_24 b j) (br_f (by decide) (br_f (by decide) ?_)))
      refine zy_holds hsz hut huq hb (hho b k hb hk) ?_
      exact br_f hh (hY2 _ hp)
theorem zo_handle {c j a b : Nat} (I : zr_inv R K L S vw mb up ky sr vl bs sp an cs se la ho kn ga gs wi cr re go kw yg iz ms) (hc : c < 3) (hj : j < S) (ha : a < R) (hb : b < R) (hcb : cr b = 0) (hv : c = 2 → se j ≠ 0) :
    zr_ou R K L S vw mb up cr re vw (fun post => wpX_handle post (nI R, nI K, nI L, nI S, vw, mb, up, ky, sr, vl, bs, sp, an, cs, se, la, ho, kn, ga, gs, wi) (nI c) (nI j) (nI a) (nI b)) (fun post => wpY_act post (nI R, nI K, nI L, nI S, vw, ky, sr, vl, bs, an, cs, se, cr, re, go, kw, yg, iz, ms) (nI c) (nI j) (nI a) (nI b)) := by
  have hut := I.2.2.2.2.1
  obtain ⟨h1, h2, h3, h4, h5, h6, h7⟩ := I.1
  obtain ⟨k, hk, hkj⟩ : ∃ k, k < K ∧ ky j = nI k := by
    obtain ⟨ve, wr, ch, hu⟩ := hut
    exact (hu j hj).1
  have ej : (nI j).toNatClampNeg = j := nI_clamp (by omega)
  have i24 : vp_in (nI j) 24 := vp_in_nI (by omega) (by omega)
  have e8 : nI b * 8 + ky j = nI (b * 8 + k) := by rw [hkj, zr_8]
  rcases (show c = 0 ∨ c = 1 ∨ c = 2 from by omega) with rfl | rfl | rfl
  · obtain ⟨ky'', sr'', vl'', bs'', sp'', an'', cs'', se'', la'', ho'', kn'', ga'', gs'', wi'', go'', kw'', yg'', iz'', ms'', I2, hX2, hY2⟩ := zo_inv (a := a) I hj hk ha hb hkj hcb
    refine zr_ou_in I2 (fun post hp => ?_) (fun post hp => hY2 _ hp)
    refine ⟨i24, ?_⟩
    rw [ej]
    exact nm_r e8 (br_t rfl (hX2 _ hp))
  · obtain ⟨ky'', sr'', vl'', bs'', sp'', an'', cs'', se'', la'', ho'', kn'', ga'', gs'', wi'', go'', kw'', yg'', iz'', ms'', I2, hX2, hY2⟩ := zo_ack (a := a) I hj hk ha hb hkj
    refine zr_ou_in I2 (fun post hp => ?_) (fun post hp => hY2 _ hp)
    refine ⟨i24, ?_⟩
    rw [ej]
    exact nm_r e8 (br_f (by decide) (br_t rfl (hX2 _ hp)))
  · obtain ⟨ky'', sr'', vl'', bs'', sp'', an'', cs'', se'', la'', ho'', kn'', ga'', gs'', wi'', go'', kw'', yg'', iz'', ms'', I2, hX2, hY2⟩ := zo_val (a := a) I hj hk hb hkj (hv rfl)
    refine zr_ou_in I2 (fun post hp => ?_) (fun post hp => hY2 _ hp)
    refine ⟨i24, ?_⟩
    rw [ej]
    exact nm_r e8 (br_f (by decide) (br_f (by decide) (hX2 _ hp)))
theorem zx_takeOff {c u a b : Nat} (hc : c < 3) (ha : a < 5) (hb : b < 5) {post : SX → Prop} (hp : post (nI R, nI K, nI L, nI S, vw, mb, up, ky, sr, vl, bs, sp, an, cs, se, la, ho, kn, ga, gs, upd wi ((c * 5 + a) * 5 + b) (wi ((c * 5 + a) * 5 + b) &&& (((1 : Int32) <<< (nI u &&& 31)) ^^^ (-1))))) :
    wpX_takeOff post (nI R, nI K, nI L, nI S, vw, mb, up, ky, sr, vl, bs, sp, an, cs, se, la, ho, kn, ga, gs, wi) (nI c) (nI u) (nI a) (nI b) := by
  unfold wpX_takeOff
  dsimp only
  rw [zr_5, zr_5, nI_clamp (n := (c * 5 + a) * 5 + b) (by omega)]
  have i75 : vp_in (nI ((c * 5 + a) * 5 + b)) 75 := vp_in_nI (by omega) (by omega)
  exact ⟨i75, i75, nm_e hp⟩
theorem zo_deliver (I : zr_inv R K L S vw mb up ky sr vl bs sp an cs se la ho kn ga gs wi cr re go kw yg iz ms) (v1 v2 v3 v4 : Int32) : zr_ouq zr_all (fun post => wpX_deliver post (nI R, nI K, nI L, nI S, vw, mb, up, ky, sr, vl, bs, sp, an, cs, se, la, ho, kn, ga, gs, wi) v1 v2 v3 v4) (fun post => wpY_deliver post (nI R, nI K, nI L, nI S, vw, ky, sr, vl, bs, an, cs, se, cr, re, go, kw, yg, iz, ms) v1 v2 v3 v4) := by
  have I0 := I
  obtain ⟨hsz, hup, hmb, hsb, hut, huq, hla, hho, hkn, hkw, hga, hgs, hwi, hms, hne, how, hyu, han, ha3⟩ := I
  have hsz0 := hsz
  obtain ⟨h1, h2, h3, h4, h5, h6, h7⟩ := hsz0
  rcases zb_uw hsz v1 v2 v3 v4 with ⟨c, u, a, b, hc, hu, ha, hb, rfl, rfl, rfl, rfl⟩ | ⟨hX, hY⟩
  · rcases hms c a b u hc ha hb (by omega) with hm | ⟨hm, hu', hcb, hv⟩
    · refine zr_ouq_in (a := -8) I0 (fun post hp => ?_) (fun post hp => ?_)
      · unfold wpX_deliver
        refine zx_uw0 hsz hwi hc hu ha hb hm ?_
        exact br_t rfl hp
      · unfold wpY_deliver
        refine zy_there hsz hms hc hu ha hb ?_
        exact br_t hm hp
    · have hm0 : ms (((c * 24 + u) * 5 + a) * 5 + b) ≠ 0 := by rw [hm]; exact zr_01
      obtain ⟨ky'', sr'', vl'', bs'', sp'', an'', cs'', se'', la'', ho'', kn'', ga'', gs'', wi'', go'', kw'', yg'', iz'', ms'', I2, hX2, hY2⟩ := zo_handle (a := a) I0 hc hu ha hb hcb hv
      refine zr_ouq_in (a := 1) I2 (fun post hp => ?_) (fun post hp => ?_)
      · unfold wpX_deliver
        refine zx_uw1 hsz hwi hc hu ha hb hm0 ?_
        refine br_f (by decide) ?_
        exact hX2 _ hp
      · unfold wpY_deliver
        refine zy_there hsz hms hc hu ha hb ?_
        refine br_f hm0 ?_
        exact hY2 _ hp
  · refine zr_ouq_in (a := -8) I0 (fun post hp => ?_) (fun post hp => ?_)
    · unfold wpX_deliver
      refine hX _ ?_
      exact br_t rfl hp
    · unfold wpY_deliver
      refine hY _ ?_
      exact br_t rfl hp
theorem zo_drop (I : zr_inv R K L S vw mb up ky sr vl bs sp an cs se la ho kn ga gs wi cr re go kw yg iz ms) (v1 v2 v3 v4 : Int32) : zr_ouq zr_all (fun post => wpX_drop post (nI R, nI K, nI L, nI S, vw, mb, up, ky, sr, vl, bs, sp, an, cs, se, la, ho, kn, ga, gs, wi) v1 v2 v3 v4) (fun post => wpY_drop post (nI R, nI K, nI L, nI S, vw, ky, sr, vl, bs, an, cs, se, cr, re, go, kw, yg, iz, ms) v1 v2 v3 v4) := by
  have I0 := I
  obtain ⟨hsz, hup, hmb, hsb, hut, huq, hla, hho, hkn, hkw, hga, hgs, hwi, hms, hne, how, hyu, han, ha3⟩ := I
  have hsz0 := hsz
  obtain ⟨h1, h2, h3, h4, h5, h6, h7⟩ := hsz0
  rcases zb_uw hsz v1 v2 v3 v4 with ⟨c, u, a, b, hc, hu, ha, hb, rfl, rfl, rfl, rfl⟩ | ⟨hX, hY⟩
  · rcases hms c a b u hc ha hb (by omega) with hm | ⟨hm, hu', hcb, hv⟩
    · refine zr_ouq_in (a := -8) I0 (fun post hp => ?_) (fun post hp => ?_)
      · unfold wpX_drop
        refine zx_uw0 hsz hwi hc hu ha hb hm ?_
        exact br_t rfl hp
      · unfold wpY_drop
        refine zy_there hsz hms hc hu ha hb ?_
        exact br_t hm hp
    · have hm0 : ms (((c * 24 + u) * 5 + a) * 5 + b) ≠ 0 := by rw [hm]; exact zr_01
      refine zr_ouq_in (a := 1) (zi_wm I0 (zp_clr hsz hwi hms hc ha hb hu)) (fun post hp => ?_) (fun post hp => ?_)
      · unfold wpX_drop
        refine zx_uw1 hsz hwi hc hu ha hb hm0 ?_
        refine br_f (by decide) ?_
        refine zx_takeOff hc (by omega) (by omega) ?_
        exact hp
      · unfold wpY_drop
        refine zy_there hsz hms hc hu ha hb ?_
        refine br_f hm0 ?_
        refine zy_place ?_
        rw [nI_clamp (by omega)]
        exact ⟨vp_in_nI (by omega) (by omega), nm_r (e' := upd ms (((c * 24 + u) * 5 + a) * 5 + b) 0) (by rw [zr_vb0]) hp⟩
  · refine zr_ouq_in (a := -8) I0 (fun post hp => ?_) (fun post hp => ?_)
    · unfold wpX_drop
      refine hX _ ?_
      exact br_t rfl hp
    · unfold wpY_drop
      refine hY _ ?_
      exact br_t rfl hp
end
end
section
/-! a round -/
section
variable {R K L S : Nat} {vw mb up : Int32} {ky sr vl bs sp an cs se la ho kn ga gs wi cr re go kw yg iz ms : Nat → Int32}
theorem zy_there0 {c u a b : Nat} (hs : zr_sz R K L S) (hc : c < 3) (hu : u < 24) (ha : a < 5) (hb : b < 5) (h : S ≤ u ∨ R ≤ a ∨ R ≤ b) {post : Int32 → Prop} (hp : post 0) : wpY_there post (nI R, nI K, nI L, nI S, vw, ky, sr, vl, bs, an, cs, se, cr, re, go, kw, yg, iz, ms) (nI c) (nI u) (nI a) (nI b) := by
  obtain ⟨h1, h2, h3, h4, h5, h6, h7⟩ := hs
  refine br_f (nI_pos (by omega)) (br_f (nI_nlt (b := c) (a := 2) (by omega) (by omega)) (br_f (nI_pos (by omega)) (br_c (fun x => br_f (nI_pos (by omega)) (br_c (fun _ => hp) (fun y => br_f (nI_pos (by omega)) (br_f ?_ hp)))) (fun _ => hp))))
  have hu' := (nI_ltI (by omega) (by omega)).mp x
  rw [nI_leI (by omega) (by omega)] at y
  exact nI_nlt (by omega) (by omega)
theorem zr_d360 {i : Nat} (hi : i < 1800) : nI i / 360 = nI (i / 360) := pk_div (d := 360) (by omega) (by omega) (by omega)
theorem zr_d120 {i : Nat} (hi : i < 1800) : (nI i / 120) - (nI i / 120) / 3 * 3 = nI (i / 120 % 3) := by
  have e : nI i / 120 = nI (i / 120) := pk_div (d := 120) (by omega) (by omega) (by omega)
  rw [e]
  exact pk_rem (d := 3) (by omega) (by omega) (by omega)
theorem zr_d5 {i : Nat} (hi : i < 1800) : (nI i / 5) - (nI i / 5) / 24 * 24 = nI (i / 5 % 24) := by
  have e : nI i / 5 = nI (i / 5) := pk_div (d := 5) (by omega) (by omega) (by omega)
  rw [e]
  exact pk_rem (d := 24) (by omega) (by omega) (by omega)
theorem zr_m5 {i : Nat} (hi : i < 1800) : nI i - nI i / 5 * 5 = nI (i % 5) := pk_rem (d := 5) (by omega) (by omega) (by omega)
theorem zy_r0 {i D n : Nat} {post : Int32 → SY → Prop} (I : zr_inv R K L S vw mb up ky sr vl bs sp an cs se la ho kn ga gs wi cr re go kw yg iz ms) (hi : i < 1800)
    (hk : (R ≤ i / 360 ∨ S ≤ i / 5 % 24 ∨ R ≤ i % 5) ∨ ms (((i / 120 % 3 * 24 + i / 5 % 24) * 5 + i % 5) * 5 + i / 360) = 0) (h : wY_round_4 post n (nI D) (nI (i + 1)) (nI R) (nI K) (nI L) (nI S) vw ky sr vl bs an cs se cr re go kw yg iz ms) :
    wY_round_4 post (n + 1) (nI D) (nI i) (nI R) (nI K) (nI L) (nI S) vw ky sr vl bs an cs se cr re go kw yg iz ms := by
  have I0 := I
  obtain ⟨hsz, hup, hmb, hsb, hut, huq, hla, hho, hkn, hkw, hga, hgs, hwi, hms, hne, how, hyu, han, ha3⟩ := I
  have hsz0 := hsz
  obtain ⟨h1, h2, h3, h4, h5, h6, h7⟩ := hsz0
  refine br_f (nI_ge (b := 1800) (by omega) (by omega)) ⟨by decide, nm_r (zr_d360 hi) ⟨by decide, by decide, nm_r (zr_d120 hi) ⟨by decide, by decide, nm_r (zr_d5 hi) ⟨by decide, nm_r (zr_m5 hi) ?_⟩⟩⟩⟩
  by_cases hout : R ≤ i / 360 ∨ S ≤ i / 5 % 24 ∨ R ≤ i % 5
  · refine zy_there0 hsz (by omega) (by omega) (by omega) (by omega) (by omega) ?_
    exact br_t rfl (nm_r (nI_1 i) h)
  · refine zy_there hsz hms (by omega) (by omega) (by omega) (by omega) ?_
    exact br_t (hk.resolve_left hout) (nm_r (nI_1 i) h)
theorem zy_r1 {i D n c u a b : Nat} {post : Int32 → SY → Prop} {ky' sr' vl' bs' an' cs' se' go' kw' yg' iz' ms' : Nat → Int32} (I : zr_inv R K L S vw mb up ky sr vl bs sp an cs se la ho kn ga gs wi cr re go kw yg iz ms) (hi : i = b * 360 + c * 120 + u * 5 + a) (hc : c < 3) (hu : u < S) (ha : a < R) (hb : b < R)
    (hm : ms (((c * 24 + u) * 5 + a) * 5 + b) ≠ 0) (H : ∀ Q : SY → Prop, Q (nI R, nI K, nI L, nI S, vw, ky', sr', vl', bs', an', cs', se', cr, re, go', kw', yg', iz', ms') → wpY_act Q (nI R, nI K, nI L, nI S, vw, ky, sr, vl, bs, an, cs, se, cr, re, go, kw, yg, iz, upd ms (((c * 24 + u) * 5 + a) * 5 + b) 0) (nI c) (nI u) (nI a) (nI b))
    (h : wY_round_4 post n (nI (D + 1)) (nI (i + 1)) (nI R) (nI K) (nI L) (nI S) vw ky' sr' vl' bs' an' cs' se' cr re go' kw' yg' iz' ms') : wY_round_4 post (n + 1) (nI D) (nI i) (nI R) (nI K) (nI L) (nI S) vw ky sr vl bs an cs se cr re go kw yg iz ms := by
  have I0 := I
  obtain ⟨hsz, hup, hmb, hsb, hut, huq, hla, hho, hkn, hkw, hga, hgs, hwi, hms, hne, how, hyu, han, ha3⟩ := I
  have hsz0 := hsz
  obtain ⟨h1, h2, h3, h4, h5, h6, h7⟩ := hsz0
  have d1 : i / 360 = b := by omega
  have d2 : i / 120 % 3 = c := by omega
  have d3 : i / 5 % 24 = u := by omega
  have d4 : i % 5 = a := by omega
  have hi' : i < 1800 := by omega
  refine br_f (nI_ge (b := 1800) (by omega) (by omega)) ⟨by decide, nm_r (zr_d360 hi') ⟨by decide, by decide, nm_r (zr_d120 hi') ⟨by decide, by decide, nm_r (zr_d5 hi') ⟨by decide, nm_r (zr_m5 hi') ?_⟩⟩⟩⟩
  rw [d1, d2, d3, d4]
  refine zy_there hsz hms hc hu ha hb ?_
  refine br_f hm ?_
  refine zy_place ?_
  rw [nI_clamp (n := ((c * 24 + u) * 5 + a) * 5 + b) (by omega)]
  refine ⟨vp_in_nI (by omega) (by omega), nm_r (e' := upd ms (((c * 24 + u) * 5 + a) * 5 + b) 0) (by rw [zr_vb0]) ?_⟩
  refine H _ ?_
  exact nm_r (nI_1 D) (nm_r (nI_1 i) h)
theorem zy_rs {D n : Nat} {post : Int32 → SY → Prop} (I : zr_inv R K L S vw mb up ky sr vl bs sp an cs se la ho kn ga gs wi cr re go kw yg iz ms) : ∀ m i, i + m ≤ 1800 → (∀ i', i ≤ i' → i' < i + m → (R ≤ i' / 360 ∨ S ≤ i' / 5 % 24 ∨ R ≤ i' % 5)) → wY_round_4 post n (nI D) (nI (i + m)) (nI R) (nI K) (nI L) (nI S) vw ky sr vl bs an cs se cr re go kw yg iz ms →
    wY_round_4 post (n + m) (nI D) (nI i) (nI R) (nI K) (nI L) (nI S) vw ky sr vl bs an cs se cr re go kw yg iz ms := by
  intro m
  induction m with
  | zero => intro i _ _ h; exact h
  | succ m ih =>
    intro i him hk h
    refine zy_r0 I (by omega) (Or.inl (hk i (by omega) (by omega))) ?_
    refine ih (i + 1) (by omega) (fun i' a b => hk i' (by omega) (by omega)) ?_
    rw [show i + 1 + m = i + (m + 1) from by omega]
    exact h
/-- the senders -/
theorem zo_r1 {c b u : Nat} (hc : c < 3) (hb : b < R) (hu : u < S) : ∀ (q a : Nat), a + q = R → ∀ (ky sr vl bs sp an cs se la ho kn ga gs wi go kw yg iz ms : Nat → Int32), zr_inv R K L S vw mb up ky sr vl bs sp an cs se la ho kn ga gs wi cr re go kw yg iz ms → ∃ (e : Nat) (ky' sr' vl' bs' sp' an' cs' se' la' ho' kn' ga' gs' wi' go' kw' yg' iz' ms' : Nat → Int32), zr_inv R K L S vw mb up ky' sr' vl' bs' sp' an' cs' se' la' ho' kn' ga' gs' wi' cr re go' kw' yg' iz' ms' ∧
    (∀ (post : Int32 → SX → Prop) (J : Int32 → Int32 → Int32 → Int32 → Int32 → Int32 → Int32 → Int32 → Int32 → (Nat → Int32) → (Nat → Int32) → (Nat → Int32) → (Nat → Int32) → (Nat → Int32) → (Nat → Int32) → (Nat → Int32) → (Nat → Int32) → (Nat → Int32) → (Nat → Int32) → (Nat → Int32) → (Nat → Int32) → (Nat → Int32) → (Nat → Int32) → Prop) (n d : Nat), q < n → J (nI (d + e)) (nI (u + 1)) (nI R) (nI K) (nI L) (nI S) vw mb up ky' sr' vl' bs' sp' an' cs' se' la' ho' kn' ga' gs' wi' → wX_sweep_17 post J (nI c) (nI b) (nI u) n (nI d) (nI a) (nI R) (nI K) (nI L) (nI S) vw mb up ky sr vl bs sp an cs se la ho kn ga gs wi) ∧
    (∀ (post : Int32 → SY → Prop) (n D : Nat), wY_round_4 post n (nI (D + e)) (nI (b * 360 + c * 120 + u * 5 + R)) (nI R) (nI K) (nI L) (nI S) vw ky' sr' vl' bs' an' cs' se' cr re go' kw' yg' iz' ms' → wY_round_4 post (n + q) (nI D) (nI (b * 360 + c * 120 + u * 5 + a)) (nI R) (nI K) (nI L) (nI S) vw ky sr vl bs an cs se cr re go kw yg iz ms) := by
  intro q
  induction q with
  | zero =>
    intro a haR ky sr vl bs sp an cs se la ho kn ga gs wi go kw yg iz ms I
    obtain ⟨h1, h2, h3, h4, h5, h6, h7⟩ := I.1
    refine ⟨0, ky, sr, vl, bs, sp, an, cs, se, la, ho, kn, ga, gs, wi, go, kw, yg, iz, ms, I, fun post J n d hn hJ => ?_, fun post n D h => ?_⟩
    · obtain ⟨n, rfl⟩ : ∃ m, n = m + 1 := ⟨n - 1, by omega⟩
      exact br_t (nI_le (by omega) (by omega)) (nm_r (nI_1 u) hJ)
    · rw [show a = R from by omega]
      exact h
  | succ q ih =>
    intro a haR ky sr vl bs sp an cs se la ho kn ga gs wi go kw yg iz ms I
    have I0 := I
    obtain ⟨hsz, hup, hmb, hsb, hut, huq, hla, hho, hkn, hkw, hga, hgs, hwi, hms, hne, how, hyu, han, ha3⟩ := I
    have hsz0 := hsz
    obtain ⟨h1, h2, h3, h4, h5, h6, h7⟩ := hsz0
    rcases hms c a b u hc (by omega) hb (by omega) with hm | ⟨hm, hu', hcb, hv⟩
    · obtain ⟨e, ky', sr', vl', bs', sp', an', cs', se', la', ho', kn', ga', gs', wi', go', kw', yg', iz', ms', I', hX', hY'⟩ := ih (a + 1) (by omega) ky sr vl bs sp an cs se la ho kn ga gs wi go kw yg iz ms I0
      refine ⟨e, ky', sr', vl', bs', sp', an', cs', se', la', ho', kn', ga', gs', wi', go', kw', yg', iz', ms', I', fun post J n d hn hJ => ?_, fun post n D h => ?_⟩
      · obtain ⟨n, rfl⟩ : ∃ m, n = m + 1 := ⟨n - 1, by omega⟩
        refine br_f (nI_ge (by omega) (by omega)) ?_
        refine zx_uw0 hsz hwi hc hu (by omega) hb hm ?_
        exact br_t rfl (nm_r (nI_1 a) (hX' post J n d (by omega) hJ))
      · refine zy_r0 I0 (by omega) (Or.inr ?_) (hY' post n D h)
        rw [show (b * 360 + c * 120 + u * 5 + a) / 120 % 3 = c from by omega, show (b * 360 + c * 120 + u * 5 + a) / 5 % 24 = u from by omega, show (b * 360 + c * 120 + u * 5 + a) % 5 = a from by omega, show (b * 360 + c * 120 + u * 5 + a) / 360 = b from by omega]
        exact hm
    · have hm0 : ms (((c * 24 + u) * 5 + a) * 5 + b) ≠ 0 := by rw [hm]; exact zr_01
      have I1 := zi_wm I0 (zp_clr hsz hwi hms hc (show a < R from by omega) hb hu)
      obtain ⟨ky'', sr'', vl'', bs'', sp'', an'', cs'', se'', la'', ho'', kn'', ga'', gs'', wi'', go'', kw'', yg'', iz'', ms'', I2, hX2, hY2⟩ := zo_handle (a := a) I1 hc hu (by omega) hb hcb hv
      obtain ⟨e, ky', sr', vl', bs', sp', an', cs', se', la', ho', kn', ga', gs', wi', go', kw', yg', iz', ms', I', hX', hY'⟩ := ih (a + 1) (by omega) ky'' sr'' vl'' bs'' sp'' an'' cs'' se'' la'' ho'' kn'' ga'' gs'' wi'' go'' kw'' yg'' iz'' ms'' I2
      refine ⟨e + 1, ky', sr', vl', bs', sp', an', cs', se', la', ho', kn', ga', gs', wi', go', kw', yg', iz', ms', I', fun post J n d hn hJ => ?_, fun post n D h => ?_⟩
      · obtain ⟨n, rfl⟩ : ∃ m, n = m + 1 := ⟨n - 1, by omega⟩
        refine br_f (nI_ge (by omega) (by omega)) ?_
        refine zx_uw1 hsz hwi hc hu (by omega) hb hm0 ?_
        refine br_f (by decide) ?_
        refine zx_takeOff hc (by omega) (by omega) ?_
        refine hX2 _ ?_
        refine nm_r (nI_1 d) (nm_r (nI_1 a) (hX' post J n (d + 1) (by omega) ?_))
        rw [show d + 1 + e = d + (e + 1) from by omega]
        exact hJ
      · refine zy_r1 I0 rfl hc hu (by omega) hb hm0 hY2 (hY' post n (D + 1) ?_)
        rw [show D + 1 + e = D + (e + 1) from by omega]
        exact h
/-- the updates -/
theorem zo_r2 {c b : Nat} (hc : c < 3) (hb : b < R) : ∀ (q u : Nat), u + q = S → ∀ (ky sr vl bs sp an cs se la ho kn ga gs wi go kw yg iz ms : Nat → Int32), zr_inv R K L S vw mb up ky sr vl bs sp an cs se la ho kn ga gs wi cr re go kw yg iz ms → ∃ (e : Nat) (ky' sr' vl' bs' sp' an' cs' se' la' ho' kn' ga' gs' wi' go' kw' yg' iz' ms' : Nat → Int32), zr_inv R K L S vw mb up ky' sr' vl' bs' sp' an' cs' se' la' ho' kn' ga' gs' wi' cr re go' kw' yg' iz' ms' ∧
    (∀ (post : Int32 → SX → Prop) (n d : Nat), q < n → post (nI (d + e)) (nI R, nI K, nI L, nI S, vw, mb, up, ky', sr', vl', bs', sp', an', cs', se', la', ho', kn', ga', gs', wi') → wX_sweep_5 post (nI c) (nI b) n (nI d) (nI u) (nI R) (nI K) (nI L) (nI S) vw mb up ky sr vl bs sp an cs se la ho kn ga gs wi) ∧
    (∀ (post : Int32 → SY → Prop) (n D : Nat), wY_round_4 post n (nI (D + e)) (nI (b * 360 + c * 120 + S * 5)) (nI R) (nI K) (nI L) (nI S) vw ky' sr' vl' bs' an' cs' se' cr re go' kw' yg' iz' ms' → wY_round_4 post (n + q * 5) (nI D) (nI (b * 360 + c * 120 + u * 5)) (nI R) (nI K) (nI L) (nI S) vw ky sr vl bs an cs se cr re go kw yg iz ms) := by
  intro q
  induction q with
  | zero =>
    intro u huS ky sr vl bs sp an cs se la ho kn ga gs wi go kw yg iz ms I
    obtain ⟨h1, h2, h3, h4, h5, h6, h7⟩ := I.1
    refine ⟨0, ky, sr, vl, bs, sp, an, cs, se, la, ho, kn, ga, gs, wi, go, kw, yg, iz, ms, I, fun post n d hn hJ => ?_, fun post n D h => ?_⟩
    · obtain ⟨n, rfl⟩ : ∃ m, n = m + 1 := ⟨n - 1, by omega⟩
      exact br_t (nI_le (by omega) (by omega)) hJ
    · rw [show u = S from by omega]
      exact h
  | succ q ih =>
    intro u huS ky sr vl bs sp an cs se la ho kn ga gs wi go kw yg iz ms I
    obtain ⟨h1, h2, h3, h4, h5, h6, h7⟩ := I.1
    obtain ⟨e1, ky'', sr'', vl'', bs'', sp'', an'', cs'', se'', la'', ho'', kn'', ga'', gs'', wi'', go'', kw'', yg'', iz'', ms'', I2, hX2, hY2⟩ := zo_r1 (u := u) hc hb (by omega) R 0 (by omega) ky sr vl bs sp an cs se la ho kn ga gs wi go kw yg iz ms I
    obtain ⟨e2, ky', sr', vl', bs', sp', an', cs', se', la', ho', kn', ga', gs', wi', go', kw', yg', iz', ms', I', hX', hY'⟩ := ih (u + 1) (by omega) ky'' sr'' vl'' bs'' sp'' an'' cs'' se'' la'' ho'' kn'' ga'' gs'' wi'' go'' kw'' yg'' iz'' ms'' I2
    refine ⟨e1 + e2, ky', sr', vl', bs', sp', an', cs', se', la', ho', kn', ga', gs', wi', go', kw', yg', iz', ms', I', fun post n d hn hJ => ?_, fun post n D h => ?_⟩
    · obtain ⟨n, rfl⟩ : ∃ m, n = m + 1 := ⟨n - 1, by omega⟩
      refine br_f (nI_ge (by omega) (by omega)) ⟨R + 1, hX2 post _ (R + 1) d (by omega) (hX' post n (d + e1) (by omega) ?_)⟩
      rw [show d + e1 + e2 = d + (e1 + e2) from by omega]
      exact hJ
    · rw [show n + (q + 1) * 5 = (n + q * 5 + (5 - R)) + R from by omega]
      refine hY2 post _ D ?_
      refine zy_rs I2 (5 - R) _ (by omega) (fun i' a b => by omega) ?_
      rw [show b * 360 + c * 120 + u * 5 + R + (5 - R) = b * 360 + c * 120 + (u + 1) * 5 from by omega]
      refine hY' post n (D + e1) ?_
      rw [show D + e1 + e2 = D + (e1 + e2) from by omega]
      exact h
/-- the kinds -/
theorem zo_r3 {b : Nat} (hb : b < R) : ∀ (q c : Nat), c + q = 3 → ∀ (ky sr vl bs sp an cs se la ho kn ga gs wi go kw yg iz ms : Nat → Int32), zr_inv R K L S vw mb up ky sr vl bs sp an cs se la ho kn ga gs wi cr re go kw yg iz ms → ∃ (e : Nat) (ky' sr' vl' bs' sp' an' cs' se' la' ho' kn' ga' gs' wi' go' kw' yg' iz' ms' : Nat → Int32), zr_inv R K L S vw mb up ky' sr' vl' bs' sp' an' cs' se' la' ho' kn' ga' gs' wi' cr re go' kw' yg' iz' ms' ∧
    (∀ (post : Int32 → SX → Prop) (J : Int32 → Int32 → Int32 → Int32 → Int32 → Int32 → Int32 → Int32 → Int32 → (Nat → Int32) → (Nat → Int32) → (Nat → Int32) → (Nat → Int32) → (Nat → Int32) → (Nat → Int32) → (Nat → Int32) → (Nat → Int32) → (Nat → Int32) → (Nat → Int32) → (Nat → Int32) → (Nat → Int32) → (Nat → Int32) → (Nat → Int32) → Prop) (n d : Nat), q < n → J (nI (d + e)) (nI (b + 1)) (nI R) (nI K) (nI L) (nI S) vw mb up ky' sr' vl' bs' sp' an' cs' se' la' ho' kn' ga' gs' wi' → wX_round_14 post J (nI b) n (nI d) (nI c) (nI R) (nI K) (nI L) (nI S) vw mb up ky sr vl bs sp an cs se la ho kn ga gs wi) ∧
    (∀ (post : Int32 → SY → Prop) (n D : Nat), wY_round_4 post n (nI (D + e)) (nI (b * 360 + 360)) (nI R) (nI K) (nI L) (nI S) vw ky' sr' vl' bs' an' cs' se' cr re go' kw' yg' iz' ms' → wY_round_4 post (n + q * 120) (nI D) (nI (b * 360 + c * 120)) (nI R) (nI K) (nI L) (nI S) vw ky sr vl bs an cs se cr re go kw yg iz ms) := by
  intro q
  induction q with
  | zero =>
    intro c hcq ky sr vl bs sp an cs se la ho kn ga gs wi go kw yg iz ms I
    obtain ⟨h1, h2, h3, h4, h5, h6, h7⟩ := I.1
    refine ⟨0, ky, sr, vl, bs, sp, an, cs, se, la, ho, kn, ga, gs, wi, go, kw, yg, iz, ms, I, fun post J n d hn hJ => ?_, fun post n D h => ?_⟩
    · obtain ⟨n, rfl⟩ : ∃ m, n = m + 1 := ⟨n - 1, by omega⟩
      exact br_t (nI_lt (a := 2) (by omega) (by omega)) (nm_r (nI_1 b) hJ)
    · rw [show c = 3 from by omega]
      exact h
  | succ q ih =>
    intro c hcq ky sr vl bs sp an cs se la ho kn ga gs wi go kw yg iz ms I
    obtain ⟨h1, h2, h3, h4, h5, h6, h7⟩ := I.1
    obtain ⟨e1, ky'', sr'', vl'', bs'', sp'', an'', cs'', se'', la'', ho'', kn'', ga'', gs'', wi'', go'', kw'', yg'', iz'', ms'', I2, hX2, hY2⟩ := zo_r2 (c := c) (by omega) hb S 0 (by omega) ky sr vl bs sp an cs se la ho kn ga gs wi go kw yg iz ms I
    obtain ⟨e2, ky', sr', vl', bs', sp', an', cs', se', la', ho', kn', ga', gs', wi', go', kw', yg', iz', ms', I', hX', hY'⟩ := ih (c + 1) (by omega) ky'' sr'' vl'' bs'' sp'' an'' cs'' se'' la'' ho'' kn'' ga'' gs'' wi'' go'' kw'' yg'' iz'' ms'' I2
    refine ⟨e1 + e2, ky', sr', vl', bs', sp', an', cs', se', la', ho', kn', ga', gs', wi', go', kw', yg', iz', ms', I', fun post J n d hn hJ => ?_, fun post n D h => ?_⟩
    · obtain ⟨n, rfl⟩ : ∃ m, n = m + 1 := ⟨n - 1, by omega⟩
      refine br_f (nI_nlt (b := c) (a := 2) (by omega) (by omega)) ⟨S + 1, hX2 _ (S + 1) 0 (by omega) ?_⟩
      refine nm_r (e' := nI (d + e1)) (by rw [Nat.zero_add, nI_add]) (nm_r (nI_1 c) (hX' post J n (d + e1) (by omega) ?_))
      rw [show d + e1 + e2 = d + (e1 + e2) from by omega]
      exact hJ
    · rw [show n + (q + 1) * 120 = (n + q * 120 + (120 - S * 5)) + S * 5 from by omega]
      refine hY2 post _ D ?_
      refine zy_rs I2 (120 - S * 5) _ (by omega) (fun i' a b => by omega) ?_
      rw [show b * 360 + c * 120 + S * 5 + (120 - S * 5) = b * 360 + (c + 1) * 120 from by omega]
      refine hY' post n (D + e1) ?_
      rw [show D + e1 + e2 = D + (e1 + e2) from by omega]
      exact h
/-- the receivers -/
theorem zo_r4 : ∀ (q b : Nat), b + q = R → ∀ (ky sr vl bs sp an cs se la ho kn ga gs wi go kw yg iz ms : Nat → Int32), zr_inv R K L S vw mb up ky sr vl bs sp an cs se la ho kn ga gs wi cr re go kw yg iz ms → ∃ (e : Nat) (ky' sr' vl' bs' sp' an' cs' se' la' ho' kn' ga' gs' wi' go' kw' yg' iz' ms' : Nat → Int32), zr_inv R K L S vw mb up ky' sr' vl' bs' sp' an' cs' se' la' ho' kn' ga' gs' wi' cr re go' kw' yg' iz' ms' ∧
    (∀ (post : Int32 → SX → Prop) (n d : Nat), q < n → post (nI (d + e)) (nI R, nI K, nI L, nI S, vw, mb, up, ky', sr', vl', bs', sp', an', cs', se', la', ho', kn', ga', gs', wi') → wX_round_4 post n (nI d) (nI b) (nI R) (nI K) (nI L) (nI S) vw mb up ky sr vl bs sp an cs se la ho kn ga gs wi) ∧
    (∀ (post : Int32 → SY → Prop) (n D : Nat), wY_round_4 post n (nI (D + e)) (nI (R * 360)) (nI R) (nI K) (nI L) (nI S) vw ky' sr' vl' bs' an' cs' se' cr re go' kw' yg' iz' ms' → wY_round_4 post (n + q * 360) (nI D) (nI (b * 360)) (nI R) (nI K) (nI L) (nI S) vw ky sr vl bs an cs se cr re go kw yg iz ms) := by
  intro q
  induction q with
  | zero =>
    intro b hbq ky sr vl bs sp an cs se la ho kn ga gs wi go kw yg iz ms I
    obtain ⟨h1, h2, h3, h4, h5, h6, h7⟩ := I.1
    refine ⟨0, ky, sr, vl, bs, sp, an, cs, se, la, ho, kn, ga, gs, wi, go, kw, yg, iz, ms, I, fun post n d hn hJ => ?_, fun post n D h => ?_⟩
    · obtain ⟨n, rfl⟩ : ∃ m, n = m + 1 := ⟨n - 1, by omega⟩
      exact br_t (nI_le (by omega) (by omega)) hJ
    · rw [show b = R from by omega]
      exact h
  | succ q ih =>
    intro b hbq ky sr vl bs sp an cs se la ho kn ga gs wi go kw yg iz ms I
    obtain ⟨h1, h2, h3, h4, h5, h6, h7⟩ := I.1
    obtain ⟨e1, ky'', sr'', vl'', bs'', sp'', an'', cs'', se'', la'', ho'', kn'', ga'', gs'', wi'', go'', kw'', yg'', iz'', ms'', I2, hX2, hY2⟩ := zo_r3 (b := b) (by omega) 3 0 (by omega) ky sr vl bs sp an cs se la ho kn ga gs wi go kw yg iz ms I
    obtain ⟨e2, ky', sr', vl', bs', sp', an', cs', se', la', ho', kn', ga', gs', wi', go', kw', yg', iz', ms', I', hX', hY'⟩ := ih (b + 1) (by omega) ky'' sr'' vl'' bs'' sp'' an'' cs'' se'' la'' ho'' kn'' ga'' gs'' wi'' go'' kw'' yg'' iz'' ms'' I2
    refine ⟨e1 + e2, ky', sr', vl', bs', sp', an', cs', se', la', ho', kn', ga', gs', wi', go', kw', yg', iz', ms', I', fun post n d hn hJ => ?_, fun post n D h => ?_⟩
    · obtain ⟨n, rfl⟩ : ∃ m, n = m + 1 := ⟨n - 1, by omega⟩
      refine br_f (nI_ge (by omega) (by omega)) ⟨4, hX2 post _ 4 d (by omega) (hX' post n (d + e1) (by omega) ?_)⟩
      rw [show d + e1 + e2 = d + (e1 + e2) from by omega]
      exact hJ
    · rw [show n + (q + 1) * 360 = (n + q * 360) + 3 * 120 from by omega]
      refine hY2 post _ D ?_
      rw [show b * 360 + 360 = (b + 1) * 360 from by omega]
      refine hY' post n (D + e1) ?_
      rw [show D + e1 + e2 = D + (e1 + e2) from by omega]
      exact h
theorem zo_round (I : zr_inv R K L S vw mb up ky sr vl bs sp an cs se la ho kn ga gs wi cr re go kw yg iz ms) : zr_ouq zr_all (fun post => wpX_round post (nI R, nI K, nI L, nI S, vw, mb, up, ky, sr, vl, bs, sp, an, cs, se, la, ho, kn, ga, gs, wi)) (fun post => wpY_round post (nI R, nI K, nI L, nI S, vw, ky, sr, vl, bs, an, cs, se, cr, re, go, kw, yg, iz, ms)) := by
  obtain ⟨h1, h2, h3, h4, h5, h6, h7⟩ := I.1
  obtain ⟨e, ky', sr', vl', bs', sp', an', cs', se', la', ho', kn', ga', gs', wi', go', kw', yg', iz', ms', I', hX', hY'⟩ := zo_r4 R 0 (by omega) ky sr vl bs sp an cs se la ho kn ga gs wi go kw yg iz ms I
  refine zr_ouq_in (a := nI (0 + e)) I' (fun post hp => ?_) (fun post hp => ?_)
  · exact ⟨R + 1, hX' post (R + 1) 0 (by omega) hp⟩
  · refine ⟨1 + (1800 - R * 360) + R * 360, hY' post _ 0 ?_⟩
    refine zy_rs I' (1800 - R * 360) _ (by omega) (fun i' a b => by omega) ?_
    rw [show R * 360 + (1800 - R * 360) = 1800 from by omega]
    exact br_t (nI_le (b := 1800) (a := 1800) (by omega) (by omega)) hp
end
end
section
/-! a crash -/
def zr_fl (f : Nat → Int32) (lo hi : Nat) (v : Int32) : Nat → Int32 := fun x => if lo ≤ x ∧ x < hi then v else f x
theorem zr_fl_i {f : Nat → Int32} {lo hi x : Nat} {v : Int32} (h : lo ≤ x ∧ x < hi) : zr_fl f lo hi v x = v := if_pos h
theorem zr_fl_o {f : Nat → Int32} {lo hi x : Nat} {v : Int32} (h : ¬ (lo ≤ x ∧ x < hi)) : zr_fl f lo hi v x = f x := if_neg h
theorem zr_fl_e {f : Nat → Int32} {lo : Nat} {v : Int32} : zr_fl f lo lo v = f := by
  funext x
  exact zr_fl_o (by omega)
theorem zr_fl_s {f : Nat → Int32} {lo hi : Nat} {v : Int32} (h : lo < hi) : zr_fl (upd f lo v) (lo + 1) hi v = zr_fl f lo hi v := by
  funext x
  by_cases e : x = lo
  · rw [zr_fl_o (by omega), zr_s e, zr_fl_i (by omega)]
  · by_cases z : lo ≤ x ∧ x < hi
    · rw [zr_fl_i (by omega), zr_fl_i z]
    · rw [zr_fl_o (by omega), zr_fl_o z, zr_n e]
def zr_lo (S : Nat) (sr : Nat → Int32) (r i : Nat) (an : Nat → Int32) : Nat → Int32 := fun u => if i ≤ u ∧ u < S ∧ sr u = nI r ∧ an u = 0 then 3 else an u
theorem zr_lo_i {S r i u : Nat} {sr an : Nat → Int32} (h : i ≤ u ∧ u < S ∧ sr u = nI r ∧ an u = 0) : zr_lo S sr r i an u = 3 := if_pos h
theorem zr_lo_o {S r i u : Nat} {sr an : Nat → Int32} (h : ¬ (i ≤ u ∧ u < S ∧ sr u = nI r ∧ an u = 0)) : zr_lo S sr r i an u = an u := if_neg h
theorem zr_lo_e {S r : Nat} {sr an : Nat → Int32} : zr_lo S sr r S an = an := by
  funext u
  exact zr_lo_o (by omega)
theorem zr_lo_n {S r i : Nat} {sr an : Nat → Int32} (h : ¬ (sr i = nI r ∧ an i = 0)) : zr_lo S sr r (i + 1) an = zr_lo S sr r i an := by
  funext u
  by_cases z : i ≤ u ∧ u < S ∧ sr u = nI r ∧ an u = 0
  · have : u ≠ i := fun e => h (e ▸ z.2.2)
    rw [zr_lo_i z, zr_lo_i ⟨by omega, z.2⟩]
  · rw [zr_lo_o z, zr_lo_o (fun y => z ⟨by omega, y.2⟩)]
theorem zr_lo_y {S r i : Nat} {sr an : Nat → Int32} (hi : i < S) (h : sr i = nI r ∧ an i = 0) : zr_lo S sr r (i + 1) (upd an i 3) = zr_lo S sr r i an := by
  funext u
  by_cases e : u = i
  · subst e
    rw [zr_lo_o (by omega), zr_s rfl, zr_lo_i ⟨by omega, hi, h⟩]
  · by_cases z : i ≤ u ∧ u < S ∧ sr u = nI r ∧ an u = 0
    · rw [zr_lo_i z, zr_lo_i ⟨by omega, z.2.1, z.2.2.1, by rw [zr_n e]; exact z.2.2.2⟩]
    · rw [zr_lo_o z, zr_lo_o (fun y => z ⟨by omega, y.2.1, y.2.2.1, by rw [zr_n e] at y; exact y.2.2.2⟩), zr_n e]
def zr_tk (r R p : Nat) (wi : Nat → Int32) : Nat → Int32 := fun x => if p ≤ x / 5 ∧ x < 75 ∧ x % 5 = r ∧ x / 5 % 5 < R then 0 else wi x
theorem zr_tk_i {r R p x : Nat} {wi : Nat → Int32} (h : p ≤ x / 5 ∧ x < 75 ∧ x % 5 = r ∧ x / 5 % 5 < R) : zr_tk r R p wi x = 0 := if_pos h
theorem zr_tk_o {r R p x : Nat} {wi : Nat → Int32} (h : ¬ (p ≤ x / 5 ∧ x < 75 ∧ x % 5 = r ∧ x / 5 % 5 < R)) : zr_tk r R p wi x = wi x := if_neg h
theorem zr_tk_s {r R c a : Nat} {wi : Nat → Int32} (hr : r < 5) (hR : R ≤ 5) (hc : c < 3) (ha : a < R) : zr_tk r R (c * 5 + (a + 1)) (upd wi ((c * 5 + a) * 5 + r) 0) = zr_tk r R (c * 5 + a) wi := by
  funext x
  by_cases e : x = (c * 5 + a) * 5 + r
  · rw [zr_tk_o (by omega), zr_s e, zr_tk_i (by omega)]
  · by_cases z : c * 5 + a ≤ x / 5 ∧ x < 75 ∧ x % 5 = r ∧ x / 5 % 5 < R
    · rw [zr_tk_i z, zr_tk_i (by omega)]
    · rw [zr_tk_o z, zr_tk_o (by omega), zr_n e]
theorem zr_tk_n {r R c : Nat} {wi : Nat → Int32} (hR : R ≤ 5) : zr_tk r R ((c + 1) * 5 + 0) wi = zr_tk r R (c * 5 + R) wi := by
  funext x
  by_cases z : c * 5 + R ≤ x / 5 ∧ x < 75 ∧ x % 5 = r ∧ x / 5 % 5 < R
  · rw [zr_tk_i z, zr_tk_i (by omega)]
  · rw [zr_tk_o z, zr_tk_o (by omega)]
theorem zr_tk_e {r R : Nat} {wi : Nat → Int32} : zr_tk r R (3 * 5 + 0) wi = wi := by
  funext x
  exact zr_tk_o (by omega)
def zr_mk (r i : Nat) (ms : Nat → Int32) : Nat → Int32 := fun x => if i ≤ x ∧ x < 1800 ∧ x % 5 = r then 0 else ms x
theorem zr_mk_i {r i x : Nat} {ms : Nat → Int32} (h : i ≤ x ∧ x < 1800 ∧ x % 5 = r) : zr_mk r i ms x = 0 := if_pos h
theorem zr_mk_o {r i x : Nat} {ms : Nat → Int32} (h : ¬ (i ≤ x ∧ x < 1800 ∧ x % 5 = r)) : zr_mk r i ms x = ms x := if_neg h
theorem zr_mk_e {r : Nat} {ms : Nat → Int32} : zr_mk r 1800 ms = ms := by
  funext x
  exact zr_mk_o (by omega)
theorem zr_mk_y {r i : Nat} {ms : Nat → Int32} (hi : i < 1800) (h : i % 5 = r) : zr_mk r (i + 1) (upd ms i 0) = zr_mk r i ms := by
  funext x
  by_cases e : x = i
  · rw [zr_mk_o (by omega), zr_s e, zr_mk_i (by omega)]
  · by_cases z : i ≤ x ∧ x < 1800 ∧ x % 5 = r
    · rw [zr_mk_i z, zr_mk_i (by omega)]
    · rw [zr_mk_o z, zr_mk_o (by omega), zr_n e]
theorem zr_mk_n {r i : Nat} {ms : Nat → Int32} (h : ¬ i % 5 = r) : zr_mk r (i + 1) ms = zr_mk r i ms := by
  funext x
  by_cases z : i ≤ x ∧ x < 1800 ∧ x % 5 = r
  · have : x ≠ i := fun e => h (e ▸ z.2.2)
    rw [zr_mk_i z, zr_mk_i (by omega)]
  · rw [zr_mk_o z, zr_mk_o (by omega)]
/-- how many below n are up -/
def zr_cn (cr : Nat → Int32) : Nat → Nat
  | 0 => 0
  | n + 1 => zr_cn cr n + (if cr n = 0 then 1 else 0)
theorem zr_cn_0 {cr : Nat → Int32} : ∀ n, (∀ i, i < n → ¬ cr i = 0) → zr_cn cr n = 0 := by
  intro n
  induction n with
  | zero => intro _; rfl
  | succ n ih =>
    intro h
    show zr_cn cr n + (if cr n = 0 then 1 else 0) = 0
    rw [ih (fun i hi => h i (by omega)), if_neg (h n (by omega))]
theorem zr_cn_p {cr : Nat → Int32} {i : Nat} (hc : cr i = 0) : ∀ n, i < n → 1 ≤ zr_cn cr n := by
  intro n
  induction n with
  | zero => intro h; omega
  | succ n ih =>
    intro h
    show 1 ≤ zr_cn cr n + (if cr n = 0 then 1 else 0)
    by_cases e : i = n
    · subst e
      rw [if_pos hc]
      omega
    · have := ih (by omega)
      omega
theorem zr_cn_2 {cr : Nat → Int32} {i j : Nat} (hij : i < j) (hi : cr i = 0) (hj : cr j = 0) : ∀ n, j < n → 2 ≤ zr_cn cr n := by
  intro n
  induction n with
  | zero => intro h; omega
  | succ n ih =>
    intro h
    show 2 ≤ zr_cn cr n + (if cr n = 0 then 1 else 0)
    by_cases e : j = n
    · subst e
      rw [if_pos hj]
      have := zr_cn_p hi j hij
      omega
    · have := ih (by omega)
      omega
theorem zr_cn_1 {cr : Nat → Int32} {r : Nat} : ∀ n, (∀ i, i < n → cr i = 0 → i = r) → zr_cn cr n ≤ 1 := by
  intro n
  induction n with
  | zero => intro _; exact Nat.zero_le _
  | succ n ih =>
    intro h
    show zr_cn cr n + (if cr n = 0 then 1 else 0) ≤ 1
    by_cases e : cr n = 0
    · have hn := h n (by omega) e
      rw [if_pos e, zr_cn_0 n (fun i hi z => by
        have := h i (by omega) z
        omega)]
      omega
    · rw [if_neg e]
      exact ih (fun i hi => h i (by omega))
section
variable {R K L S : Nat} {vw mb up : Int32} {ky sr vl bs sp an cs se la ho kn ga gs wi cr re go kw yg iz ms : Nat → Int32}
theorem zi_crash {r : Nat} (I : zr_inv R K L S vw mb up ky sr vl bs sp an cs se la ho kn ga gs wi cr re go kw yg iz ms) (hr : r < R) (hc : cr r = 0) :
    zr_inv R K L S vw mb (up &&& (((1 : Int32) <<< (nI r &&& 31)) ^^^ (-1))) ky sr vl bs sp (zr_lo S sr r 0 an) cs se la (zr_fl ho (r * 8) (r * 8 + K) (-1)) (zr_fl kn (r * 8) (r * 8 + K) 1) (zr_fl ga (r * 8) (r * 8 + K) (-1)) (zr_fl gs (r * 8) (r * 8 + K) 0) (zr_tk r R 0 wi) (upd cr r 1) re (zr_fl go (r * 24) (r * 24 + S) 0) (zr_fl kw (r * 24) (r * 24 + S) 0) (zr_fl yg (r * 24) (r * 24 + S) 0) iz (zr_mk r 0 ms) := by
  have I0 := I
  obtain ⟨hsz, hup, hmb, hsb, hut, huq, hla, hho, hkn, hkw, hga, hgs, hwi, hms, hne, how, hyu, han, ha3⟩ := I
  have hsz0 := hsz
  obtain ⟨h1, h2, h3, h4, h5, h6, h7⟩ := hsz0
  have cr0 : ∀ i, upd cr r 1 i = 0 → i ≠ r ∧ cr i = 0 := by
    intro i z
    by_cases e : i = r
    · rw [zr_s e] at z; exact absurd z zr_01
    · rw [zr_n e] at z; exact ⟨e, z⟩
  have lo0 : ∀ u r', r' < R → r' ≠ r → sr u = nI r' → zr_lo S sr r 0 an u = an u := by
    intro u r' hr' hne' z
    refine zr_lo_o (fun y => hne' (zr_im (z.symm.trans y.2.2.1) (by omega) (by omega)))
  refine ⟨hsz, ?_, hmb, ?_, hut, huq, hla, ?_, ?_, ?_, ?_, ?_, ?_, ?_, ?_, ?_, ?_, ?_, ?_⟩
  · intro i hi
    rw [zr_and, zr_not hi, zr_sl (by omega) hi, hup i hi]
    constructor
    · rintro ⟨⟨a, b⟩, c⟩
      exact ⟨a, by rw [zr_n c]; exact b⟩
    · rintro ⟨a, b⟩
      have := cr0 i b
      exact ⟨⟨a, this.2⟩, this.1⟩
  · intro i hi
    refine ⟨?_, fun z => (hsb i hi).2 (cr0 i z).2⟩
    by_cases e : i = r
    · rw [zr_s e]; exact Or.inr rfl
    · rw [zr_n e]; exact (hsb i hi).1
  · intro r' k' hr' hk'
    by_cases e : r' = r
    · subst e
      rw [zr_fl_i (by omega)]
      refine Or.inl ⟨rfl, fun u hu z => ?_⟩
      exact z.2 (zr_fl_i (by omega))
    · rw [zr_fl_o (by omega)]
      refine zr_b_cong (hho r' k' hr' hk') ?_
      intro u hu
      rw [zr_fl_o (by omega)]
  · intro r' k' hr' hk'
    by_cases e : r' = r
    · subst e
      rw [zr_fl_i (by omega), zr_fl_i (by omega)]
      exact ⟨fun _ => zr_01, fun j hj z => absurd z.symm (zr_ne1 (by omega))⟩
    · rw [zr_fl_o (by omega), zr_fl_o (by omega)]
      refine ⟨(hkn r' k' hr' hk').1, fun j hj z => ?_⟩
      rw [zr_fl_o (by omega)]
      exact (hkn r' k' hr' hk').2 j hj z
  · intro r' u hr' hu z
    by_cases e : r' = r
    · subst e
      exact absurd (zr_fl_i (by omega)) z
    · rw [zr_fl_o (by omega)] at z
      rw [zr_fl_o (by omega)]
      exact hkw r' u hr' hu z
  · intro r' k' hr' hk'
    by_cases e : r' = r
    · subst e
      rw [zr_fl_i (by omega)]
      exact Or.inl ⟨rfl, fun u hu _ => zr_fl_i (by omega)⟩
    · rw [zr_fl_o (by omega)]
      refine zr_g1_cong (hga r' k' hr' hk') ?_
      intro u hu _
      exact zr_fl_o (by omega)
  · intro r' k' hr' hk'
    by_cases e : r' = r
    · subst e
      rw [zr_fl_i (by omega), zr_fl_i (by omega)]
      exact ⟨fun _ => rfl, fun j hj z => absurd z.symm (zr_ne1 (by omega))⟩
    · rw [zr_fl_o (by omega), zr_fl_o (by omega)]
      exact hgs r' k' hr' hk'
  · intro c a b hc' ha hb i hi
    by_cases e : b = r
    · subst e
      rw [zr_tk_i (by omega)]
      constructor
      · intro z; exact absurd z zr_0
      · rintro ⟨z1, z2⟩
        exact absurd (zr_mk_i (by omega)) z2
    · rw [zr_tk_o (by omega), zr_mk_o (by omega)]
      exact hwi c a b hc' ha hb i hi
  · intro c a b u hc' ha hb hu
    by_cases e : b = r
    · subst e
      exact Or.inl (zr_mk_i (by omega))
    · rw [zr_mk_o (by omega), zr_n e]
      exact hms c a b u hc' ha hb hu
  · intro u hu hu'
    have := hne u hu hu'
    refine ⟨this.1, fun r' hr' => ?_⟩
    rw [zr_fl_o (by omega), zr_fl_o (by omega), zr_fl_o (by omega)]
    exact this.2 r' hr'
  · intro u r' hu hr' a1 a2
    have := cr0 r' a2
    rw [zr_fl_o (by omega)]
    exact how u r' hu hr' a1 this.2
  · intro r' u hr' hu z
    by_cases e : r' = r
    · subst e
      exact absurd (zr_fl_i (by omega)) z
    · rw [zr_fl_o (by omega)] at z
      rw [zr_n e]
      exact hyu r' u hr' hu z
  · intro u r' hu hr' z
    have hh := han u r' hu hr' z
    by_cases e : r' = r
    · subst e
      refine ⟨?_, fun y => absurd (zr_fl_i (by omega)) y⟩
      have c1 : upd cr r' 1 r' ≠ 0 := by rw [zr_s rfl]; exact zr_01
      by_cases y : an u = 0
      · rw [zr_lo_i ⟨by omega, hu, z, y⟩]
        exact Or.inr (Or.inr (Or.inr ⟨rfl, c1⟩))
      · rw [zr_lo_o (fun x => y x.2.2.2)]
        rcases hh.1 with x | x | x | x
        · exact Or.inl x
        · exact Or.inr (Or.inl x)
        · exact Or.inr (Or.inr (Or.inl x))
        · exact Or.inr (Or.inr (Or.inr ⟨x.1, c1⟩))
    · rw [lo0 u r' hr' e z, zr_n e, zr_fl_o (by omega)]
      exact hh
  · intro u r' k' hu hr' hk' a1 a2 a3 a4 a5 a6
    have := cr0 r' a3
    rw [lo0 u r' hr' this.1 a1]
    rw [zr_fl_o (by omega)] at a5 a6
    exact ha3 u r' k' hu hr' hk' a1 a2 this.2 a4 a5 a6
theorem zx_lose_l {r : Nat} (hS : S ≤ 24) : ∀ (q i : Nat), i + q = S → ∀ (an : Nat → Int32) (post : SX → Prop) (n : Nat), q < n → post (nI R, nI K, nI L, nI S, vw, mb, up, ky, sr, vl, bs, sp, zr_lo S sr r i an, cs, se, la, ho, kn, ga, gs, wi) → wX_loseUpdatesOf_2 post (nI r) n (nI i) (nI R) (nI K) (nI L) (nI S) vw mb up ky sr vl bs sp an cs se la ho kn ga gs wi := by
  intro q
  induction q with
  | zero =>
    intro i hi an post n hn hp
    obtain ⟨n, rfl⟩ : ∃ m, n = m + 1 := ⟨n - 1, by omega⟩
    rw [show i = S from by omega, zr_lo_e] at hp
    exact br_t (nI_le (by omega) (by omega)) hp
  | succ q ih =>
    intro i hi an post n hn hp
    obtain ⟨n, rfl⟩ : ∃ m, n = m + 1 := ⟨n - 1, by omega⟩
    have ei : (nI i).toNatClampNeg = i := nI_clamp (by omega)
    have i24 : vp_in (nI i) 24 := vp_in_nI (by omega) (by omega)
    refine br_f (nI_ge (by omega) (by omega)) ⟨i24, ?_⟩
    rw [ei]
    refine br_c (fun hsr => ?_) (fun hsr => ?_)
    · refine ⟨i24, ?_⟩
      rw [ei]
      refine br_c (fun z => ⟨i24, nm_e (nm_r (nI_1 i) (ih (i + 1) (by omega) _ post n (by omega) ?_))⟩) (fun z => nm_r (nI_1 i) (ih (i + 1) (by omega) _ post n (by omega) ?_))
      · rw [zr_lo_y (by omega) ⟨hsr, z⟩]
        exact hp
      · rw [zr_lo_n (fun y => z y.2)]
        exact hp
    · refine nm_r (nI_1 i) (ih (i + 1) (by omega) _ post n (by omega) ?_)
      rw [zr_lo_n (fun y => hsr y.1)]
      exact hp
theorem zx_reset {s : Nat} (hs : s < 40) {post : SX → Prop} (hp : post (nI R, nI K, nI L, nI S, vw, mb, up, ky, sr, vl, bs, sp, an, cs, se, la, upd ho s (-1), upd kn s 1, upd ga s (-1), upd gs s 0, wi)) : wpX_resetSlot post (nI R, nI K, nI L, nI S, vw, mb, up, ky, sr, vl, bs, sp, an, cs, se, la, ho, kn, ga, gs, wi) (nI s) := by
  have e : (nI s).toNatClampNeg = s := nI_clamp (by omega)
  have i40 : vp_in (nI s) 40 := vp_in_nI hs (by omega)
  refine ⟨i40, ?_⟩
  rw [e]
  refine nm_e ⟨i40, nm_r (e' := upd kn s 1) (by rw [zr_vb1]) ?_⟩
  exact zx_endG hs hp
theorem zx_take9 {r c : Nat} (hr : r < R) (hR : R ≤ 5) (hc : c < 3) {post : SX → Prop} {J : Int32 → (Nat → Int32) → (Nat → Int32) → (Nat → Int32) → (Nat → Int32) → (Nat → Int32) → (Nat → Int32) → (Nat → Int32) → (Nat → Int32) → (Nat → Int32) → (Nat → Int32) → (Nat → Int32) → (Nat → Int32) → (Nat → Int32) → (Nat → Int32) → Prop} :
    ∀ (q a : Nat), a + q = R → ∀ (wi : Nat → Int32) (n : Nat), q < n → (∀ wi' : Nat → Int32, zr_tk r R ((c + 1) * 5 + 0) wi' = zr_tk r R (c * 5 + a) wi → J (nI (c + 1)) ky sr vl bs sp an cs se la ho kn ga gs wi') → wX_takeOffAllTo_9 post J (nI r) (nI c) (nI R) (nI K) (nI L) (nI S) vw mb up n (nI a) ky sr vl bs sp an cs se la ho kn ga gs wi := by
  intro q
  induction q with
  | zero =>
    intro a ha wi n hn hJ
    obtain ⟨n, rfl⟩ : ∃ m, n = m + 1 := ⟨n - 1, by omega⟩
    refine br_t (nI_le (by omega) (by omega)) (nm_r (nI_1 c) (hJ wi ?_))
    rw [zr_tk_n hR, show a = R from by omega]
  | succ q ih =>
    intro a ha wi n hn hJ
    obtain ⟨n, rfl⟩ : ∃ m, n = m + 1 := ⟨n - 1, by omega⟩
    refine br_f (nI_ge (by omega) (by omega)) ?_
    rw [zr_5, zr_5, nI_clamp (n := (c * 5 + a) * 5 + r) (by omega)]
    refine ⟨vp_in_nI (by omega) (by omega), nm_e (nm_r (nI_1 a) (ih (a + 1) (by omega) _ n (by omega) ?_))⟩
    intro wi' e
    refine hJ wi' ?_
    rw [e, zr_tk_s (by omega) hR hc (by omega)]
theorem zx_take2 {r : Nat} (hr : r < R) (hR : R ≤ 5) {post : SX → Prop} :
    ∀ (q c : Nat), c + q = 3 → ∀ (wi : Nat → Int32) (n : Nat), q < n → post (nI R, nI K, nI L, nI S, vw, mb, up, ky, sr, vl, bs, sp, an, cs, se, la, ho, kn, ga, gs, zr_tk r R (c * 5 + 0) wi) → wX_takeOffAllTo_2 post (nI r) (nI R) (nI K) (nI L) (nI S) vw mb up n (nI c) ky sr vl bs sp an cs se la ho kn ga gs wi := by
  intro q
  induction q with
  | zero =>
    intro c hc wi n hn hp
    obtain ⟨n, rfl⟩ : ∃ m, n = m + 1 := ⟨n - 1, by omega⟩
    rw [show c = 3 from by omega, zr_tk_e] at hp
    exact br_t (nI_lt (a := 2) (by omega) (by omega)) hp
  | succ q ih =>
    intro c hc wi n hn hp
    obtain ⟨n, rfl⟩ : ∃ m, n = m + 1 := ⟨n - 1, by omega⟩
    refine br_f (nI_nlt (b := c) (a := 2) (by omega) (by omega)) ⟨R + 1, zx_take9 hr hR (by omega) R 0 (by omega) wi (R + 1) (by omega) ?_⟩
    intro wi' e
    refine ih (c + 1) (by omega) wi' n (by omega) ?_
    rw [e]
    exact hp
theorem zx_take {r : Nat} (hr : r < R) (hR : R ≤ 5) {post : SX → Prop} (hp : post (nI R, nI K, nI L, nI S, vw, mb, up, ky, sr, vl, bs, sp, an, cs, se, la, ho, kn, ga, gs, zr_tk r R 0 wi)) : wpX_takeOffAllTo post (nI R, nI K, nI L, nI S, vw, mb, up, ky, sr, vl, bs, sp, an, cs, se, la, ho, kn, ga, gs, wi) (nI r) :=
  ⟨4, zx_take2 hr hR 3 0 (by omega) wi 4 (by omega) hp⟩
theorem zx_crash_56 {r : Nat} (hr : r < R) (hR : R ≤ 5) (hK : K ≤ 8) {post : Int32 → SX → Prop} : ∀ (q i : Nat), i + q = K → ∀ (ho kn ga gs : Nat → Int32) (n : Nat), q < n →
    post 1 (nI R, nI K, nI L, nI S, vw, mb, up, ky, sr, vl, bs, sp, an, cs, se, la, zr_fl ho (r * 8 + i) (r * 8 + K) (-1), zr_fl kn (r * 8 + i) (r * 8 + K) 1, zr_fl ga (r * 8 + i) (r * 8 + K) (-1), zr_fl gs (r * 8 + i) (r * 8 + K) 0, zr_tk r R 0 wi) → wX_crash_56 post (nI r) n (nI i) (nI R) (nI K) (nI L) (nI S) vw mb up ky sr vl bs sp an cs se la ho kn ga gs wi := by
  intro q
  induction q with
  | zero =>
    intro i hi ho kn ga gs n hn hp
    obtain ⟨n, rfl⟩ : ∃ m, n = m + 1 := ⟨n - 1, by omega⟩
    rw [show i = K from by omega, zr_fl_e, zr_fl_e, zr_fl_e, zr_fl_e] at hp
    refine br_t (nI_le (by omega) (by omega)) ?_
    exact zx_take hr hR hp
  | succ q ih =>
    intro i hi ho kn ga gs n hn hp
    obtain ⟨n, rfl⟩ : ∃ m, n = m + 1 := ⟨n - 1, by omega⟩
    refine br_f (nI_ge (by omega) (by omega)) ?_
    rw [zr_8]
    refine zx_reset (by omega) ?_
    refine nm_r (nI_1 i) (ih (i + 1) (by omega) _ _ _ _ n (by omega) ?_)
    rw [← Nat.add_assoc, zr_fl_s (by omega), zr_fl_s (by omega), zr_fl_s (by omega), zr_fl_s (by omega)]
    exact hp
theorem zy_crash_149 {r : Nat} (hr : r < 5) {post : Int32 → SY → Prop} : ∀ (q i : Nat), i + q = 1800 → ∀ (ms : Nat → Int32) (n : Nat), q < n → post 1 (nI R, nI K, nI L, nI S, vw, ky, sr, vl, bs, an, cs, se, cr, re, go, kw, yg, iz, zr_mk r i ms) → wY_crash_149 post (nI r) (nI R) (nI K) (nI L) (nI S) vw n (nI i) ky sr vl bs an cs se cr re go kw yg iz ms := by
  intro q
  induction q with
  | zero =>
    intro i hi ms n hn hp
    obtain ⟨n, rfl⟩ : ∃ m, n = m + 1 := ⟨n - 1, by omega⟩
    rw [show i = 1800 from by omega, zr_mk_e] at hp
    exact br_t (nI_le (a := 1800) (by omega) (by omega)) hp
  | succ q ih =>
    intro i hi ms n hn hp
    obtain ⟨n, rfl⟩ : ∃ m, n = m + 1 := ⟨n - 1, by omega⟩
    refine br_f (nI_ge (b := 1800) (by omega) (by omega)) ⟨by decide, ?_⟩
    rw [zr_m5 (by omega), nI_clamp (n := i) (by omega)]
    by_cases e : i % 5 = r
    · refine br_t (by rw [e]) ⟨vp_in_nI (by omega) (by omega), nm_r (e' := upd ms i 0) (by rw [zr_vb0]) (nm_r (nI_1 i) (ih (i + 1) (by omega) _ n (by omega) ?_))⟩
      rw [zr_mk_y (by omega) e]
      exact hp
    · refine br_f (fun z => e (zr_im z (by omega) (by omega))) (nm_r (nI_1 i) (ih (i + 1) (by omega) _ n (by omega) ?_))
      rw [zr_mk_n e]
      exact hp
theorem zy_crash_71 {r : Nat} (hs : zr_sz R K L S) (hr : r < R) {post : Int32 → SY → Prop} : ∀ (q i : Nat), i + q = S → ∀ (an go kw yg : Nat → Int32) (n : Nat), q < n →
    post 1 (nI R, nI K, nI L, nI S, vw, ky, sr, vl, bs, zr_lo S sr r i an, cs, se, cr, re, zr_fl go (r * 24 + i) (r * 24 + S) 0, zr_fl kw (r * 24 + i) (r * 24 + S) 0, zr_fl yg (r * 24 + i) (r * 24 + S) 0, iz, zr_mk r 0 ms) → wY_crash_71 post (nI r) (nI R) (nI K) (nI L) (nI S) vw n (nI i) ky sr vl bs an cs se cr re go kw yg iz ms := by
  obtain ⟨h1, h2, h3, h4, h5, h6, h7⟩ := hs
  intro q
  induction q with
  | zero =>
    intro i hi an go kw yg n hn hp
    obtain ⟨n, rfl⟩ : ∃ m, n = m + 1 := ⟨n - 1, by omega⟩
    rw [show i = S from by omega, zr_fl_e, zr_fl_e, zr_fl_e, zr_lo_e] at hp
    exact br_t (nI_le (by omega) (by omega)) ⟨1801, zy_crash_149 (by omega) 1800 0 (by omega) ms 1801 (by omega) hp⟩
  | succ q ih =>
    intro i hi an go kw yg n hn hp
    obtain ⟨n, rfl⟩ : ∃ m, n = m + 1 := ⟨n - 1, by omega⟩
    have ei : (nI i).toNatClampNeg = i := nI_clamp (by omega)
    have i24 : vp_in (nI i) 24 := vp_in_nI (by omega) (by omega)
    have e24 : (nI (r * 24 + i)).toNatClampNeg = r * 24 + i := nI_clamp (by omega)
    have i120 : vp_in (nI (r * 24 + i)) 120 := vp_in_nI (by omega) (by omega)
    refine br_f (nI_ge (by omega) (by omega)) ⟨i24, ?_⟩
    rw [ei]
    have tail : ∀ an' : Nat → Int32, zr_lo S sr r (i + 1) an' = zr_lo S sr r i an → wY_crash_105 post (wY_crash_71 post (nI r) (nI R) (nI K) (nI L) (nI S) vw n) (nI r) (nI i) (nI R) (nI K) (nI L) (nI S) vw ky sr vl bs an' cs se cr re go kw yg iz ms := by
      intro an' ea
      unfold wY_crash_105
      rw [zr_24, e24]
      refine ⟨i120, nm_r (e' := upd go (r * 24 + i) 0) (by rw [zr_vb0]) ⟨i120, nm_r (e' := upd kw (r * 24 + i) 0) (by rw [zr_vb0]) ⟨i120, nm_r (e' := upd yg (r * 24 + i) 0) (by rw [zr_vb0]) (nm_r (nI_1 i) ?_)⟩⟩⟩
      refine ih (i + 1) (by omega) an' _ _ _ n (by omega) ?_
      rw [ea, ← Nat.add_assoc, zr_fl_s (by omega), zr_fl_s (by omega), zr_fl_s (by omega)]
      exact hp
    refine br_c (fun hsr => ⟨i24, br_c (fun z => ⟨i24, nm_e (tail _ (zr_lo_y (by omega) ⟨hsr, z⟩))⟩) (fun z => tail _ (zr_lo_n (fun y => z y.2)))⟩) (fun hsr => tail _ (zr_lo_n (fun y => hsr y.1)))
theorem zy_crash_28 {r : Nat} (hR : R ≤ 5) {post : Int32 → SY → Prop} (H : ((nI (zr_cn cr R) = 1 → post (-9) (nI R, nI K, nI L, nI S, vw, ky, sr, vl, bs, an, cs, se, cr, re, go, kw, yg, iz, ms)) ∧ (¬ nI (zr_cn cr R) = 1 → (vp_in (nI r) 5 ∧ ∀ a_crashed_27 : Nat → Int32, a_crashed_27 = upd cr (nI r).toNatClampNeg (vp_nar .boolean 1) → (∃ n71 : Nat, wY_crash_71 post (nI r) (nI R) (nI K) (nI L) (nI S) vw n71 0 ky sr vl bs an cs se a_crashed_27 re go kw yg iz ms))))) :
    ∀ (q i : Nat), i + q = R → ∀ n, q < n → wY_crash_28 post (nI r) (nI R) (nI K) (nI L) (nI S) vw ky sr vl bs an cs se cr re go kw yg iz ms n (nI (zr_cn cr i)) (nI i) := by
  intro q
  induction q with
  | zero =>
    intro i hi n hn
    obtain ⟨n, rfl⟩ : ∃ m, n = m + 1 := ⟨n - 1, by omega⟩
    rw [show i = R from by omega]
    exact br_t (nI_le (by omega) (by omega)) H
  | succ q ih =>
    intro i hi n hn
    obtain ⟨n, rfl⟩ : ∃ m, n = m + 1 := ⟨n - 1, by omega⟩
    refine br_f (nI_ge (by omega) (by omega)) ⟨vp_in_nI (by omega) (by omega), ?_⟩
    rw [nI_clamp (n := i) (by omega)]
    have hcn : zr_cn cr (i + 1) = zr_cn cr i + (if cr i = 0 then 1 else 0) := rfl
    have hih := ih (i + 1) (by omega) n (by omega)
    by_cases e : cr i = 0
    · rw [hcn, if_pos e] at hih
      exact br_t e (nm_r (nI_1 _) (nm_r (nI_1 i) hih))
    · rw [hcn, if_neg e, Nat.add_zero] at hih
      exact br_f e (nm_r (nI_1 i) hih)
theorem zo_crash (I : zr_inv R K L S vw mb up ky sr vl bs sp an cs se la ho kn ga gs wi cr re go kw yg iz ms) (v1 : Int32) : zr_ouq zr_all (fun post => wpX_crash post (nI R, nI K, nI L, nI S, vw, mb, up, ky, sr, vl, bs, sp, an, cs, se, la, ho, kn, ga, gs, wi) v1) (fun post => wpY_crash post (nI R, nI K, nI L, nI S, vw, ky, sr, vl, bs, an, cs, se, cr, re, go, kw, yg, iz, ms) v1) := by
  have I0 := I
  obtain ⟨hsz, hup, hmb, hsb, hut, huq, hla, hho, hkn, hkw, hga, hgs, hwi, hms, hne, how, hyu, han, ha3⟩ := I
  have hsz0 := hsz
  obtain ⟨h1, h2, h3, h4, h5, h6, h7⟩ := hsz0
  have V1 : (v1 < 0 ∨ nI R ≤ v1) ∨ ∃ a, a < R ∧ v1 = nI a := by
    rcases pk_ix v1 (n := R) (by omega) with e | e | e
    · exact Or.inl (Or.inl e)
    · exact Or.inl (Or.inr e)
    · exact Or.inr e
  rcases V1 with e | ⟨r, hr, rfl⟩
  · refine zr_ouq_in (a := -2) I0 (fun post hp => ?_) (fun post hp => ?_)
    · unfold wpX_crash
      refine zx_rep0 e ?_
      exact br_t rfl hp
    · unfold wpY_crash
      refine zy_out1 (Or.inl e) ?_
      exact br_f (by decide) hp
  · have er : (nI r).toNatClampNeg = r := nI_clamp (by omega)
    have i5 : vp_in (nI r) 5 := vp_in_nI (by omega) (by omega)
    by_cases hc : cr r = 0
    · by_cases hall : ∀ i, i < R → cr i = 0 → i = r
      · have hupe : up = (1 : Int32) <<< (nI r &&& 31) := by
          apply zr_bx
          intro i hi
          rw [hup i hi, zr_sl (by omega) hi]
          constructor
          · rintro ⟨a, b⟩; exact hall i a b
          · rintro rfl; exact ⟨hr, hc⟩
        have hcn : zr_cn cr R = 1 := by
          have a := zr_cn_1 R hall
          have b := zr_cn_p hc R hr
          omega
        refine zr_ouq_in (a := -9) I0 (fun post hp => ?_) (fun post hp => ?_)
        · unfold wpX_crash
          refine zx_rep1 hr h2 ?_
          refine br_f (by decide) ?_
          refine zx_up1 hr h2 hup hc ?_
          exact br_f (by decide) (br_t hupe hp)
        · unfold wpY_crash
          refine zy_out0 (k := 0) hr (by omega) h2 h4 ?_
          refine br_t rfl ⟨i5, ?_⟩
          rw [er]
          refine br_t hc ⟨R + 1, zy_crash_28 h2 ?_ R 0 (by omega) (R + 1) (by omega)⟩
          exact br_t (by rw [hcn]; rfl) hp
      · obtain ⟨i, hi, hci, hir⟩ : ∃ i, i < R ∧ cr i = 0 ∧ i ≠ r := by
          apply Classical.byContradiction
          intro z
          apply hall
          intro i hi hci
          apply Classical.byContradiction
          intro y
          exact z ⟨i, hi, hci, y⟩
        have hupe : ¬ up = (1 : Int32) <<< (nI r &&& 31) := by
          intro z
          have : bt up i = true := (hup i (by omega)).mpr ⟨hi, hci⟩
          rw [z, zr_sl (by omega) (by omega)] at this
          exact hir this
        have hcn : 2 ≤ zr_cn cr R := by
          rcases Nat.lt_or_ge i r with z | z
          · exact zr_cn_2 z hci hc R hr
          · exact zr_cn_2 (show r < i from by omega) hc hci R hi
        have hcn5 : zr_cn cr R < 2 ^ 31 := by
          have : ∀ n, zr_cn cr n ≤ n := by
            intro n
            induction n with
            | zero => exact Nat.le_refl _
            | succ n ih =>
              show zr_cn cr n + (if cr n = 0 then 1 else 0) ≤ n + 1
              by_cases z : cr n = 0
              · rw [if_pos z]; omega
              · rw [if_neg z]; omega
          have := this R
          omega
        refine zr_ouq_in (a := 1) (zi_crash I0 hr hc) (fun post hp => ?_) (fun post hp => ?_)
        · unfold wpX_crash
          refine zx_rep1 hr h2 ?_
          refine br_f (by decide) ?_
          refine zx_up1 hr h2 hup hc ?_
          refine br_f (by decide) (br_f hupe (nm_e ⟨S + 1, zx_lose_l (by omega) S 0 (by omega) _ _ (S + 1) (by omega) ?_⟩))
          exact ⟨K + 1, zx_crash_56 hr h2 h4 K 0 (by omega) _ _ _ _ (K + 1) (by omega) hp⟩
        · unfold wpY_crash
          refine zy_out0 (k := 0) hr (by omega) h2 h4 ?_
          refine br_t rfl ⟨i5, ?_⟩
          rw [er]
          refine br_t hc ⟨R + 1, zy_crash_28 h2 ?_ R 0 (by omega) (R + 1) (by omega)⟩
          refine br_f (fun z => ?_) ⟨i5, ?_⟩
          · have := zr_im (b := 1) z hcn5 (by omega)
            omega
          · rw [er]
            refine nm_r (e' := upd cr r 1) (by rw [zr_vb1]) ⟨S + 1, zy_crash_71 hsz hr S 0 (by omega) _ _ _ _ (S + 1) (by omega) hp⟩
    · refine zr_ouq_in (a := -3) I0 (fun post hp => ?_) (fun post hp => ?_)
      · unfold wpX_crash
        refine zx_rep1 hr h2 ?_
        refine br_f (by decide) ?_
        refine zx_up0 hr h2 hup hc ?_
        exact br_t rfl hp
      · unfold wpY_crash
        refine zy_out0 (k := 0) hr (by omega) h2 h4 ?_
        refine br_t rfl ⟨i5, ?_⟩
        rw [er]
        exact br_f hc hp
end
end
section
/-! a view is installed -/
theorem zr_vbr {c : Int32} (h : c = 0 ∨ c = 1) : vp_nar .boolean c = c := zr_vbc h
def zr_re (R i : Nat) (cr re : Nat → Int32) : Nat → Int32 := fun x => if i ≤ x ∧ x < R then cr x else re x
theorem zr_re_i {R i x : Nat} {cr re : Nat → Int32} (h : i ≤ x ∧ x < R) : zr_re R i cr re x = cr x := if_pos h
theorem zr_re_o {R i x : Nat} {cr re : Nat → Int32} (h : ¬ (i ≤ x ∧ x < R)) : zr_re R i cr re x = re x := if_neg h
theorem zr_re_e {R : Nat} {cr re : Nat → Int32} : zr_re R R cr re = re := by
  funext x
  exact zr_re_o (by omega)
theorem zr_re_s {R i : Nat} {cr re : Nat → Int32} (h : i < R) : zr_re R (i + 1) cr (upd re i (cr i)) = zr_re R i cr re := by
  funext x
  by_cases e : x = i
  · rw [zr_re_o (by omega), zr_s e, zr_re_i (by omega), e]
  · by_cases z : i ≤ x ∧ x < R
    · rw [zr_re_i z, zr_re_i (by omega)]
    · rw [zr_re_o z, zr_re_o (by omega), zr_n e]
section
variable {R K L S : Nat} {vw mb up : Int32} {ky sr vl bs sp an cs se la ho kn ga gs wi cr re go kw yg iz ms : Nat → Int32}
theorem zi_vw {vx : Int32} (I : zr_inv R K L S vw mb up ky sr vl bs sp an cs se la ho kn ga gs wi cr re go kw yg iz ms) : zr_inv R K L S vx mb up ky sr vl bs sp an cs se la ho kn ga gs wi cr re go kw yg iz ms := I
theorem zi_re (I : zr_inv R K L S vw mb up ky sr vl bs sp an cs se la ho kn ga gs wi cr re go kw yg iz ms) (he : mb = up) : zr_inv R K L S vw mb up ky sr vl bs sp an cs se la ho kn ga gs wi cr (zr_re R 0 cr re) go kw yg iz ms := by
  have I0 := I
  obtain ⟨hsz, hup, hmb, hsb, hut, huq, hla, hho, hkn, hkw, hga, hgs, hwi, hms, hne, how, hyu, han, ha3⟩ := I
  have hsz0 := hsz
  obtain ⟨h1, h2, h3, h4, h5, h6, h7⟩ := hsz0
  refine ⟨hsz, hup, ?_, ?_, hut, huq, hla, hho, hkn, hkw, hga, hgs, hwi, hms, hne, how, hyu, han, ha3⟩
  · intro i hi
    rw [he, hup i hi]
    constructor
    · rintro ⟨a, b⟩; exact ⟨a, by rw [zr_re_i (by omega)]; exact b⟩
    · rintro ⟨a, b⟩; rw [zr_re_i (by omega)] at b; exact ⟨a, b⟩
  · intro i hi
    rw [zr_re_i (by omega)]
    exact ⟨(hsb i hi).1, fun z => z⟩
theorem zi_install (I : zr_inv R K L S vw mb up ky sr vl bs sp an cs se la ho kn ga gs wi cr re go kw yg iz ms) : zr_inv R K L S vw up up ky sr vl bs sp an cs se la ho kn ga gs (zr_fl wi 0 75 0) cr (zr_re R 0 cr re) go kw yg iz (zr_fl ms 0 1800 0) := by
  have I0 := I
  obtain ⟨hsz, hup, hmb, hsb, hut, huq, hla, hho, hkn, hkw, hga, hgs, hwi, hms, hne, how, hyu, han, ha3⟩ := I
  have hsz0 := hsz
  obtain ⟨h1, h2, h3, h4, h5, h6, h7⟩ := hsz0
  refine ⟨hsz, hup, ?_, ?_, hut, huq, hla, hho, hkn, hkw, hga, hgs, ?_, ?_, hne, how, hyu, han, ha3⟩
  · intro i hi
    rw [hup i hi]
    constructor
    · rintro ⟨a, b⟩; exact ⟨a, by rw [zr_re_i (by omega)]; exact b⟩
    · rintro ⟨a, b⟩; rw [zr_re_i (by omega)] at b; exact ⟨a, b⟩
  · intro i hi
    rw [zr_re_i (by omega)]
    exact ⟨(hsb i hi).1, fun z => z⟩
  · intro c a b hc ha hb i hi
    rw [zr_fl_i (by omega)]
    constructor
    · intro z; exact absurd z zr_0
    · rintro ⟨z1, z2⟩
      exact absurd (zr_fl_i (by omega)) z2
  · intro c a b u hc ha hb hu
    exact Or.inl (zr_fl_i (by omega))
theorem zy_carry_l {r j : Nat} (hs : zr_sz R K L S) (hr : r < R) (hj : j < S) {post : SY → Prop} : ∀ (q i : Nat), i + q = R → ∀ iz : Nat → Int32,
    ∃ iz' : Nat → Int32, (∀ i', i' < R → (iz' ((r * 24 + j) * 5 + i') ≠ 0 ↔ (iz ((r * 24 + j) * 5 + i') ≠ 0 ∧ (i ≤ i' → re i' = 0)))) ∧ (∀ x, (x < (r * 24 + j) * 5 ∨ (r * 24 + j) * 5 + 5 ≤ x) → iz' x = iz x) ∧
      ∀ (post : SY → Prop) (n : Nat), q < n → wpY_finishIfComplete post (nI R, nI K, nI L, nI S, vw, ky, sr, vl, bs, an, cs, se, cr, re, go, kw, yg, iz', ms) (nI r) (nI j) → wY_carryOver_17 post (nI r) (nI j) (nI R) (nI K) (nI L) (nI S) vw n (nI i) ky sr vl bs an cs se cr re go kw yg iz ms := by
  obtain ⟨h1, h2, h3, h4, h5, h6, h7⟩ := hs
  intro q
  induction q with
  | zero =>
    intro i hi iz
    refine ⟨iz, fun i' hi' => ⟨fun z => ⟨z, fun y => by omega⟩, fun z => z.1⟩, fun x _ => rfl, fun post n hn hp => ?_⟩
    obtain ⟨n, rfl⟩ : ∃ m, n = m + 1 := ⟨n - 1, by omega⟩
    exact br_t (nI_le (by omega) (by omega)) hp
  | succ q ih =>
    intro i hi iz
    have e6 : (nI ((r * 24 + j) * 5 + i)).toNatClampNeg = (r * 24 + j) * 5 + i := nI_clamp (by omega)
    have i6 : vp_in (nI ((r * 24 + j) * 5 + i)) 600 := vp_in_nI (by omega) (by omega)
    by_cases hre : re i = 0
    · obtain ⟨iz', a1, a2, a3⟩ := ih (i + 1) (by omega) iz
      refine ⟨iz', fun i' hi' => ?_, a2, fun post n hn hp => ?_⟩
      · rw [a1 i' hi']
        refine ⟨fun z => ⟨z.1, fun y => ?_⟩, fun z => ⟨z.1, fun y => z.2 (by omega)⟩⟩
        by_cases e : i' = i
        · rw [e]; exact hre
        · exact z.2 (by omega)
      · obtain ⟨n, rfl⟩ : ∃ m, n = m + 1 := ⟨n - 1, by omega⟩
        refine br_f (nI_ge (by omega) (by omega)) ⟨vp_in_nI (by omega) (by omega), ?_⟩
        rw [nI_clamp (n := i) (by omega)]
        exact br_t hre (nm_r (nI_1 i) (a3 post n (by omega) hp))
    · obtain ⟨iz', a1, a2, a3⟩ := ih (i + 1) (by omega) (upd iz ((r * 24 + j) * 5 + i) 0)
      refine ⟨iz', fun i' hi' => ?_, fun x hx => (a2 x hx).trans (zr_n (by omega)), fun post n hn hp => ?_⟩
      · rw [a1 i' hi']
        by_cases e : i' = i
        · rw [zr_s (by rw [e])]
          exact ⟨fun z => absurd rfl z.1, fun z => absurd (z.2 (by omega)) (by rw [e]; exact hre)⟩
        · rw [zr_n (by omega)]
          exact ⟨fun z => ⟨z.1, fun y => z.2 (by omega)⟩, fun z => ⟨z.1, fun y => z.2 (by omega)⟩⟩
      · obtain ⟨n, rfl⟩ : ∃ m, n = m + 1 := ⟨n - 1, by omega⟩
        refine br_f (nI_ge (by omega) (by omega)) ⟨vp_in_nI (by omega) (by omega), ?_⟩
        rw [nI_clamp (n := i) (by omega), zr_24, zr_5, e6]
        exact br_f hre ⟨i6, nm_r (e' := upd iz ((r * 24 + j) * 5 + i) 0) (by rw [zr_vb0]) (nm_r (nI_1 i) (a3 post n (by omega) hp))⟩
theorem zo_carry {vy : Int32} {r k j : Nat} (I : zr_inv R K L S vw mb up ky sr vl bs sp an cs se la ho kn ga gs wi cr re go kw yg iz ms) (hr : r < R) (hk : k < K) (hj : j < S) (hg : ga (r * 8 + k) = nI j) (hc : cr r = 0) {G : Int32}
    (hG : (cs j = 0 ∧ G = (gs (r * 8 + k) &&& mb)) ∨ (¬ cs j = 0 ∧ G = ((1 : Int32) <<< (nI r &&& 31)))) :
    zr_ou R K L S vw mb up cr re vy (fun post => wpX_finishIfComplete post (nI R, nI K, nI L, nI S, vw, mb, up, ky, sr, vl, bs, sp, an, cs, se, la, ho, kn, ga, upd gs (r * 8 + k) G, wi) (nI r) (nI j) (nI (r * 8 + k))) (fun post => wpY_carryOver post (nI R, nI K, nI L, nI S, vy, ky, sr, vl, bs, an, cs, se, cr, re, go, kw, yg, iz, ms) (nI r) (nI j)) := by
  have I0 := I
  obtain ⟨hsz, hup, hmb, hsb, hut, huq, hla, hho, hkn, hkw, hga, hgs, hwi, hms, hne, how, hyu, han, ha3⟩ := I
  have hsz0 := hsz
  obtain ⟨h1, h2, h3, h4, h5, h6, h7⟩ := hsz0
  have ej : (nI j).toNatClampNeg = j := nI_clamp (by omega)
  have i24 : vp_in (nI j) 24 := vp_in_nI (by omega) (by omega)
  have hbits := (hgs r k hr hk).2 j hj hg
  rcases hG with ⟨hcs, rfl⟩ | ⟨hcs, rfl⟩
  · obtain ⟨iz', a1, a2, a3⟩ := zy_carry_l (vw := vy) (ky := ky) (sr := sr) (vl := vl) (bs := bs) (an := an) (cs := cs) (se := se) (cr := cr) (re := re) (go := go) (kw := kw) (yg := yg) (ms := ms) (post := fun _ => True) hsz hr hj R 0 (by omega) iz
    have I1 := zi_gse (G := gs (r * 8 + k) &&& mb) I0 hr hk hj hg (by
      intro i hi
      rw [zr_and, hbits i hi, hmb i hi]
      constructor
      · rintro ⟨⟨b1, b2⟩, _, b3⟩
        exact ⟨b1, (a1 i b1).mpr ⟨b2, fun _ => b3⟩⟩
      · rintro ⟨b1, b2⟩
        have := (a1 i b1).mp b2
        exact ⟨⟨b1, this.1⟩, b1, this.2 (by omega)⟩) a2
    obtain ⟨ky'', sr'', vl'', bs'', sp'', an'', cs'', se'', la'', ho'', kn'', ga'', gs'', wi'', go'', kw'', yg'', iz'', ms'', I2, hX2, hY2⟩ := zo_finc (vy := vy) I1 hr hk hj hg
    refine zr_ou_in I2 hX2 (fun post hp => ?_)
    refine ⟨i24, ?_⟩
    rw [ej]
    exact br_t hcs ⟨R + 1, a3 post (R + 1) (by omega) (hY2 _ hp)⟩
  · obtain ⟨iz1, b1, b2, b3⟩ := zy_onlySelf (iz := iz) (vw := vy) (ky := ky) (sr := sr) (vl := vl) (bs := bs) (an := an) (cs := cs) (se := se) (cr := cr) (re := re) (go := go) (kw := kw) (yg := yg) (ms := ms) hsz hr hj
    obtain ⟨iz', a1, a2, a3⟩ := zy_carry_l (vw := vy) (ky := ky) (sr := sr) (vl := vl) (bs := bs) (an := an) (cs := cs) (se := se) (cr := cr) (re := re) (go := go) (kw := kw) (yg := yg) (ms := ms) (post := fun _ => True) hsz hr hj R 0 (by omega) iz1
    have I1 := zi_gse (G := (1 : Int32) <<< (nI r &&& 31)) I0 hr hk hj hg (by
      intro i hi
      rw [zr_sl (by omega) hi]
      constructor
      · intro e
        refine ⟨by omega, (a1 i (by omega)).mpr ⟨(b1 i (by omega)).mpr e, fun _ => ?_⟩⟩
        rw [e]
        exact (hsb r hr).2 hc
      · rintro ⟨c1, c2⟩
        exact (b1 i c1).mp ((a1 i c1).mp c2).1) (fun x hx => (a2 x hx).trans (b2 x hx))
    obtain ⟨ky'', sr'', vl'', bs'', sp'', an'', cs'', se'', la'', ho'', kn'', ga'', gs'', wi'', go'', kw'', yg'', iz'', ms'', I2, hX2, hY2⟩ := zo_finc (vy := vy) I1 hr hk hj hg
    refine zr_ou_in I2 hX2 (fun post hp => ?_)
    refine ⟨i24, ?_⟩
    rw [ej]
    refine br_f hcs ?_
    refine b3 _ ?_
    exact ⟨R + 1, a3 post (R + 1) (by omega) (hY2 _ hp)⟩
theorem zo_adapt_l {vy : Int32} {r : Nat} (hr : r < R) (hc : cr r = 0) : ∀ (q k : Nat), k + q = K → ∀ (ky sr vl bs sp an cs se la ho kn ga gs wi go kw yg iz ms : Nat → Int32), zr_inv R K L S vw mb up ky sr vl bs sp an cs se la ho kn ga gs wi cr re go kw yg iz ms → ∃ (ky' sr' vl' bs' sp' an' cs' se' la' ho' kn' ga' gs' wi' go' kw' yg' iz' ms' : Nat → Int32), zr_inv R K L S vw mb up ky' sr' vl' bs' sp' an' cs' se' la' ho' kn' ga' gs' wi' cr re go' kw' yg' iz' ms' ∧
    (∀ (post : SX → Prop) (n : Nat), q < n → post (nI R, nI K, nI L, nI S, vw, mb, up, ky', sr', vl', bs', sp', an', cs', se', la', ho', kn', ga', gs', wi') → wX_adaptGatherings_2 post (nI r) n (nI k) (nI R) (nI K) (nI L) (nI S) vw mb up ky sr vl bs sp an cs se la ho kn ga gs wi) ∧
    (∀ (post : Int32 → SY → Prop) (J : Int32 → Int32 → Int32 → Int32 → Int32 → Int32 → (Nat → Int32) → (Nat → Int32) → (Nat → Int32) → (Nat → Int32) → (Nat → Int32) → (Nat → Int32) → (Nat → Int32) → (Nat → Int32) → (Nat → Int32) → (Nat → Int32) → (Nat → Int32) → (Nat → Int32) → (Nat → Int32) → (Nat → Int32) → Prop) (n : Nat), q < n → J (nI (r + 1)) (nI R) (nI K) (nI L) (nI S) vy ky' sr' vl' bs' an' cs' se' cr re go' kw' yg' iz' ms' → wY_install_91 post J (nI r) n (nI k) (nI R) (nI K) (nI L) (nI S) vy ky sr vl bs an cs se cr re go kw yg iz ms) := by
  intro q
  induction q with
  | zero =>
    intro k hk ky sr vl bs sp an cs se la ho kn ga gs wi go kw yg iz ms I
    obtain ⟨h1, h2, h3, h4, h5, h6, h7⟩ := I.1
    refine ⟨ky, sr, vl, bs, sp, an, cs, se, la, ho, kn, ga, gs, wi, go, kw, yg, iz, ms, I, fun post n hn hp => ?_, fun post J n hn hp => ?_⟩
    · obtain ⟨n, rfl⟩ : ∃ m, n = m + 1 := ⟨n - 1, by omega⟩
      exact br_t (nI_le (by omega) (by omega)) hp
    · obtain ⟨n, rfl⟩ : ∃ m, n = m + 1 := ⟨n - 1, by omega⟩
      exact br_t (nI_le (by omega) (by omega)) (nm_r (nI_1 r) hp)
  | succ q ih =>
    intro k hk ky sr vl bs sp an cs se la ho kn ga gs wi go kw yg iz ms I
    have I0 := I
    obtain ⟨hsz, hup, hmb, hsb, hut, huq, hla, hho, hkn, hkw, hga, hgs, hwi, hms, hne, how, hyu, han, ha3⟩ := I
    have hsz0 := hsz
    obtain ⟨h1, h2, h3, h4, h5, h6, h7⟩ := hsz0
    have e8 : (nI (r * 8 + k)).toNatClampNeg = r * 8 + k := nI_clamp (by omega)
    have i8 : vp_in (nI (r * 8 + k)) 40 := vp_in_nI (by omega) (by omega)
    have er : (nI r).toNatClampNeg = r := nI_clamp (by omega)
    have i5 : vp_in (nI r) 5 := vp_in_nI (by omega) (by omega)
    have hkK : k < K := by omega
    rcases hga r k hr hkK with hg | ⟨j, hj, eg, hkj, hyj, hun⟩
    · obtain ⟨ky', sr', vl', bs', sp', an', cs', se', la', ho', kn', ga', gs', wi', go', kw', yg', iz', ms', I', hX', hY'⟩ := ih (k + 1) (by omega) ky sr vl bs sp an cs se la ho kn ga gs wi go kw yg iz ms I0
      refine ⟨ky', sr', vl', bs', sp', an', cs', se', la', ho', kn', ga', gs', wi', go', kw', yg', iz', ms', I', fun post n hn hp => ?_, fun post J n hn hp => ?_⟩
      · obtain ⟨n, rfl⟩ : ∃ m, n = m + 1 := ⟨n - 1, by omega⟩
        refine br_f (nI_ge (by omega) (by omega)) (nm_r (zr_8 r k) ⟨i8, ?_⟩)
        rw [e8]
        exact nm_r hg.1 (br_t rfl (nm_r (nI_1 k) (hX' post n (by omega) hp)))
      · obtain ⟨n, rfl⟩ : ∃ m, n = m + 1 := ⟨n - 1, by omega⟩
        refine br_f (nI_ge (by omega) (by omega)) ⟨i5, ?_⟩
        rw [er]
        refine br_t hc ?_
        refine zy_gathersFor hsz hr (hga r k hr hkK) ?_
        exact br_t hg.1 (nm_r (nI_1 k) (hY' post J n (by omega) hp))
    · have ej : (nI j).toNatClampNeg = j := nI_clamp (by omega)
      have i24 : vp_in (nI j) 24 := vp_in_nI (by omega) (by omega)
      have hne1 : ¬ nI j = -1 := zr_ne1 (by omega)
      obtain ⟨G, hG⟩ : ∃ G : Int32, (cs j = 0 ∧ G = (gs (r * 8 + k) &&& mb)) ∨ (¬ cs j = 0 ∧ G = ((1 : Int32) <<< (nI r &&& 31))) := by
        by_cases z : cs j = 0
        · exact ⟨_, Or.inl ⟨z, rfl⟩⟩
        · exact ⟨_, Or.inr ⟨z, rfl⟩⟩
      obtain ⟨ky'', sr'', vl'', bs'', sp'', an'', cs'', se'', la'', ho'', kn'', ga'', gs'', wi'', go'', kw'', yg'', iz'', ms'', I2, hX2, hY2⟩ := zo_carry (vy := vy) I0 hr hkK hj eg hc hG
      obtain ⟨ky', sr', vl', bs', sp', an', cs', se', la', ho', kn', ga', gs', wi', go', kw', yg', iz', ms', I', hX', hY'⟩ := ih (k + 1) (by omega) ky'' sr'' vl'' bs'' sp'' an'' cs'' se'' la'' ho'' kn'' ga'' gs'' wi'' go'' kw'' yg'' iz'' ms'' I2
      refine ⟨ky', sr', vl', bs', sp', an', cs', se', la', ho', kn', ga', gs', wi', go', kw', yg', iz', ms', I', fun post n hn hp => ?_, fun post J n hn hp => ?_⟩
      · obtain ⟨n, rfl⟩ : ∃ m, n = m + 1 := ⟨n - 1, by omega⟩
        refine br_f (nI_ge (by omega) (by omega)) (nm_r (zr_8 r k) ⟨i8, ?_⟩)
        rw [e8]
        refine nm_r eg (br_f hne1 ⟨i24, ?_⟩)
        rw [ej]
        have tail : wX_adaptGatherings_63 post (wX_adaptGatherings_2 post (nI r) n) (nI r) (nI k) (nI (r * 8 + k)) (nI j) G (nI (r * 8 + k)) (nI R) (nI K) (nI L) (nI S) vw mb up ky sr vl bs sp an cs se la ho kn ga gs wi := by
          refine ⟨i8, ?_⟩
          rw [e8]
          refine nm_e ?_
          refine hX2 _ ?_
          exact nm_r (nI_1 k) (hX' post n (by omega) hp)
        rcases hG with ⟨z, e⟩ | ⟨z, e⟩
        · rw [e] at tail
          exact br_t z ⟨i8, tail⟩
        · rw [e] at tail
          exact br_f z tail
      · obtain ⟨n, rfl⟩ : ∃ m, n = m + 1 := ⟨n - 1, by omega⟩
        refine br_f (nI_ge (by omega) (by omega)) ⟨i5, ?_⟩
        rw [er]
        refine br_t hc ?_
        refine zy_gathersFor hsz hr (hga r k hr hkK) ?_
        rw [eg]
        refine br_f hne1 ?_
        refine hY2 _ ?_
        exact nm_r (nI_1 k) (hY' post J n (by omega) hp)
theorem zy_skip91 {r : Nat} (hr : r < 5) (hK : K ≤ 8) (hc : ¬ cr r = 0) {post : Int32 → SY → Prop} (J : Int32 → Int32 → Int32 → Int32 → Int32 → Int32 → (Nat → Int32) → (Nat → Int32) → (Nat → Int32) → (Nat → Int32) → (Nat → Int32) → (Nat → Int32) → (Nat → Int32) → (Nat → Int32) → (Nat → Int32) → (Nat → Int32) → (Nat → Int32) → (Nat → Int32) → (Nat → Int32) → (Nat → Int32) → Prop) (hJ : J (nI (r + 1)) (nI R) (nI K) (nI L) (nI S) vw ky sr vl bs an cs se cr re go kw yg iz ms) : ∀ (q k : Nat), k + q = K → ∀ n, q < n → wY_install_91 post J (nI r) n (nI k) (nI R) (nI K) (nI L) (nI S) vw ky sr vl bs an cs se cr re go kw yg iz ms := by
  intro q
  induction q with
  | zero =>
    intro k hk n hn
    obtain ⟨n, rfl⟩ : ∃ m, n = m + 1 := ⟨n - 1, by omega⟩
    exact br_t (nI_le (by omega) (by omega)) (nm_r (nI_1 r) hJ)
  | succ q ih =>
    intro k hk n hn
    obtain ⟨n, rfl⟩ : ∃ m, n = m + 1 := ⟨n - 1, by omega⟩
    refine br_f (nI_ge (by omega) (by omega)) ⟨vp_in_nI (by omega) (by omega), ?_⟩
    rw [nI_clamp (n := r) (by omega)]
    exact br_f hc (br_t rfl (nm_r (nI_1 k) (ih (k + 1) (by omega) n (by omega))))
theorem zo_inst_l {vy : Int32} : ∀ (q r : Nat), r + q = R → ∀ (ky sr vl bs sp an cs se la ho kn ga gs wi go kw yg iz ms : Nat → Int32), zr_inv R K L S vw mb up ky sr vl bs sp an cs se la ho kn ga gs wi cr re go kw yg iz ms → ∃ (ky' sr' vl' bs' sp' an' cs' se' la' ho' kn' ga' gs' wi' go' kw' yg' iz' ms' : Nat → Int32), zr_inv R K L S vw mb up ky' sr' vl' bs' sp' an' cs' se' la' ho' kn' ga' gs' wi' cr re go' kw' yg' iz' ms' ∧
    (∀ (post : Int32 → SX → Prop) (n : Nat), q < n → post vw (nI R, nI K, nI L, nI S, vw, mb, up, ky', sr', vl', bs', sp', an', cs', se', la', ho', kn', ga', gs', wi') → wX_install_55 post n (nI r) (nI R) (nI K) (nI L) (nI S) vw mb up ky sr vl bs sp an cs se la ho kn ga gs wi) ∧
    (∀ (post : Int32 → SY → Prop) (n : Nat), q < n → post (vy + 1) (nI R, nI K, nI L, nI S, vy + 1, ky', sr', vl', bs', an', cs', se', cr, re, go', kw', yg', iz', ms') → wY_install_81 post n (nI r) (nI R) (nI K) (nI L) (nI S) vy ky sr vl bs an cs se cr re go kw yg iz ms) := by
  intro q
  induction q with
  | zero =>
    intro r hr ky sr vl bs sp an cs se la ho kn ga gs wi go kw yg iz ms I
    obtain ⟨h1, h2, h3, h4, h5, h6, h7⟩ := I.1
    refine ⟨ky, sr, vl, bs, sp, an, cs, se, la, ho, kn, ga, gs, wi, go, kw, yg, iz, ms, I, fun post n hn hp => ?_, fun post n hn hp => ?_⟩
    · obtain ⟨n, rfl⟩ : ∃ m, n = m + 1 := ⟨n - 1, by omega⟩
      exact br_t (nI_le (by omega) (by omega)) hp
    · obtain ⟨n, rfl⟩ : ∃ m, n = m + 1 := ⟨n - 1, by omega⟩
      exact br_t (nI_le (by omega) (by omega)) (nm_e hp)
  | succ q ih =>
    intro r hr ky sr vl bs sp an cs se la ho kn ga gs wi go kw yg iz ms I
    have hup := I.2.1
    obtain ⟨h1, h2, h3, h4, h5, h6, h7⟩ := I.1
    by_cases hc : cr r = 0
    · obtain ⟨ky'', sr'', vl'', bs'', sp'', an'', cs'', se'', la'', ho'', kn'', ga'', gs'', wi'', go'', kw'', yg'', iz'', ms'', I2, hX2, hY2⟩ := zo_adapt_l (vy := vy) (r := r) (by omega) hc K 0 (by omega) ky sr vl bs sp an cs se la ho kn ga gs wi go kw yg iz ms I
      obtain ⟨ky', sr', vl', bs', sp', an', cs', se', la', ho', kn', ga', gs', wi', go', kw', yg', iz', ms', I', hX', hY'⟩ := ih (r + 1) (by omega) ky'' sr'' vl'' bs'' sp'' an'' cs'' se'' la'' ho'' kn'' ga'' gs'' wi'' go'' kw'' yg'' iz'' ms'' I2
      refine ⟨ky', sr', vl', bs', sp', an', cs', se', la', ho', kn', ga', gs', wi', go', kw', yg', iz', ms', I', fun post n hn hp => ?_, fun post n hn hp => ?_⟩
      · obtain ⟨n, rfl⟩ : ∃ m, n = m + 1 := ⟨n - 1, by omega⟩
        refine br_f (nI_ge (by omega) (by omega)) ?_
        refine zx_up1 (by omega) h2 hup hc ?_
        refine br_f (by decide) ⟨K + 1, hX2 _ (K + 1) (by omega) ?_⟩
        exact nm_r (nI_1 r) (hX' post n (by omega) hp)
      · obtain ⟨n, rfl⟩ : ∃ m, n = m + 1 := ⟨n - 1, by omega⟩
        exact br_f (nI_ge (by omega) (by omega)) ⟨K + 1, hY2 post _ (K + 1) (by omega) (hY' post n (by omega) hp)⟩
    · obtain ⟨ky', sr', vl', bs', sp', an', cs', se', la', ho', kn', ga', gs', wi', go', kw', yg', iz', ms', I', hX', hY'⟩ := ih (r + 1) (by omega) ky sr vl bs sp an cs se la ho kn ga gs wi go kw yg iz ms I
      refine ⟨ky', sr', vl', bs', sp', an', cs', se', la', ho', kn', ga', gs', wi', go', kw', yg', iz', ms', I', fun post n hn hp => ?_, fun post n hn hp => ?_⟩
      · obtain ⟨n, rfl⟩ : ∃ m, n = m + 1 := ⟨n - 1, by omega⟩
        refine br_f (nI_ge (by omega) (by omega)) ?_
        refine zx_up0 (by omega) h2 hup hc ?_
        exact br_t rfl (nm_r (nI_1 r) (hX' post n (by omega) hp))
      · obtain ⟨n, rfl⟩ : ∃ m, n = m + 1 := ⟨n - 1, by omega⟩
        exact br_f (nI_ge (by omega) (by omega)) ⟨K + 1, zy_skip91 (by omega) h4 hc _ (hY' post n (by omega) hp) K 0 (by omega) (K + 1) (by omega)⟩
theorem zx_inst34 {post : Int32 → SX → Prop} : ∀ (q i : Nat), i + q = 75 → ∀ (wi : Nat → Int32) (n : Nat), q < n → (∃ n55 : Nat, wX_install_55 post n55 0 (nI R) (nI K) (nI L) (nI S) vw mb up ky sr vl bs sp an cs se la ho kn ga gs (zr_fl wi i 75 0)) → wX_install_34 post (nI R) (nI K) (nI L) (nI S) vw mb up n (nI i) ky sr vl bs sp an cs se la ho kn ga gs wi := by
  intro q
  induction q with
  | zero =>
    intro i hi wi n hn hp
    obtain ⟨n, rfl⟩ : ∃ m, n = m + 1 := ⟨n - 1, by omega⟩
    rw [show i = 75 from by omega, zr_fl_e] at hp
    exact br_t (nI_le (a := 75) (by omega) (by omega)) hp
  | succ q ih =>
    intro i hi wi n hn hp
    obtain ⟨n, rfl⟩ : ∃ m, n = m + 1 := ⟨n - 1, by omega⟩
    refine br_f (nI_ge (b := 75) (by omega) (by omega)) ⟨vp_in_nI (by omega) (by omega), ?_⟩
    rw [nI_clamp (n := i) (by omega)]
    refine nm_e (nm_r (nI_1 i) (ih (i + 1) (by omega) _ n (by omega) ?_))
    rw [zr_fl_s (by omega)]
    exact hp
theorem zy_inst59 {post : Int32 → SY → Prop} : ∀ (q i : Nat), i + q = 1800 → ∀ (ms : Nat → Int32) (n : Nat), q < n → (∃ n81 : Nat, wY_install_81 post n81 0 (nI R) (nI K) (nI L) (nI S) vw ky sr vl bs an cs se cr re go kw yg iz (zr_fl ms i 1800 0)) → wY_install_59 post (nI R) (nI K) (nI L) (nI S) vw n (nI i) ky sr vl bs an cs se cr re go kw yg iz ms := by
  intro q
  induction q with
  | zero =>
    intro i hi ms n hn hp
    obtain ⟨n, rfl⟩ : ∃ m, n = m + 1 := ⟨n - 1, by omega⟩
    rw [show i = 1800 from by omega, zr_fl_e] at hp
    exact br_t (nI_le (a := 1800) (by omega) (by omega)) hp
  | succ q ih =>
    intro i hi ms n hn hp
    obtain ⟨n, rfl⟩ : ∃ m, n = m + 1 := ⟨n - 1, by omega⟩
    refine br_f (nI_ge (b := 1800) (by omega) (by omega)) ⟨vp_in_nI (by omega) (by omega), ?_⟩
    rw [nI_clamp (n := i) (by omega)]
    refine nm_r (e' := upd ms i 0) (by rw [zr_vb0]) (nm_r (nI_1 i) (ih (i + 1) (by omega) _ n (by omega) ?_))
    rw [zr_fl_s (by omega)]
    exact hp
theorem zy_inst4 (hR : R ≤ 5) (hcr : ∀ i, i < R → cr i = 0 ∨ cr i = 1) {post : Int32 → SY → Prop} : ∀ (q i : Nat), i + q = R → ∀ (re : Nat → Int32) (x1 : Int32) (n : Nat), q < n →
    ((x1 = 0 ∨ ∃ i', i ≤ i' ∧ i' < R ∧ ¬ cr i' = 0 ∧ re i' = 0) → ∃ n59 : Nat, wY_install_59 post (nI R) (nI K) (nI L) (nI S) vw n59 0 ky sr vl bs an cs se cr (zr_re R i cr re) go kw yg iz ms) →
    (¬ (x1 = 0 ∨ ∃ i', i ≤ i' ∧ i' < R ∧ ¬ cr i' = 0 ∧ re i' = 0) → post (-10) (nI R, nI K, nI L, nI S, vw, ky, sr, vl, bs, an, cs, se, cr, zr_re R i cr re, go, kw, yg, iz, ms)) → wY_install_4 post (nI R) (nI K) (nI L) (nI S) vw n x1 (nI i) ky sr vl bs an cs se cr re go kw yg iz ms := by
  intro q
  induction q with
  | zero =>
    intro i hi re x1 n hn H0 H1
    obtain ⟨n, rfl⟩ : ∃ m, n = m + 1 := ⟨n - 1, by omega⟩
    rw [show i = R from by omega, zr_re_e] at H0 H1
    refine br_t (nI_le (by omega) (by omega)) (br_c (fun z => H0 (Or.inl z)) (fun z => H1 ?_))
    rintro (y | ⟨i', a, b, _⟩)
    · exact z y
    · omega
  | succ q ih =>
    intro i hi re x1 n hn H0 H1
    obtain ⟨n, rfl⟩ : ∃ m, n = m + 1 := ⟨n - 1, by omega⟩
    have ei : (nI i).toNatClampNeg = i := nI_clamp (by omega)
    have i5 : vp_in (nI i) 5 := vp_in_nI (by omega) (by omega)
    have tail : ∀ x : Int32, ((x = 0 ∨ ∃ i', i + 1 ≤ i' ∧ i' < R ∧ ¬ cr i' = 0 ∧ re i' = 0) ↔ (x1 = 0 ∨ ∃ i', i ≤ i' ∧ i' < R ∧ ¬ cr i' = 0 ∧ re i' = 0)) → wY_install_32 post (wY_install_4 post (nI R) (nI K) (nI L) (nI S) vw n) x (nI i) (nI R) (nI K) (nI L) (nI S) vw ky sr vl bs an cs se cr re go kw yg iz ms := by
      intro x hx
      refine ⟨i5, i5, ?_⟩
      rw [ei]
      refine nm_r (e' := upd re i (cr i)) (by rw [zr_vbr (hcr i (by omega))]) (nm_r (nI_1 i) ?_)
      have hq : (x = 0 ∨ ∃ i', i + 1 ≤ i' ∧ i' < R ∧ ¬ cr i' = 0 ∧ upd re i (cr i) i' = 0) ↔ (x = 0 ∨ ∃ i', i + 1 ≤ i' ∧ i' < R ∧ ¬ cr i' = 0 ∧ re i' = 0) := by
        constructor
        · rintro (z | ⟨i', a, b, c, d⟩)
          · exact Or.inl z
          · rw [zr_n (by omega)] at d
            exact Or.inr ⟨i', a, b, c, d⟩
        · rintro (z | ⟨i', a, b, c, d⟩)
          · exact Or.inl z
          · exact Or.inr ⟨i', a, b, c, by rw [zr_n (by omega)]; exact d⟩
      refine ih (i + 1) (by omega) _ x n (by omega) (fun z => ?_) (fun z => ?_)
      · rw [zr_re_s (by omega)]
        exact H0 (hx.mp (hq.mp z))
      · rw [zr_re_s (by omega)]
        exact H1 (fun y => z (hq.mpr (hx.mpr y)))
    have same : (cr i = 0 ∨ ¬ re i = 0) → ((x1 = 0 ∨ ∃ i', i + 1 ≤ i' ∧ i' < R ∧ ¬ cr i' = 0 ∧ re i' = 0) ↔ (x1 = 0 ∨ ∃ i', i ≤ i' ∧ i' < R ∧ ¬ cr i' = 0 ∧ re i' = 0)) := by
      intro h
      constructor
      · rintro (z | ⟨i', a, b⟩)
        · exact Or.inl z
        · exact Or.inr ⟨i', by omega, b⟩
      · rintro (z | ⟨i', a, b, c, d⟩)
        · exact Or.inl z
        · by_cases e : i' = i
          · subst e
            rcases h with h | h
            · exact absurd h c
            · exact absurd d h
          · exact Or.inr ⟨i', by omega, b, c, d⟩
    refine br_f (nI_ge (by omega) (by omega)) ⟨i5, ?_⟩
    rw [ei]
    refine br_c (fun z => tail x1 (same (Or.inl z))) (fun z => ⟨i5, br_c (fun y => tail 0 ?_) (fun y => tail x1 (same (Or.inr y)))⟩)
    exact ⟨fun _ => Or.inr ⟨i, by omega, by omega, z, y⟩, fun _ => Or.inl rfl⟩
theorem zo_install (I : zr_inv R K L S vw mb up ky sr vl bs sp an cs se la ho kn ga gs wi cr re go kw yg iz ms) : zr_ouq zr_all (fun post => wpX_install post (nI R, nI K, nI L, nI S, vw, mb, up, ky, sr, vl, bs, sp, an, cs, se, la, ho, kn, ga, gs, wi)) (fun post => wpY_install post (nI R, nI K, nI L, nI S, vw, ky, sr, vl, bs, an, cs, se, cr, re, go, kw, yg, iz, ms)) := by
  have I0 := I
  obtain ⟨hsz, hup, hmb, hsb, hut, huq, hla, hho, hkn, hkw, hga, hgs, hwi, hms, hne, how, hyu, han, ha3⟩ := I
  have hsz0 := hsz
  obtain ⟨h1, h2, h3, h4, h5, h6, h7⟩ := hsz0
  by_cases he : mb = up
  · refine zr_ouq_in (a := -10) (zi_re I0 he) (fun post hp => br_t he hp) (fun post hp => ?_)
    refine ⟨R + 1, zy_inst4 h2 (fun i hi => (hsb i hi).1) R 0 (by omega) re 1 (R + 1) (by omega) (fun z => ?_) (fun _ => hp)⟩
    rcases z with z | ⟨i', _, b, c, d⟩
    · exact absurd z zr_01
    · have := (hmb i' (by omega)).mpr ⟨b, d⟩
      rw [he] at this
      exact absurd ((hup i' (by omega)).mp this).2 c
  · have hex : ∃ i', 0 ≤ i' ∧ i' < R ∧ ¬ cr i' = 0 ∧ re i' = 0 := by
      apply Classical.byContradiction
      intro z
      apply he
      apply zr_bx
      intro i hi
      rw [hmb i hi, hup i hi]
      constructor
      · rintro ⟨a, b⟩
        refine ⟨a, ?_⟩
        apply Classical.byContradiction
        intro y
        exact z ⟨i, by omega, a, y, b⟩
      · rintro ⟨a, b⟩
        exact ⟨a, (hsb i a).2 b⟩
    have I1 : zr_inv R K L S (vw + 1) up up ky sr vl bs sp an cs se la ho kn ga gs (zr_fl wi 0 75 0) cr (zr_re R 0 cr re) go kw yg iz (zr_fl ms 0 1800 0) := zi_vw (zi_install I0)
    obtain ⟨ky', sr', vl', bs', sp', an', cs', se', la', ho', kn', ga', gs', wi', go', kw', yg', iz', ms', I', hX', hY'⟩ := zo_inst_l (vy := vw) R 0 (by omega) ky sr vl bs sp an cs se la ho kn ga gs (zr_fl wi 0 75 0) go kw yg iz (zr_fl ms 0 1800 0) I1
    refine zr_ouq_in (a := vw + 1) I' (fun post hp => br_f he (nm_e ⟨76, zx_inst34 75 0 (by omega) wi 76 (by omega) ⟨R + 1, hX' post (R + 1) (by omega) hp⟩⟩)) (fun post hp => ?_)
    refine ⟨R + 1, zy_inst4 h2 (fun i hi => (hsb i hi).1) R 0 (by omega) re 1 (R + 1) (by omega) (fun _ => ?_) (fun z => absurd (Or.inr hex) z)⟩
    exact ⟨1801, zy_inst59 1800 0 (by omega) ms 1801 (by omega) ⟨R + 1, hY' post (R + 1) (by omega) hp⟩⟩
end
end
section
/-! the constructors -/
theorem zr_clamp (p : Int32) (lo hi : Nat) (h : lo ≤ hi) (hhi : hi < 2 ^ 31) : ∃ n, lo ≤ n ∧ n ≤ hi ∧ ∀ A : Int32 → Prop, A (nI n) → ((nI lo ≤ p → ((p ≤ nI hi → A p) ∧ (¬ p ≤ nI hi → A (nI hi)))) ∧ (¬ nI lo ≤ p → A (nI lo))) := by
  by_cases h1 : nI lo ≤ p
  · have h0 : ¬ p < 0 := by
      intro z
      have a := nI_pos' (n := lo) (by omega)
      exact Int32.not_lt.mpr (Int32.le_trans a h1) z
    obtain ⟨j, hj, rfl⟩ := nI_of h0
    rw [nI_leI (by omega) (by omega)] at h1
    by_cases h2 : j ≤ hi
    · exact ⟨j, h1, h2, fun A hA => br_t (nI_le h1 (by omega)) (br_t (nI_le h2 (by omega)) hA)⟩
    · exact ⟨hi, h, Nat.le_refl _, fun A hA => br_t (nI_le h1 (by omega)) (br_f (nI_ge (by omega) (by omega)) hA)⟩
  · exact ⟨lo, Nat.le_refl _, h, fun A hA => br_f h1 hA⟩
theorem zr_mem : ∀ R, R < 6 → ∀ i, i < 32 → bt (((1 : Int32) <<< (nI R &&& 31)) - 1) i = decide (i < R) := by decide +kernel
section
variable {R K L S : Nat} {vw mb up : Int32} {ky sr vl bs sp an cs se la ho kn ga gs wi cr re go kw yg iz ms : Nat → Int32}
theorem zx_clamp {p a1 a2 a3 a4 a5 a6 a7 : Int32} {lo hi n : Nat} (hA : ∀ A : Int32 → Prop, A (nI n) → ((nI lo ≤ p → ((p ≤ nI hi → A p) ∧ (¬ p ≤ nI hi → A (nI hi)))) ∧ (¬ nI lo ≤ p → A (nI lo)))) {post : Int32 → Prop} (h : post (nI n)) :
    wpX_clamp post (a1, a2, a3, a4, a5, a6, a7, ky, sr, vl, bs, sp, an, cs, se, la, ho, kn, ga, gs, wi) p (nI lo) (nI hi) := hA post h
theorem zx_init199 {post : SX → Prop} : ∀ (q i : Nat), i + q = 40 → ∀ (ho kn ga gs : Nat → Int32) (n : Nat), q < n → post (nI R, nI K, nI L, nI S, vw, mb, up, ky, sr, vl, bs, sp, an, cs, se, la, zr_fl ho i 40 (-1), zr_fl kn i 40 1, zr_fl ga i 40 (-1), zr_fl gs i 40 0, wi) → wX_init_199 post n (nI i) (nI R) (nI K) (nI L) (nI S) vw mb up ky sr vl bs sp an cs se la ho kn ga gs wi := by
  intro q
  induction q with
  | zero =>
    intro i hi ho kn ga gs n hn hp
    obtain ⟨n, rfl⟩ : ∃ m, n = m + 1 := ⟨n - 1, by omega⟩
    rw [show i = 40 from by omega, zr_fl_e, zr_fl_e, zr_fl_e, zr_fl_e] at hp
    exact br_t (nI_le (a := 40) (by omega) (by omega)) hp
  | succ q ih =>
    intro i hi ho kn ga gs n hn hp
    obtain ⟨n, rfl⟩ : ∃ m, n = m + 1 := ⟨n - 1, by omega⟩
    refine br_f (nI_ge (b := 40) (by omega) (by omega)) ?_
    refine zx_reset (by omega) ?_
    refine nm_r (nI_1 i) (ih (i + 1) (by omega) _ _ _ _ n (by omega) ?_)
    rw [zr_fl_s (by omega), zr_fl_s (by omega), zr_fl_s (by omega), zr_fl_s (by omega)]
    exact hp
theorem zx_init175 {post : SX → Prop} : ∀ (q i : Nat), i + q = 8 → ∀ (la : Nat → Int32) (n : Nat), q < n → (∃ n199 : Nat, wX_init_199 post n199 0 (nI R) (nI K) (nI L) (nI S) vw mb up ky sr vl bs sp an cs se (zr_fl la i 8 (-1)) ho kn ga gs wi) → wX_init_175 post (nI R) (nI K) (nI L) (nI S) vw mb up n (nI i) ky sr vl bs sp an cs se la ho kn ga gs wi := by
  intro q
  induction q with
  | zero =>
    intro i hi la n hn hp
    obtain ⟨n, rfl⟩ : ∃ m, n = m + 1 := ⟨n - 1, by omega⟩
    rw [show i = 8 from by omega, zr_fl_e] at hp
    exact br_t (nI_le (a := 8) (by omega) (by omega)) hp
  | succ q ih =>
    intro i hi la n hn hp
    obtain ⟨n, rfl⟩ : ∃ m, n = m + 1 := ⟨n - 1, by omega⟩
    refine br_f (nI_ge (b := 8) (by omega) (by omega)) ⟨vp_in_nI (by omega) (by omega), ?_⟩
    rw [nI_clamp (n := i) (by omega)]
    refine nm_e (nm_r (nI_1 i) (ih (i + 1) (by omega) _ n (by omega) ?_))
    rw [zr_fl_s (by omega)]
    exact hp
theorem zi_init (h1 : 3 ≤ R) (h2 : R ≤ 5) (h3 : 1 ≤ K) (h4 : K ≤ 8) (h5 : 8 ≤ L) (h6 : L ≤ 24) : zr_inv R K L 0 0 (((1 : Int32) <<< (nI R &&& 31)) - 1) (((1 : Int32) <<< (nI R &&& 31)) - 1) (fun _ => 0) (fun _ => 0) (fun _ => 0) (fun _ => 0) (fun _ => 0) (fun _ => 0) (fun _ => 0) (fun _ => 0) (zr_fl (fun _ => 0) 0 8 (-1)) (zr_fl (fun _ => 0) 0 40 (-1)) (zr_fl (fun _ => 0) 0 40 1) (zr_fl (fun _ => 0) 0 40 (-1)) (zr_fl (fun _ => 0) 0 40 0) (fun _ => 0) (fun _ => 0) (fun _ => 0) (fun _ => 0) (fun _ => 0) (fun _ => 0) (fun _ => 0) (fun _ => 0) := by
  have hb : zr_bs R (((1 : Int32) <<< (nI R &&& 31)) - 1) (fun _ => 0) := by
    intro i hi
    rw [zr_mem R (by omega) i hi, decide_eq_true_eq]
    exact ⟨fun z => ⟨z, rfl⟩, fun z => z.1⟩
  refine ⟨⟨h1, h2, h3, h4, h5, h6, by omega⟩, hb, hb, fun i hi => ⟨Or.inl rfl, fun _ => rfl⟩, ⟨fun _ => 0, fun _ => 0, fun _ => 0, fun u hu => by omega⟩, fun u w hu => by omega, ?_, ?_, ?_, fun r u hr hu => by omega, ?_, ?_, ?_, ?_, ?_, fun u r hu => by omega, fun r u hr hu => by omega, fun u r hu => by omega, fun u r k hu => by omega⟩
  · intro k hk
    exact Or.inl ⟨zr_fl_i (by omega), fun u hu => by omega⟩
  · intro r k hr hk
    exact Or.inl ⟨zr_fl_i (by omega), fun u hu => by omega⟩
  · intro r k hr hk
    exact ⟨fun _ => by rw [zr_fl_i (by omega)]; exact zr_01, fun j hj => by omega⟩
  · intro r k hr hk
    exact Or.inl ⟨zr_fl_i (by omega), fun u hu => by omega⟩
  · intro r k hr hk
    exact ⟨fun _ => zr_fl_i (by omega), fun j hj => by omega⟩
  · intro c a b hc ha hb' i hi
    exact ⟨fun z => absurd z zr_0, fun z => absurd rfl z.2⟩
  · intro c a b u hc ha hb' hu
    exact Or.inl rfl
  · intro u hu hu'
    exact ⟨rfl, fun r hr => ⟨rfl, rfl, rfl⟩⟩
theorem zx_init {k0 k1 k2 : Int32}
    (hR : ∀ A : Int32 → Prop, A (nI R) → ((nI 3 ≤ k0 → ((k0 ≤ nI 5 → A k0) ∧ (¬ k0 ≤ nI 5 → A (nI 5)))) ∧ (¬ nI 3 ≤ k0 → A (nI 3))))
    (hK : ∀ A : Int32 → Prop, A (nI K) → ((nI 1 ≤ k1 → ((k1 ≤ nI 8 → A k1) ∧ (¬ k1 ≤ nI 8 → A (nI 8)))) ∧ (¬ nI 1 ≤ k1 → A (nI 1))))
    (hL : ∀ A : Int32 → Prop, A (nI L) → ((nI 8 ≤ k2 → ((k2 ≤ nI 24 → A k2) ∧ (¬ k2 ≤ nI 24 → A (nI 24)))) ∧ (¬ nI 8 ≤ k2 → A (nI 8))))
    {post : SX → Prop} (h : post (nI R, nI K, nI L, nI 0, 0, ((1 : Int32) <<< (nI R &&& 31)) - 1, ((1 : Int32) <<< (nI R &&& 31)) - 1, fun _ => 0, fun _ => 0, fun _ => 0, fun _ => 0, fun _ => 0, fun _ => 0, fun _ => 0, fun _ => 0, zr_fl (fun _ => 0) 0 8 (-1), zr_fl (fun _ => 0) 0 40 (-1), zr_fl (fun _ => 0) 0 40 1, zr_fl (fun _ => 0) 0 40 (-1), zr_fl (fun _ => 0) 0 40 0, fun _ => 0)) : wpX_init post k0 k1 k2 := by
  unfold wpX_init
  refine zx_clamp hR ?_
  refine zx_clamp hK ?_
  refine zx_clamp hL ?_
  refine nm_e ⟨9, zx_init175 (S := 0) 8 0 (by omega) (fun _ => 0) 9 (by omega) ⟨41, zx_init199 (S := 0) 40 0 (by omega) (fun _ => 0) (fun _ => 0) (fun _ => 0) (fun _ => 0) 41 (by omega) ?_⟩⟩
  exact h
theorem zy_init {k0 k1 k2 : Int32}
    (hR : ∀ A : Int32 → Prop, A (nI R) → ((nI 3 ≤ k0 → ((k0 ≤ nI 5 → A k0) ∧ (¬ k0 ≤ nI 5 → A (nI 5)))) ∧ (¬ nI 3 ≤ k0 → A (nI 3))))
    (hK : ∀ A : Int32 → Prop, A (nI K) → ((nI 1 ≤ k1 → ((k1 ≤ nI 8 → A k1) ∧ (¬ k1 ≤ nI 8 → A (nI 8)))) ∧ (¬ nI 1 ≤ k1 → A (nI 1))))
    (hL : ∀ A : Int32 → Prop, A (nI L) → ((nI 8 ≤ k2 → ((k2 ≤ nI 24 → A k2) ∧ (¬ k2 ≤ nI 24 → A (nI 24)))) ∧ (¬ nI 8 ≤ k2 → A (nI 8))))
    {post : SY → Prop} (h : post (nI R, nI K, nI L, nI 0, 0, fun _ => 0, fun _ => 0, fun _ => 0, fun _ => 0, fun _ => 0, fun _ => 0, fun _ => 0, fun _ => 0, fun _ => 0, fun _ => 0, fun _ => 0, fun _ => 0, fun _ => 0, fun _ => 0)) : wpY_init post k0 k1 k2 :=
  hR (fun z => wY_init_136 post k1 k2 z 0 0 0 0 0 (fun _ => 0) (fun _ => 0) (fun _ => 0) (fun _ => 0) (fun _ => 0) (fun _ => 0) (fun _ => 0) (fun _ => 0) (fun _ => 0) (fun _ => 0) (fun _ => 0) (fun _ => 0) (fun _ => 0) (fun _ => 0)) (hK (fun z => wY_init_161 post k2 z (nI R) 0 0 0 0 (fun _ => 0) (fun _ => 0) (fun _ => 0) (fun _ => 0) (fun _ => 0) (fun _ => 0) (fun _ => 0) (fun _ => 0) (fun _ => 0) (fun _ => 0) (fun _ => 0) (fun _ => 0) (fun _ => 0) (fun _ => 0)) (hL (fun z => post (nI R, nI K, z, 0, 0, (fun _ => 0), (fun _ => 0), (fun _ => 0), (fun _ => 0), (fun _ => 0), (fun _ => 0), (fun _ => 0), (fun _ => 0), (fun _ => 0), (fun _ => 0), (fun _ => 0), (fun _ => 0), (fun _ => 0), (fun _ => 0))) h))
end
end
section
/-! what is owed -/
theorem i_vc0 (k0 : Int32) (k1 : Int32) (k2 : Int32) : wpX_init (fun u => wpY_init (fun v => i_Rel 3 u v) k0 k1 k2) k0 k1 k2 := by
  obtain ⟨R, h1, h2, hR⟩ := zr_clamp k0 3 5 (by omega) (by omega)
  obtain ⟨K, h3, h4, hK⟩ := zr_clamp k1 1 8 (by omega) (by omega)
  obtain ⟨L, h5, h6, hL⟩ := zr_clamp k2 8 24 (by omega) (by omega)
  exact zx_init hR hK hL (zy_init hR hK hL ⟨R, K, L, 0, 0, _, _, _, _, zr_in (zi_init h1 h2 h3 h4 h5 h6)⟩)
theorem i_vc_write {k : Nat} {u : SX} {v : SY} (I : i_Rel k u v) (hk : k + 5 ≤ 2563) (v1 : Int32) (v2 : Int32) (v3 : Int32) : wpX_write (fun r u' => wpY_write (fun r' v' => r' = r ∧ i_Rel (k + 5) u' v') v v1 v2 v3) u v1 v2 v3 :=
  zr_fiq (pX := fun u post => wpX_write post u v1 v2 v3) (pY := fun v post => wpY_write post v v1 v2 v3) I (fun R K L S vw mb up cr re ky sr vl bs sp an cs se la ho kn ga gs wi go kw yg iz ms I => zo_write I v1 v2 v3)
theorem i_vc_cas {k : Nat} {u : SX} {v : SY} (I : i_Rel k u v) (hk : k + 5 ≤ 2563) (v1 : Int32) (v2 : Int32) (v3 : Int32) (v4 : Int32) : wpX_cas (fun r u' => wpY_cas (fun r' v' => r' = r ∧ i_Rel (k + 5) u' v') v v1 v2 v3 v4) u v1 v2 v3 v4 :=
  zr_fiq (pX := fun u post => wpX_cas post u v1 v2 v3 v4) (pY := fun v post => wpY_cas post v v1 v2 v3 v4) I (fun R K L S vw mb up cr re ky sr vl bs sp an cs se la ho kn ga gs wi go kw yg iz ms I => zo_cas I v1 v2 v3 v4)
theorem i_vc_read {k : Nat} {u : SX} {v : SY} (I : i_Rel k u v) (hk : k + 5 ≤ 2563) (v1 : Int32) (v2 : Int32) : wpX_read (fun r => wpY_read (fun r' => r' = r ∧ i_Rel (k + 5) u v) v v1 v2) u v1 v2 :=
  zr_fin (pX := fun u post => wpX_read post u v1 v2) (pY := fun v post => wpY_read post v v1 v2) I (fun R K L S vw mb up cr re ky sr vl bs sp an cs se la ho kn ga gs wi go kw yg iz ms I => zo_read I v1 v2)
theorem i_vc_replay {k : Nat} {u : SX} {v : SY} (I : i_Rel k u v) (hk : k + 5 ≤ 2563) (v1 : Int32) (v2 : Int32) : wpX_replay (fun r u' => wpY_replay (fun r' v' => r' = r ∧ i_Rel (k + 5) u' v') v v1 v2) u v1 v2 :=
  zr_fiq (pX := fun u post => wpX_replay post u v1 v2) (pY := fun v post => wpY_replay post v v1 v2) I (fun R K L S vw mb up cr re ky sr vl bs sp an cs se la ho kn ga gs wi go kw yg iz ms I => zo_replay I v1 v2)
theorem i_vc_deliver {k : Nat} {u : SX} {v : SY} (I : i_Rel k u v) (hk : k + 5 ≤ 2563) (v1 : Int32) (v2 : Int32) (v3 : Int32) (v4 : Int32) : wpX_deliver (fun r u' => wpY_deliver (fun r' v' => r' = r ∧ i_Rel (k + 5) u' v') v v1 v2 v3 v4) u v1 v2 v3 v4 :=
  zr_fiq (pX := fun u post => wpX_deliver post u v1 v2 v3 v4) (pY := fun v post => wpY_deliver post v v1 v2 v3 v4) I (fun R K L S vw mb up cr re ky sr vl bs sp an cs se la ho kn ga gs wi go kw yg iz ms I => zo_deliver I v1 v2 v3 v4)
theorem i_vc_drop {k : Nat} {u : SX} {v : SY} (I : i_Rel k u v) (hk : k + 5 ≤ 2563) (v1 : Int32) (v2 : Int32) (v3 : Int32) (v4 : Int32) : wpX_drop (fun r u' => wpY_drop (fun r' v' => r' = r ∧ i_Rel (k + 5) u' v') v v1 v2 v3 v4) u v1 v2 v3 v4 :=
  zr_fiq (pX := fun u post => wpX_drop post u v1 v2 v3 v4) (pY := fun v post => wpY_drop post v v1 v2 v3 v4) I (fun R K L S vw mb up cr re ky sr vl bs sp an cs se la ho kn ga gs wi go kw yg iz ms I => zo_drop I v1 v2 v3 v4)
theorem i_vc_round {k : Nat} {u : SX} {v : SY} (I : i_Rel k u v) (hk : k + 5 ≤ 2563) : wpX_round (fun r u' => wpY_round (fun r' v' => r' = r ∧ i_Rel (k + 5) u' v') v) u :=
  zr_fiq (pX := fun u post => wpX_round post u) (pY := fun v post => wpY_round post v) I (fun R K L S vw mb up cr re ky sr vl bs sp an cs se la ho kn ga gs wi go kw yg iz ms I => zo_round I)
theorem i_vc_crash {k : Nat} {u : SX} {v : SY} (I : i_Rel k u v) (hk : k + 5 ≤ 2563) (v1 : Int32) : wpX_crash (fun r u' => wpY_crash (fun r' v' => r' = r ∧ i_Rel (k + 5) u' v') v v1) u v1 :=
  zr_fiq (pX := fun u post => wpX_crash post u v1) (pY := fun v post => wpY_crash post v v1) I (fun R K L S vw mb up cr re ky sr vl bs sp an cs se la ho kn ga gs wi go kw yg iz ms I => zo_crash I v1)
theorem i_vc_install {k : Nat} {u : SX} {v : SY} (I : i_Rel k u v) (hk : k + 5 ≤ 2563) : wpX_install (fun r u' => wpY_install (fun r' v' => r' = r ∧ i_Rel (k + 5) u' v') v) u :=
  zr_fiq (pX := fun u post => wpX_install post u) (pY := fun v post => wpY_install post v) I (fun R K L S vw mb up cr re ky sr vl bs sp an cs se la ho kn ga gs wi go kw yg iz ms I => zo_install I)
theorem i_vc_detail {k : Nat} {u : SX} {v : SY} (I : i_Rel k u v) (hk : k + 5 ≤ 2563) (v1 : Int32) (v2 : Int32) : wpX_detail (fun r => wpY_detail (fun r' => r' = r ∧ i_Rel (k + 5) u v) v v1 v2) u v1 v2 :=
  zr_fin (pX := fun u post => wpX_detail post u v1 v2) (pY := fun v post => wpY_detail post v v1 v2) I (fun R K L S vw mb up cr re ky sr vl bs sp an cs se la ho kn ga gs wi go kw yg iz ms I => zo_detail I v1 v2)
theorem i_vc_state {k : Nat} {u : SX} {v : SY} (I : i_Rel k u v) (hk : k + 5 ≤ 2563) (v1 : Int32) (v2 : Int32) : wpX_state (fun r => wpY_state (fun r' => r' = r ∧ i_Rel (k + 5) u v) v v1 v2) u v1 v2 :=
  zr_fin (pX := fun u post => wpX_state post u v1 v2) (pY := fun v post => wpY_state post v v1 v2) I (fun R K L S vw mb up cr re ky sr vl bs sp an cs se la ho kn ga gs wi go kw yg iz ms I => zo_state I v1 v2)
theorem i_vc_held {k : Nat} {u : SX} {v : SY} (I : i_Rel k u v) (hk : k + 5 ≤ 2563) (v1 : Int32) (v2 : Int32) : wpX_held (fun r => wpY_held (fun r' => r' = r ∧ i_Rel (k + 5) u v) v v1 v2) u v1 v2 :=
  zr_fin (pX := fun u post => wpX_held post u v1 v2) (pY := fun v post => wpY_held post v v1 v2) I (fun R K L S vw mb up cr re ky sr vl bs sp an cs se la ho kn ga gs wi go kw yg iz ms I => zo_held I v1 v2)
theorem i_vc_latest {k : Nat} {u : SX} {v : SY} (I : i_Rel k u v) (hk : k + 5 ≤ 2563) (v1 : Int32) : wpX_latest (fun r => wpY_latest (fun r' => r' = r ∧ i_Rel (k + 5) u v) v v1) u v1 :=
  zr_fin (pX := fun u post => wpX_latest post u v1) (pY := fun v post => wpY_latest post v v1) I (fun R K L S vw mb up cr re ky sr vl bs sp an cs se la ho kn ga gs wi go kw yg iz ms I => zo_latest I v1)
theorem i_vc_gathered {k : Nat} {u : SX} {v : SY} (I : i_Rel k u v) (hk : k + 5 ≤ 2563) (v1 : Int32) (v2 : Int32) : wpX_gathered (fun r => wpY_gathered (fun r' => r' = r ∧ i_Rel (k + 5) u v) v v1 v2) u v1 v2 :=
  zr_fin (pX := fun u post => wpX_gathered post u v1 v2) (pY := fun v post => wpY_gathered post v v1 v2) I (fun R K L S vw mb up cr re ky sr vl bs sp an cs se la ho kn ga gs wi go kw yg iz ms I => zo_gathered I v1 v2)
theorem i_vc_underWay {k : Nat} {u : SX} {v : SY} (I : i_Rel k u v) (hk : k + 5 ≤ 2563) (v1 : Int32) (v2 : Int32) (v3 : Int32) : wpX_underWay (fun r => wpY_underWay (fun r' => r' = r ∧ i_Rel (k + 5) u v) v v1 v2 v3) u v1 v2 v3 :=
  zr_fin (pX := fun u post => wpX_underWay post u v1 v2 v3) (pY := fun v post => wpY_underWay post v v1 v2 v3) I (fun R K L S vw mb up cr re ky sr vl bs sp an cs se la ho kn ga gs wi go kw yg iz ms I => zo_underWay I v1 v2 v3)
end
