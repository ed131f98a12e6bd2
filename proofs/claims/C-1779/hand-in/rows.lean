section
theorem pk_us {f : Nat → Int32} {k : Nat} {x : Int32} : upd f k x k = x := if_pos rfl
theorem pk_un {f : Nat → Int32} {k j : Nat} {x : Int32} (h : j ≠ k) : upd f k x j = f j := if_neg h
theorem pk_sub {a b : Nat} (h : b ≤ a) : nI a - nI b = nI (a - b) := by
  obtain ⟨c, rfl⟩ : ∃ c, a = c + b := ⟨a - b, by omega⟩
  rw [← nI_add, Int32.add_sub_cancel, Nat.add_sub_cancel]
theorem pk_m1 (n : Nat) : nI (n + 1) + (-1) = nI n := by
  rw [← nI_1, Int32.add_assoc, show (1 : Int32) + (-1) = 0 from rfl, Int32.add_zero]
theorem pk_mul (a b : Nat) : nI a * nI b = nI (a * b) := (Int32.ofNat_mul a b).symm
theorem pk_div {a d : Nat} (ha : a < 2 ^ 31) (h0 : 0 < d) (hd : d < 2 ^ 31) : nI a / nI d = nI (a / d) := by
  apply Int32.toInt_inj.mp
  rw [lg_idiv_nonneg (by rw [nI_toInt ha]; omega) (by rw [nI_toInt hd]; omega), nI_toInt ha, nI_toInt hd, nI_toInt (Nat.lt_of_le_of_lt (Nat.div_le_self a d) ha)]
  first | rfl | exact (Int.natCast_ediv _ _).symm
theorem pk_rem {a d : Nat} (ha : a < 2 ^ 31) (h0 : 0 < d) (hd : d < 2 ^ 31) : nI a - nI a / nI d * nI d = nI (a % d) := by
  rw [pk_div ha h0 hd, pk_mul, pk_sub (Nat.div_mul_le_self a d)]
  exact congrArg nI (by have := Nat.div_add_mod' a d; omega)
theorem pk_sub_toInt {a b : Nat} (ha : a < 2 ^ 30) (hb : b < 2 ^ 30) : (nI a - nI b).toInt = (a : Int) - b := by
  rw [Int32.toInt_sub, nI_toInt (by omega), nI_toInt (by omega)]
  exact Int.bmod_eq_of_le (by omega) (by omega)
theorem pk_sneg {a b : Nat} (hb : b < 2 ^ 30) (h : a < b) : nI a - nI b < 0 := by
  rw [Int32.lt_iff_toInt_lt, pk_sub_toInt (by omega) hb, show (0 : Int32).toInt = 0 from by decide]
  omega
theorem pk_ix (x : Int32) {n : Nat} (hn : n < 2 ^ 31) : x < 0 ∨ nI n ≤ x ∨ ∃ j : Nat, j < n ∧ x = nI j := by
  by_cases h : x < 0
  · exact Or.inl h
  · obtain ⟨j, hj, rfl⟩ := nI_of h
    by_cases h2 : j < n
    · exact Or.inr (Or.inr ⟨j, h2, rfl⟩)
    · exact Or.inr (Or.inl (nI_le (by omega) hj))
theorem pk_le {x y : Int32} {A B : Prop} (a b : Nat) (f : a ≤ b → A) (g : b < a → B) (hx : x = nI a := by rfl) (hy : y = nI b := by rfl) (ha : a < 2 ^ 31 := by omega) (hb : b < 2 ^ 31 := by omega) : (x ≤ y → A) ∧ (¬ x ≤ y → B) := by
  subst hx hy
  rw [nI_leI ha hb]
  exact ⟨f, fun z => g (by omega)⟩
theorem pk_lt {x y : Int32} {A B : Prop} (a b : Nat) (f : a < b → A) (g : b ≤ a → B) (hx : x = nI a := by rfl) (hy : y = nI b := by rfl) (ha : a < 2 ^ 31 := by omega) (hb : b < 2 ^ 31 := by omega) : (x < y → A) ∧ (¬ x < y → B) := by
  subst hx hy
  rw [nI_ltI ha hb]
  exact ⟨f, fun z => g (by omega)⟩
theorem pk_eq {x y : Int32} {A B : Prop} (a b : Nat) (f : a = b → A) (g : a ≠ b → B) (hx : x = nI a := by rfl) (hy : y = nI b := by rfl) (ha : a < 2 ^ 31 := by omega) (hb : b < 2 ^ 31 := by omega) : (x = y → A) ∧ (¬ x = y → B) := by
  subst hx hy
  rw [nI_eq ha hb]
  exact ⟨f, g⟩
theorem pk_in {x : Int32} (n N : Nat) (h : n < N) (hx : x = nI n := by rfl) (hN : N < 2 ^ 31 := by omega) : vp_in x N := by
  subst hx
  exact vp_in_nI h hN
theorem pk_cl {x : Int32} (n : Nat) (hx : x = nI n := by rfl) (h : n < 2 ^ 31 := by omega) : x.toNatClampNeg = n := by
  subst hx
  exact nI_clamp h
theorem pk_tn {n : Nat} (h : n < 2 ^ 32) : (nI n).toBitVec.toNat = n := Nat.mod_eq_of_lt h
theorem pk_and (x : Int32) {m : Int32} (k : Nat) (hm : m.toBitVec.toNat = 2 ^ k - 1) : x &&& m = nI (x.toBitVec.toNat % 2 ^ k) := by
  apply Int32.toBitVec_inj.mp
  apply BitVec.eq_of_toNat_eq
  rw [Int32.toBitVec_and, BitVec.toNat_and, hm, Nat.and_two_pow_sub_one_eq_mod]
  show _ = (BitVec.ofNat 32 _).toNat
  rw [BitVec.toNat_ofNat]
  exact (Nat.mod_eq_of_lt (Nat.lt_of_le_of_lt (Nat.mod_le _ _) x.toBitVec.isLt)).symm
theorem pk_andN {n : Nat} (h : n < 2 ^ 32) {m : Int32} (k : Nat) (hm : m.toBitVec.toNat = 2 ^ k - 1) : nI n &&& m = nI (n % 2 ^ k) := by
  rw [pk_and _ k hm, pk_tn h]
theorem pk_andE (x : Int32) {m : Int32} (k : Nat) (hm : m.toBitVec.toNat = 2 ^ k - 1) : ∃ j : Nat, j < 2 ^ k ∧ x &&& m = nI j := ⟨_, Nat.mod_lt _ (Nat.two_pow_pos k), pk_and x k hm⟩
theorem pk_andIn (x : Int32) {m : Int32} (k : Nat) (hm : m.toBitVec.toNat = 2 ^ k - 1) (hk : k ≤ 30) : vp_in (x &&& m) (2 ^ k) := by
  obtain ⟨j, hj, e⟩ := pk_andE x k hm
  rw [e]
  exact vp_in_nI hj (Nat.lt_of_le_of_lt (Nat.pow_le_pow_right (by decide) hk) (by decide))
theorem pk_shl (a s : Int32) (k : Nat) (hs : (s.toBitVec.smod 32).toNat = k) : (a <<< s).toBitVec.toNat = a.toBitVec.toNat * 2 ^ k % 2 ^ 32 := by
  show (a.toBitVec <<< (s.toBitVec.smod 32).toNat).toNat = _
  rw [hs, BitVec.toNat_shiftLeft, Nat.shiftLeft_eq]
theorem pk_shlN {n : Nat} (s : Int32) (k : Nat) (hs : (s.toBitVec.smod 32).toNat = k) (h : n * 2 ^ k < 2 ^ 32) : nI n <<< s = nI (n * 2 ^ k) := by
  apply Int32.toBitVec_inj.mp
  apply BitVec.eq_of_toNat_eq
  have hn : n < 2 ^ 32 := Nat.lt_of_le_of_lt (Nat.le_mul_of_pos_right n (Nat.two_pow_pos k)) h
  rw [pk_shl _ _ k hs, pk_tn hn, pk_tn h, Nat.mod_eq_of_lt h]
theorem pk_shr (a s : Int32) (k : Nat) (hs : (s.toBitVec.smod 32).toNat = k) : (a >>> s).toInt = a.toInt >>> k := by
  show (a.toBitVec.sshiftRight (s.toBitVec.smod 32).toNat).toInt = _
  rw [hs, BitVec.toInt_sshiftRight]
  rfl
theorem pk_shrN {n : Nat} (h : n < 2 ^ 31) (s : Int32) (k : Nat) (hs : (s.toBitVec.smod 32).toNat = k) : nI n >>> s = nI (n / 2 ^ k) := by
  apply Int32.toInt_inj.mp
  have h2 : n / 2 ^ k ≤ n := Nat.div_le_self _ _
  rw [pk_shr _ _ k hs, nI_toInt h, nI_toInt (by omega), Int.shiftRight_eq_div_pow]
  rfl
theorem pk_ushr (x s : Int32) (k : Nat) (hs : ((s.toUInt32 &&& Int32.toUInt32 31).toBitVec % 32).toNat = k) : (x.toUInt32 >>> (s.toUInt32 &&& Int32.toUInt32 31)).toInt32.toBitVec.toNat = x.toBitVec.toNat / 2 ^ k := by
  have e : (x.toUInt32 >>> (s.toUInt32 &&& Int32.toUInt32 31)).toInt32.toBitVec = x.toBitVec >>> k := by
    rw [← hs]
    exact UInt32.toBitVec_shiftRight _ _
  rw [e, BitVec.toNat_ushiftRight, Nat.shiftRight_eq_div_pow]
theorem pk_ushrN {n : Nat} (hn : n < 2 ^ 32) (s : Int32) (k : Nat) (hs : ((s.toUInt32 &&& Int32.toUInt32 31).toBitVec % 32).toNat = k) : ((nI n).toUInt32 >>> (s.toUInt32 &&& Int32.toUInt32 31)).toInt32 = nI (n / 2 ^ k) := by
  apply Int32.toBitVec_inj.mp
  apply BitVec.eq_of_toNat_eq
  rw [pk_ushr _ s k hs, pk_tn hn, pk_tn (Nat.lt_of_le_of_lt (Nat.div_le_self _ _) hn)]
def bt (x : Int32) (i : Nat) : Bool := x.toBitVec.getLsbD i
theorem b_ext {x y : Int32} (h : ∀ i, i < 32 → bt x i = bt y i) : x = y := Int32.toBitVec_inj.mp (BitVec.eq_of_getLsbD_eq (fun i hi => h i hi))
theorem b_or (x y : Int32) (i : Nat) : bt (x ||| y) i = (bt x i || bt y i) := by unfold bt; rw [Int32.toBitVec_or, BitVec.getLsbD_or]
theorem b_and (x y : Int32) (i : Nat) : bt (x &&& y) i = (bt x i && bt y i) := by unfold bt; rw [Int32.toBitVec_and, BitVec.getLsbD_and]
theorem b_xor (x y : Int32) (i : Nat) : bt (x ^^^ y) i = (bt x i ^^ bt y i) := by unfold bt; rw [Int32.toBitVec_xor, BitVec.getLsbD_xor]
theorem b_big {x : Int32} {i : Nat} (h : 32 ≤ i) : bt x i = false := BitVec.getLsbD_of_ge _ _ h
theorem b_255 (i : Nat) : bt 255 i = decide (i < 8) := by
  rcases Nat.lt_or_ge i 32 with h | h
  · exact (by decide +kernel : ∀ i, i < 32 → bt 255 i = decide (i < 8)) i h
  · rw [b_big h, decide_eq_false (by omega)]
theorem b_65535 (i : Nat) : bt 65535 i = decide (i < 16) := by
  rcases Nat.lt_or_ge i 32 with h | h
  · exact (by decide +kernel : ∀ i, i < 32 → bt 65535 i = decide (i < 16)) i h
  · rw [b_big h, decide_eq_false (by omega)]
theorem b_m1 : ∀ i, i < 32 → bt (-1) i = true := by decide +kernel
theorem b_0 (i : Nat) : bt 0 i = false := BitVec.getLsbD_zero
theorem s_l : ∀ n, n < 32 → ((nI n &&& 31).toBitVec.smod 32).toNat = n := by decide +kernel
theorem s_u : ∀ n, n < 32 → (((nI n).toUInt32 &&& Int32.toUInt32 31).toBitVec % 32).toNat = n := by decide +kernel
theorem b_shl (n : Nat) (hn : n < 32) (x : Int32) {i : Nat} (hi : i < 32) : bt (x <<< (nI n &&& 31)) i = (decide (n ≤ i) && bt x (i - n)) := by
  unfold bt
  rw [Int32.toBitVec_shiftLeft]
  show (x.toBitVec <<< ((nI n &&& 31).toBitVec.smod 32).toNat).getLsbD i = _
  rw [s_l n hn, BitVec.getLsbD_shiftLeft]
  rcases Nat.lt_or_ge i n with h | h
  · simp [h, Nat.not_le.mpr h]
  · simp [hi, h, Nat.not_lt.mpr h]
theorem b_ushr (n : Nat) (hn : n < 32) (x : Int32) (i : Nat) : bt ((x.toUInt32 >>> ((nI n).toUInt32 &&& Int32.toUInt32 31)).toInt32) i = bt x (n + i) := by
  show (x.toUInt32 >>> ((nI n).toUInt32 &&& Int32.toUInt32 31)).toBitVec.getLsbD i = x.toUInt32.toBitVec.getLsbD (n + i)
  rw [UInt32.toBitVec_shiftRight]
  show (x.toUInt32.toBitVec >>> (((nI n).toUInt32 &&& Int32.toUInt32 31).toBitVec % 32).toNat).getLsbD i = _
  rw [s_u n hn, BitVec.getLsbD_ushiftRight]
theorem b_sshr (n : Nat) (hn : n < 32) (x : Int32) {i : Nat} (hi : i < 32) : bt (x >>> (nI n &&& 31)) i = if n + i < 32 then bt x (n + i) else bt x 31 := by
  unfold bt
  rw [Int32.toBitVec_shiftRight]
  show (x.toBitVec.sshiftRight ((nI n &&& 31).toBitVec.smod 32).toNat).getLsbD i = _
  rw [s_l n hn, BitVec.getLsbD_sshiftRight, BitVec.msb_eq_getLsbD_last]
  simp [hi]
theorem b_shl8 (x : Int32) {i : Nat} (hi : i < 32) : bt (x <<< ((8 : Int32) &&& 31)) i = (decide (8 ≤ i) && bt x (i - 8)) := b_shl 8 (by omega) x hi
theorem b_shl16 (x : Int32) {i : Nat} (hi : i < 32) : bt (x <<< ((16 : Int32) &&& 31)) i = (decide (16 ≤ i) && bt x (i - 16)) := b_shl 16 (by omega) x hi
theorem b_shl24 (x : Int32) {i : Nat} (hi : i < 32) : bt (x <<< ((24 : Int32) &&& 31)) i = (decide (24 ≤ i) && bt x (i - 24)) := b_shl 24 (by omega) x hi
theorem b_sshr8 (x : Int32) {i : Nat} (hi : i < 32) : bt (x >>> ((8 : Int32) &&& 31)) i = if 8 + i < 32 then bt x (8 + i) else bt x 31 := b_sshr 8 (by omega) x hi
end
section
/-- a cell: its stream (0 .. 5), direction (0 forward, 1 backward), link, the hop of its stream, its byte, the bits turned round, the component's covered bits -/
abbrev oc_Cell : Type := Nat × Nat × Nat × Nat × Int32 × Int32 × Int32
def oc_s (x : oc_Cell) : Nat := x.1
def oc_d (x : oc_Cell) : Nat := x.2.1
def oc_l (x : oc_Cell) : Nat := x.2.2.1
def oc_j (x : oc_Cell) : Nat := x.2.2.2.1
def oc_b (x : oc_Cell) : Int32 := x.2.2.2.2.1
def oc_t (x : oc_Cell) : Int32 := x.2.2.2.2.2.1
def oc_w (x : oc_Cell) : Int32 := x.2.2.2.2.2.2
/-! ===== the key stream, the pad, the packed byte ===== -/
def oc_s1 (k p : Int32) : Int32 := ((k + (p * 40503)) * 1103515245) + 12345
def oc_s2 (x : Int32) : Int32 := (x ^^^ ((x.toUInt32 >>> ((13 : Int32).toUInt32 &&& Int32.toUInt32 31)).toInt32)) * 69069
def oc_s3 (x : Int32) : Int32 := ((x.toUInt32 >>> ((9 : Int32).toUInt32 &&& Int32.toUInt32 31)).toInt32) &&& 65535
def oc_str (k p : Int32) : Int32 := oc_s3 (oc_s2 (oc_s1 k p))
def oc_pad (k p : Int32) : Int32 := oc_str (k ^^^ 23456789) p
def oc_pk (b p : Int32) : Int32 := b ||| ((b ^^^ (p &&& 255)) <<< ((8 : Int32) &&& 31))
theorem oc_hi {b : Int32} (hb : b &&& 255 = b) {i : Nat} (h : 8 ≤ i) : bt b i = false := by
  rw [← hb, b_and, b_255, decide_eq_false (by omega), Bool.and_false]
theorem oc_pk_lo {b p : Int32} {i : Nat} (h : i < 8) : bt (oc_pk b p) i = bt b i := by
  unfold oc_pk
  rw [b_or, b_shl8 _ (by omega), decide_eq_false (by omega), Bool.false_and, Bool.or_false]
theorem oc_pk_mid {b p : Int32} (hb : b &&& 255 = b) {i : Nat} (h : i < 8) : bt (oc_pk b p) (8 + i) = (bt b i ^^ bt p i) := by
  unfold oc_pk
  rw [b_or, b_shl8 _ (by omega), decide_eq_true (by omega), Bool.true_and, oc_hi hb (by omega), Bool.false_or, show 8 + i - 8 = i from by omega, b_xor, b_and, b_255, decide_eq_true h, Bool.and_true]
theorem oc_pk_hi {b p : Int32} (hb : b &&& 255 = b) {i : Nat} (h : 16 ≤ i) (h2 : i < 32) : bt (oc_pk b p) i = false := by
  unfold oc_pk
  rw [b_or, b_shl8 _ h2, decide_eq_true (by omega), Bool.true_and, oc_hi hb (by omega), Bool.false_or, b_xor, b_and, b_255, decide_eq_false (by omega), Bool.and_false, oc_hi hb (by omega)]
  rfl
theorem oc_fit_l {b t p : Int32} (hb : b &&& 255 = b) (ht : t &&& 255 = t) : ((oc_pk b p ^^^ t) >>> ((8 : Int32) &&& 31)) ^^^ (p &&& 255) = b := by
  apply b_ext
  intro i hi
  rw [b_xor, b_sshr8 _ hi, b_and, b_255]
  by_cases h : i < 8
  · rw [if_pos (by omega), b_xor, oc_pk_mid hb h, oc_hi ht (by omega), decide_eq_true h, Bool.and_true]
    cases bt b i <;> cases bt p i <;> rfl
  · rw [decide_eq_false h, Bool.and_false, oc_hi hb (by omega)]
    by_cases h2 : 8 + i < 32
    · rw [if_pos h2, b_xor, oc_pk_hi hb (by omega) h2, oc_hi ht (by omega)]; rfl
    · rw [if_neg h2, b_xor, oc_pk_hi hb (by omega) (by omega), oc_hi ht (by omega)]; rfl
theorem oc_fit_r {b t p : Int32} (hb : b &&& 255 = b) (ht : t &&& 255 = t) : (oc_pk b p ^^^ t) &&& 255 = b ^^^ t := by
  apply b_ext
  intro i hi
  rw [b_and, b_255, b_xor, b_xor]
  by_cases h : i < 8
  · rw [decide_eq_true h, Bool.and_true, oc_pk_lo h]
  · rw [decide_eq_false h, Bool.and_false, oc_hi hb (by omega), oc_hi ht (by omega)]; rfl
/-- a cell fits its pad just when nothing was turned round -/
theorem oc_fits {b t p : Int32} (hb : b &&& 255 = b) (ht : t &&& 255 = t) : (((oc_pk b p ^^^ t) >>> ((8 : Int32) &&& 31)) ^^^ (p &&& 255)) = ((oc_pk b p ^^^ t) &&& 255) ↔ t = 0 := by
  rw [oc_fit_l hb ht, oc_fit_r hb ht]
  constructor
  · intro h
    have e : b ^^^ (b ^^^ t) = t := by rw [← Int32.xor_assoc, Int32.xor_self, Int32.zero_xor]
    rw [← e, ← h, Int32.xor_self]
  · intro h
    rw [h, Int32.xor_zero]
theorem oc_and_and (x : Int32) : x &&& 255 &&& 255 = x &&& 255 := by
  rw [Int32.and_assoc, Int32.and_self]
theorem oc_xor_and {t y : Int32} (ht : t &&& 255 = t) : (t ^^^ (y &&& 255)) &&& 255 = t ^^^ (y &&& 255) := by
  apply b_ext
  intro i hi
  rw [b_and, b_255, b_xor, b_and, b_255]
  by_cases h : i < 8
  · rw [decide_eq_true h, Bool.and_true, Bool.and_true]
  · rw [decide_eq_false h, Bool.and_false, Bool.and_false, oc_hi ht (by omega)]; rfl
theorem oc_x3 (a s y : Int32) : (a ^^^ (s ^^^ y)) ^^^ s = a ^^^ y := by
  rw [Int32.xor_comm s y, ← Int32.xor_assoc a y s, Int32.xor_assoc (a ^^^ y) s s, Int32.xor_self, Int32.xor_zero]
theorem oc_x4 (a s y : Int32) : (a ^^^ y) ^^^ s = a ^^^ (s ^^^ y) := by
  rw [Int32.xor_assoc, Int32.xor_comm y s]
/-! ===== layers and counters: Z h is the counter of hop h's layer (h < 3), Z (3 + h) that of hop h's pad ===== -/
def oc_ly (K Z : Nat → Int32) : Nat → Nat → Int32
  | _, 0 => 0
  | l, n + 1 => oc_str (K l) (Z l) ^^^ oc_ly K Z (l + 1) n
def oc_tch (x : oc_Cell) (h : Nat) : Bool := (decide (oc_l x ≤ h) && decide (h ≤ oc_j x)) || decide (h = 3 + oc_j x)
theorem oc_tch_t {x : oc_Cell} {h : Nat} : oc_tch x h = true ↔ ((oc_l x ≤ h ∧ h ≤ oc_j x) ∨ h = 3 + oc_j x) := by
  unfold oc_tch
  rw [Bool.or_eq_true, Bool.and_eq_true, decide_eq_true_eq, decide_eq_true_eq, decide_eq_true_eq]
theorem oc_tch_f {x : oc_Cell} {h : Nat} : oc_tch x h = false ↔ ¬ ((oc_l x ≤ h ∧ h ≤ oc_j x) ∨ h = 3 + oc_j x) := by
  rw [← oc_tch_t, Bool.not_eq_true]
def oc_bz (Z : Nat → Int32) (x : oc_Cell) : Nat → Int32 := fun h => if oc_tch x h = true then Z h + 1 else Z h
def oc_enc (K Z : Nat → Int32) (x : oc_Cell) : Int32 := (oc_pk (oc_b x) (oc_pad (K (oc_j x)) (Z (3 + oc_j x))) ^^^ oc_t x) ^^^ oc_ly K Z (oc_l x) (oc_j x + 1 - oc_l x)
def oc_ok (K : Nat → Int32) : (Nat → Int32) → List oc_Cell → Prop
  | _, [] => True
  | Z, x :: G => oc_w x = oc_enc K Z x ∧ oc_ok K (oc_bz Z x) G
def oc_az (Z : Nat → Int32) (G : List oc_Cell) : Nat → Int32 := G.foldl oc_bz Z
/-- the cells G in the order in which they reach the taking end: Z the taking end's counters, S those of the covering end -/
def oc_C (K Z S : Nat → Int32) (m : Nat) (G : List oc_Cell) : Prop := oc_ok K Z G ∧ ∀ h, h < m → oc_az Z G h = S h ∧ oc_az Z G (3 + h) = S (3 + h)
theorem oc_az_cons {Z : Nat → Int32} {x : oc_Cell} {G : List oc_Cell} : oc_az Z (x :: G) = oc_az (oc_bz Z x) G := rfl
theorem oc_az_app {Z : Nat → Int32} {A B : List oc_Cell} : oc_az Z (A ++ B) = oc_az (oc_az Z A) B := List.foldl_append
theorem oc_ok_app {K : Nat → Int32} : ∀ (A : List oc_Cell) (Z : Nat → Int32) (B : List oc_Cell), oc_ok K Z (A ++ B) ↔ oc_ok K Z A ∧ oc_ok K (oc_az Z A) B := by
  intro A
  induction A with
  | nil => intro Z B; exact ⟨fun h => ⟨trivial, h⟩, fun h => h.2⟩
  | cons x A ih =>
    intro Z B
    show (oc_w x = oc_enc K Z x ∧ oc_ok K (oc_bz Z x) (A ++ B)) ↔ (oc_w x = oc_enc K Z x ∧ oc_ok K (oc_bz Z x) A) ∧ oc_ok K (oc_az (oc_bz Z x) A) B
    rw [ih, and_assoc]
theorem oc_bz_pt {Z Z' : Nat → Int32} {x : oc_Cell} {h : Nat} (e : Z h = Z' h) : oc_bz Z x h = oc_bz Z' x h := by
  unfold oc_bz
  rw [e]
theorem oc_bz_s {Z Z' : Nat → Int32} {x : oc_Cell} {h : Nat} (e : Z' h = Z h + 1) : oc_bz Z' x h = oc_bz Z x h + 1 := by
  unfold oc_bz
  rw [e]
  split <;> rfl
theorem oc_bz_n {Z : Nat → Int32} {x : oc_Cell} {h : Nat} (e : oc_tch x h = false) : oc_bz Z x h = Z h := by
  unfold oc_bz
  rw [e, if_neg (by decide)]
theorem oc_bz_t {Z : Nat → Int32} {x : oc_Cell} {h : Nat} (e : oc_tch x h = true) : oc_bz Z x h = Z h + 1 := by
  unfold oc_bz
  rw [if_pos e]
theorem oc_az_pt {h : Nat} : ∀ (G : List oc_Cell) (Z Z' : Nat → Int32), Z h = Z' h → oc_az Z G h = oc_az Z' G h := by
  intro G
  induction G with
  | nil => intro Z Z' e; exact e
  | cons x G ih => intro Z Z' e; exact ih _ _ (oc_bz_pt e)
theorem oc_az_s {h : Nat} : ∀ (G : List oc_Cell) (Z Z' : Nat → Int32), Z' h = Z h + 1 → oc_az Z' G h = oc_az Z G h + 1 := by
  intro G
  induction G with
  | nil => intro Z Z' e; exact e
  | cons x G ih => intro Z Z' e; exact ih _ _ (oc_bz_s e)
theorem oc_az_n {h : Nat} : ∀ (G : List oc_Cell) (Z : Nat → Int32), (∀ x, x ∈ G → oc_tch x h = false) → oc_az Z G h = Z h := by
  intro G
  induction G with
  | nil => intro Z _; rfl
  | cons x G ih =>
    intro Z e
    rw [oc_az_cons, ih _ (fun y hy => e y (List.mem_cons_of_mem _ hy)), oc_bz_n (e x List.mem_cons_self)]
theorem oc_ly_congr {K K' Z Z' : Nat → Int32} : ∀ (n l : Nat), (∀ h, l ≤ h → h < l + n → K h = K' h ∧ Z h = Z' h) → oc_ly K Z l n = oc_ly K' Z' l n := by
  intro n
  induction n with
  | zero => intro l _; rfl
  | succ n ih =>
    intro l e
    show oc_str (K l) (Z l) ^^^ oc_ly K Z (l + 1) n = oc_str (K' l) (Z' l) ^^^ oc_ly K' Z' (l + 1) n
    rw [(e l (by omega) (by omega)).1, (e l (by omega) (by omega)).2, ih (l + 1) (fun h h1 h2 => e h (by omega) (by omega))]
theorem oc_enc_congr {K K' Z Z' : Nat → Int32} {x : oc_Cell} (hK : ∀ h, h ≤ oc_j x → K h = K' h) (hZ : ∀ h, oc_tch x h = true → Z h = Z' h) : oc_enc K Z x = oc_enc K' Z' x := by
  unfold oc_enc
  rw [hK _ (Nat.le_refl _), hZ _ (oc_tch_t.mpr (Or.inr rfl)), oc_ly_congr (K := K) (K' := K') (Z := Z) (Z' := Z') _ _ (fun h h1 h2 => ⟨hK h (by omega), hZ h (oc_tch_t.mpr (Or.inl ⟨h1, by omega⟩))⟩)]
theorem oc_ok_congr {K K' : Nat → Int32} : ∀ (G : List oc_Cell) (Z Z' : Nat → Int32), (∀ x, x ∈ G → ∀ h, h ≤ oc_j x → K h = K' h) → (∀ x, x ∈ G → ∀ h, oc_tch x h = true → Z h = Z' h) → oc_ok K Z G → oc_ok K' Z' G := by
  intro G
  induction G with
  | nil => intro Z Z' _ _ _; trivial
  | cons x G ih =>
    intro Z Z' hK hZ h
    refine ⟨?_, ih _ _ (fun y hy => hK y (List.mem_cons_of_mem _ hy)) (fun y hy k hk => oc_bz_pt (hZ y (List.mem_cons_of_mem _ hy) k hk)) h.2⟩
    rw [h.1]
    exact oc_enc_congr (hK x List.mem_cons_self) (hZ x List.mem_cons_self)
theorem oc_C_congr {K K' Z Z' S S' : Nat → Int32} {m : Nat} {G : List oc_Cell} (hm : m ≤ 3) (hG : ∀ x, x ∈ G → oc_l x ≤ oc_j x ∧ oc_j x < 3) (hK : ∀ h, h < 3 → K h = K' h) (hZ : ∀ h, h < 6 → Z h = Z' h) (hS : ∀ h, h < 6 → S h = S' h) (C : oc_C K Z S m G) : oc_C K' Z' S' m G := by
  refine ⟨oc_ok_congr G Z Z' (fun x hx h hh => hK h (by have := hG x hx; omega)) (fun x hx h hh => hZ h ?_) C.1, fun h hh => ?_⟩
  · have := hG x hx
    rw [oc_tch_t] at hh
    omega
  · rw [← oc_az_pt G Z Z' (hZ h (by omega)), ← oc_az_pt G Z Z' (hZ (3 + h) (by omega)), ← hS h (by omega), ← hS (3 + h) (by omega)]
    exact C.2 h hh
/-! ===== what the moves do to the chain ===== -/
/-- a new cell, covered by the covering end, behind A -/
theorem oc_Tins {K Z S S' : Nat → Int32} {m : Nat} {A B : List oc_Cell} {x : oc_Cell} (hj : oc_j x < m) (hm : m ≤ 3) (hlj : oc_l x ≤ oc_j x) (hB : ∀ y, y ∈ B → ∀ h, oc_tch x h = true → oc_tch y h = false) (hw : oc_w x = oc_enc K S x) (hS : ∀ h, h < 6 → S' h = oc_bz S x h) (C : oc_C K Z S m (A ++ B)) : oc_C K Z S' m (A ++ x :: B) := by
  have e : ∀ h, oc_tch x h = true → oc_az Z A h = S h := by
    intro h hh
    have e1 : oc_az Z (A ++ B) h = oc_az Z A h := by
      rw [oc_az_app]
      exact oc_az_n B _ (fun y hy => hB y hy h hh)
    rw [← e1]
    rw [oc_tch_t] at hh
    by_cases h3 : h < 3
    · exact (C.2 h (by omega)).1
    · obtain ⟨k, rfl⟩ : ∃ k, h = 3 + k := ⟨h - 3, by omega⟩
      exact (C.2 k (by omega)).2
  have fin : ∀ h, oc_az Z (A ++ B) h = S h → oc_az Z (A ++ x :: B) h = oc_bz S x h := by
    intro h hs
    rw [oc_az_app] at hs
    rw [oc_az_app, oc_az_cons]
    cases ht : oc_tch x h with
    | true =>
      rw [oc_bz_t ht, ← hs]
      exact oc_az_s B _ _ (oc_bz_t ht)
    | false =>
      rw [oc_bz_n ht, ← hs]
      exact oc_az_pt B _ _ (oc_bz_n ht)
  have h1 := (oc_ok_app A Z B).mp C.1
  refine ⟨(oc_ok_app A Z (x :: B)).mpr ⟨h1.1, ?_, ?_⟩, fun h hh => ?_⟩
  · rw [hw]
    exact oc_enc_congr (fun _ _ => rfl) (fun h hh => (e h hh).symm)
  · refine oc_ok_congr B _ _ (fun _ _ _ _ => rfl) (fun y hy h hh => ?_) h1.2
    refine (oc_bz_n ?_).symm
    cases ht : oc_tch x h with
    | true => rw [hB y hy h ht] at hh; exact absurd hh (by decide)
    | false => rfl
  · rw [hS h (by omega), hS (3 + h) (by omega)]
    exact ⟨fin h (C.2 h hh).1, fin (3 + h) (C.2 h hh).2⟩
/-- a forward cell's hop takes its layer off and passes it on -/
theorem oc_Tfwd {K Z Z' S : Nat → Int32} {m l : Nat} {A B : List oc_Cell} {x x' : oc_Cell} (hl : oc_l x = l) (hlj : l < oc_j x) (hl3 : l < 3) (hA : ∀ y, y ∈ A → l < oc_l y) (l' : oc_l x' = l + 1) (j' : oc_j x' = oc_j x) (b' : oc_b x' = oc_b x) (t' : oc_t x' = oc_t x) (w' : oc_w x' = oc_w x ^^^ oc_str (K l) (Z l)) (hZ : Z' l = Z l + 1) (hZn : ∀ h, h ≠ l → Z' h = Z h) (C : oc_C K Z S m (A ++ x :: B)) : oc_C K Z' S m (A ++ x' :: B) := by
  have tA : ∀ y, y ∈ A → oc_tch y l = false := fun y hy => oc_tch_f.mpr (by have := hA y hy; omega)
  have e1 : oc_az Z A l = Z l := oc_az_n A Z tA
  have e1' : oc_az Z' A l = Z' l := oc_az_n A Z' tA
  have e2 : ∀ h, h ≠ l → oc_az Z' A h = oc_az Z A h := fun h hh => oc_az_pt A Z' Z (hZn h hh)
  have e3 : oc_bz (oc_az Z' A) x' = oc_bz (oc_az Z A) x := by
    funext h
    by_cases hh : h = l
    · subst hh
      rw [oc_bz_n (oc_tch_f.mpr (by omega)), oc_bz_t (oc_tch_t.mpr (by omega)), e1, e1', hZ]
    · unfold oc_bz
      have e : oc_tch x' h = oc_tch x h := by
        cases ht : oc_tch x h with
        | true => rw [oc_tch_t] at ht; exact oc_tch_t.mpr (by omega)
        | false => rw [oc_tch_f] at ht; exact oc_tch_f.mpr (by omega)
      rw [e2 h hh, e]
  have h1 := (oc_ok_app A Z (x :: B)).mp C.1
  refine ⟨(oc_ok_app A Z' (x' :: B)).mpr ⟨?_, ?_, ?_⟩, fun h hh => ?_⟩
  · refine oc_ok_congr A Z Z' (fun _ _ _ _ => rfl) (fun y hy h hh => (hZn h ?_).symm) h1.1
    intro z
    rw [z, tA y hy] at hh
    exact absurd hh (by decide)
  · rw [w', h1.2.1]
    unfold oc_enc
    rw [l', j', b', t', hl, e2 (3 + oc_j x) (by omega), show oc_j x + 1 - l = (oc_j x - l) + 1 from by omega, show oc_j x + 1 - (l + 1) = oc_j x - l from by omega]
    rw [show oc_ly K (oc_az Z A) l (oc_j x - l + 1) = oc_str (K l) (oc_az Z A l) ^^^ oc_ly K (oc_az Z A) (l + 1) (oc_j x - l) from rfl, e1]
    rw [oc_ly_congr (K := K) (K' := K) (Z := oc_az Z A) (Z' := oc_az Z' A) (oc_j x - l) (l + 1) (fun h h2 h3 => ⟨rfl, (e2 h (by omega)).symm⟩)]
    exact oc_x3 _ _ _
  · rw [e3]; exact h1.2.2
  · have h2 := C.2 h hh
    rw [oc_az_app, oc_az_cons] at h2 ⊢
    rw [e3]; exact h2
/-- a forward cell ends at its hop -/
theorem oc_Tfarr {K Z Z' S : Nat → Int32} {m l : Nat} {A B : List oc_Cell} {x : oc_Cell} (hl : oc_l x = l) (hlj : oc_j x = l) (hl3 : l < 3) (hA : ∀ y, y ∈ A → l < oc_l y ∧ oc_l y ≤ oc_j y ∧ oc_j y < 3) (hZ : ∀ h, h = l ∨ h = 3 + l → Z' h = Z h + 1) (hZn : ∀ h, h ≠ l → h ≠ 3 + l → Z' h = Z h) (C : oc_C K Z S m (A ++ x :: B)) : oc_C K Z' S m (A ++ B) ∧ oc_w x ^^^ oc_str (K l) (Z l) = oc_pk (oc_b x) (oc_pad (K l) (Z (3 + l))) ^^^ oc_t x := by
  have tA : ∀ h, h = l ∨ h = 3 + l → ∀ y, y ∈ A → oc_tch y h = false := fun h hh y hy => oc_tch_f.mpr (by have := hA y hy; omega)
  have e3 : oc_az Z' A = oc_bz (oc_az Z A) x := by
    funext h
    by_cases hh : h = l ∨ h = 3 + l
    · rw [oc_az_n A Z' (tA h hh), oc_bz_t (oc_tch_t.mpr (by omega)), oc_az_n A Z (tA h hh), hZ h hh]
    · rw [oc_bz_n (oc_tch_f.mpr (by omega))]
      exact oc_az_pt A Z' Z (hZn h (by omega) (by omega))
  have h1 := (oc_ok_app A Z (x :: B)).mp C.1
  refine ⟨⟨(oc_ok_app A Z' B).mpr ⟨?_, ?_⟩, fun h hh => ?_⟩, ?_⟩
  · refine oc_ok_congr A Z Z' (fun _ _ _ _ => rfl) (fun y hy h hh => (hZn h ?_ ?_).symm) h1.1
    · intro z
      rw [tA h (Or.inl z) y hy] at hh
      exact absurd hh (by decide)
    · intro z
      rw [tA h (Or.inr z) y hy] at hh
      exact absurd hh (by decide)
  · rw [e3]; exact h1.2.2
  · have h2 := C.2 h hh
    rw [oc_az_app, oc_az_cons] at h2
    rw [oc_az_app, e3]; exact h2
  · rw [h1.2.1]
    unfold oc_enc
    rw [hlj, hl, show l + 1 - l = 0 + 1 from by omega, show oc_ly K (oc_az Z A) l (0 + 1) = oc_str (K l) (oc_az Z A l) ^^^ 0 from rfl, oc_az_n A Z (tA l (Or.inl rfl)), oc_az_n A Z (tA (3 + l) (Or.inr rfl)), Int32.xor_zero, Int32.xor_assoc, Int32.xor_self, Int32.xor_zero]
/-- a hop on the way back puts its layer on -/
theorem oc_Tbmv {K Z S S' : Nat → Int32} {m l : Nat} {A B : List oc_Cell} {x x' : oc_Cell} (hl : oc_l x = l + 1) (hlj : l + 1 ≤ oc_j x) (hjm : oc_j x < m) (hm : m ≤ 3) (hB : ∀ y, y ∈ B → l < oc_l y) (l' : oc_l x' = l) (j' : oc_j x' = oc_j x) (b' : oc_b x' = oc_b x) (t' : oc_t x' = oc_t x) (w' : oc_w x' = oc_w x ^^^ oc_str (K l) (S l)) (hS : S' l = S l + 1) (hSn : ∀ h, h ≠ l → S' h = S h) (C : oc_C K Z S m (A ++ x :: B)) : oc_C K Z S' m (A ++ x' :: B) := by
  have tB : ∀ y, y ∈ B → oc_tch y l = false := fun y hy => oc_tch_f.mpr (by have := hB y hy; omega)
  have tx : oc_tch x l = false := oc_tch_f.mpr (by omega)
  have e1 : oc_az Z A l = S l := by
    rw [← (C.2 l (by omega)).1, oc_az_app, oc_az_cons, oc_az_n B _ tB, oc_bz_n tx]
  have h1 := (oc_ok_app A Z (x :: B)).mp C.1
  have et : ∀ h, h ≠ l → oc_tch x' h = oc_tch x h := by
    intro h hh
    cases ht : oc_tch x h with
    | true => rw [oc_tch_t] at ht; exact oc_tch_t.mpr (by omega)
    | false => rw [oc_tch_f] at ht; exact oc_tch_f.mpr (by omega)
  have e2 : ∀ h, h ≠ l → oc_bz (oc_az Z A) x' h = oc_bz (oc_az Z A) x h := by
    intro h hh
    unfold oc_bz
    rw [et h hh]
  refine ⟨(oc_ok_app A Z (x' :: B)).mpr ⟨h1.1, ?_, ?_⟩, fun h hh => ?_⟩
  · rw [w', h1.2.1]
    unfold oc_enc
    rw [l', j', b', t', hl, show oc_j x + 1 - l = (oc_j x + 1 - (l + 1)) + 1 from by omega]
    rw [show oc_ly K (oc_az Z A) l (oc_j x + 1 - (l + 1) + 1) = oc_str (K l) (oc_az Z A l) ^^^ oc_ly K (oc_az Z A) (l + 1) (oc_j x + 1 - (l + 1)) from rfl, e1]
    exact oc_x4 _ _ _
  · refine oc_ok_congr B _ _ (fun _ _ _ _ => rfl) (fun y hy h hh => (e2 h ?_).symm) h1.2.2
    intro z
    rw [z, tB y hy] at hh
    exact absurd hh (by decide)
  · have h2 := C.2 h hh
    rw [oc_az_app, oc_az_cons] at h2 ⊢
    have hh3 : h < 3 := by omega
    refine ⟨?_, ?_⟩
    · by_cases z : h = l
      · subst z
        rw [oc_az_n B _ tB, oc_bz_t (oc_tch_t.mpr (by omega)), hS, e1]
      · rw [hSn h z, ← h2.1]
        exact oc_az_pt B _ _ (e2 h z)
    · rw [hSn (3 + h) (by omega), ← h2.2]
      exact oc_az_pt B _ _ (e2 (3 + h) (by omega))
/-- the client takes all layers off -/
theorem oc_Tbarr {K Z Z' S : Nat → Int32} {m : Nat} {B : List oc_Cell} {x : oc_Cell} (hm : m ≤ 3) (hB : ∀ y, y ∈ B → oc_l y ≤ oc_j y ∧ oc_j y < 3) (hl : oc_l x = 0) (hZ : ∀ h, h < 6 → oc_bz Z x h = Z' h) (C : oc_C K Z S m (x :: B)) : oc_C K Z' S m B ∧ oc_w x ^^^ oc_ly K Z 0 (oc_j x + 1) = oc_pk (oc_b x) (oc_pad (K (oc_j x)) (Z (3 + oc_j x))) ^^^ oc_t x := by
  refine ⟨oc_C_congr hm hB (fun _ _ => rfl) hZ (fun _ _ => rfl) ⟨C.1.2, C.2⟩, ?_⟩
  rw [C.1.1]
  unfold oc_enc
  rw [hl, Nat.sub_zero, Int32.xor_assoc, Int32.xor_self, Int32.xor_zero]
/-- bits of a cell are turned round -/
theorem oc_Ttam {K Z S : Nat → Int32} {m : Nat} {A B : List oc_Cell} {x x' : oc_Cell} {y : Int32} (l' : oc_l x' = oc_l x) (j' : oc_j x' = oc_j x) (b' : oc_b x' = oc_b x) (t' : oc_t x' = oc_t x ^^^ y) (w' : oc_w x' = oc_w x ^^^ y) (C : oc_C K Z S m (A ++ x :: B)) : oc_C K Z S m (A ++ x' :: B) := by
  have e3 : oc_bz (oc_az Z A) x' = oc_bz (oc_az Z A) x := by
    funext h
    unfold oc_bz oc_tch
    rw [l', j']
  have h1 := (oc_ok_app A Z (x :: B)).mp C.1
  refine ⟨(oc_ok_app A Z (x' :: B)).mpr ⟨h1.1, ?_, ?_⟩, fun h hh => ?_⟩
  · rw [w', h1.2.1]
    unfold oc_enc
    rw [l', j', b', t', ← Int32.xor_assoc, Int32.xor_assoc, Int32.xor_comm (oc_ly K (oc_az Z A) (oc_l x) (oc_j x + 1 - oc_l x)), ← Int32.xor_assoc]
  · rw [e3]; exact h1.2.2
  · have h2 := C.2 h hh
    rw [oc_az_app, oc_az_cons] at h2 ⊢
    rw [e3]; exact h2
/-- a new hop, its counters at zero on both ends -/
theorem oc_Text {K K' Z Z' S S' : Nat → Int32} {n : Nat} {G : List oc_Cell} (hn : n < 3) (hG : ∀ x, x ∈ G → oc_l x ≤ oc_j x ∧ oc_j x < n) (hK : ∀ h, h < n → K h = K' h) (hZ : ∀ h, h < 6 → h ≠ n → h ≠ 3 + n → Z h = Z' h) (hS : ∀ h, h < 6 → h ≠ n → h ≠ 3 + n → S h = S' h) (h0 : Z' n = S' n) (h1 : Z' (3 + n) = S' (3 + n)) (C : oc_C K Z S n G) : oc_C K' Z' S' (n + 1) G := by
  refine ⟨oc_ok_congr G Z Z' (fun x hx h hh => hK h (by have := hG x hx; omega)) (fun x hx h hh => hZ h ?_ ?_ ?_) C.1, fun h hh => ?_⟩
  · have := hG x hx
    rw [oc_tch_t] at hh
    omega
  · have := hG x hx
    rw [oc_tch_t] at hh
    omega
  · have := hG x hx
    rw [oc_tch_t] at hh
    omega
  · by_cases z : h = n
    · subst z
      rw [oc_az_n G Z' (fun x hx => oc_tch_f.mpr (by have := hG x hx; omega)), oc_az_n G Z' (fun x hx => oc_tch_f.mpr (by have := hG x hx; omega))]
      exact ⟨h0, h1⟩
    · rw [← oc_az_pt G Z Z' (hZ h (by omega) z (by omega)), ← oc_az_pt G Z Z' (hZ (3 + h) (by omega) (by omega) (by omega)), ← hS h (by omega) z (by omega), ← hS (3 + h) (by omega) (by omega) (by omega)]
      exact C.2 h (by omega)
end
section
/-! ===== the list of cells, its queues and its counts ===== -/
def oc_q (x : oc_Cell) : Nat := oc_s x / 3 * 6 + oc_d x * 3 + oc_l x
def oc_Q (q : Nat) (L : List oc_Cell) : List oc_Cell := L.filter (fun x => decide (oc_q x = q))
def oc_n (s d : Nat) (L : List oc_Cell) : Nat := L.countP (fun x => decide (oc_s x = s ∧ oc_d x = d))
def oc_gd (x : oc_Cell) : Prop := oc_s x < 6 ∧ oc_d x < 2 ∧ oc_l x ≤ oc_j x ∧ oc_j x < 3 ∧ oc_b x &&& 255 = oc_b x ∧ oc_t x &&& 255 = oc_t x
theorem oc_Q_app {q : Nat} {A B : List oc_Cell} : oc_Q q (A ++ B) = oc_Q q A ++ oc_Q q B := List.filter_append _ _
theorem oc_Q_y {q : Nat} {x : oc_Cell} {B : List oc_Cell} (h : oc_q x = q) : oc_Q q (x :: B) = x :: oc_Q q B := List.filter_cons_of_pos (decide_eq_true h)
theorem oc_Q_n {q : Nat} {x : oc_Cell} {B : List oc_Cell} (h : oc_q x ≠ q) : oc_Q q (x :: B) = oc_Q q B := List.filter_cons_of_neg (by rw [decide_eq_false h]; decide)
theorem oc_Q_nil {q : Nat} : oc_Q q [] = [] := rfl
theorem oc_Q_none {q : Nat} : ∀ (A : List oc_Cell), (∀ x, x ∈ A → oc_q x ≠ q) → oc_Q q A = [] := by
  intro A
  induction A with
  | nil => intro _; rfl
  | cons x A ih =>
    intro h
    rw [oc_Q_n (h x List.mem_cons_self)]
    exact ih (fun y hy => h y (List.mem_cons_of_mem _ hy))
theorem oc_Q_mem {q : Nat} {x : oc_Cell} {L : List oc_Cell} (h : x ∈ oc_Q q L) : x ∈ L ∧ oc_q x = q := by
  have h2 := List.mem_filter.mp h
  exact ⟨h2.1, of_decide_eq_true h2.2⟩
theorem oc_n_app {s d : Nat} {A B : List oc_Cell} : oc_n s d (A ++ B) = oc_n s d A + oc_n s d B := List.countP_append
theorem oc_n_y {s d : Nat} {x : oc_Cell} {B : List oc_Cell} (h : oc_s x = s ∧ oc_d x = d) : oc_n s d (x :: B) = oc_n s d B + 1 := List.countP_cons_of_pos (decide_eq_true h)
theorem oc_n_n {s d : Nat} {x : oc_Cell} {B : List oc_Cell} (h : ¬ (oc_s x = s ∧ oc_d x = d)) : oc_n s d (x :: B) = oc_n s d B := List.countP_cons_of_neg (by rw [decide_eq_false h]; decide)
theorem oc_n_nil {s d : Nat} : oc_n s d [] = 0 := rfl
theorem oc_n_none {s d : Nat} : ∀ (A : List oc_Cell), (∀ x, x ∈ A → oc_s x ≠ s) → oc_n s d A = 0 := by
  intro A
  induction A with
  | nil => intro _; rfl
  | cons x A ih =>
    intro h
    rw [oc_n_n (fun z => h x List.mem_cons_self z.1)]
    exact ih (fun y hy => h y (List.mem_cons_of_mem _ hy))
/-- one cell in one queue: what it adds to the counts of its streams -/
theorem oc_cap {c d l : Nat} (hd : d < 2) (hl : l < 3) : ∀ (L : List oc_Cell), (∀ x, x ∈ L → oc_gd x) → (oc_Q (c * 6 + d * 3 + l) L).length ≤ oc_n (c * 3) d L + oc_n (c * 3 + 1) d L + oc_n (c * 3 + 2) d L := by
  intro L
  induction L with
  | nil => intro _; exact Nat.le_refl _
  | cons x L ih =>
    intro h
    have i := ih (fun y hy => h y (List.mem_cons_of_mem _ hy))
    have g := h x List.mem_cons_self
    have g1 := g.1
    have g2 := g.2.1
    have g3 := g.2.2.1
    have g4 := g.2.2.2.1
    have m0 : ∀ s, oc_n s d L ≤ oc_n s d (x :: L) := by
      intro s
      by_cases z : oc_s x = s ∧ oc_d x = d
      · rw [oc_n_y z]; omega
      · rw [oc_n_n z]; omega
    have a0 := m0 (c * 3)
    have a1 := m0 (c * 3 + 1)
    have a2 := m0 (c * 3 + 2)
    by_cases z : oc_q x = c * 6 + d * 3 + l
    · rw [oc_Q_y z, List.length_cons]
      unfold oc_q at z
      have hs : oc_s x / 3 = c := by omega
      have hdd : oc_d x = d := by omega
      have hc : oc_s x = c * 3 ∨ oc_s x = c * 3 + 1 ∨ oc_s x = c * 3 + 2 := by omega
      rcases hc with e | e | e
      · have := oc_n_y (B := L) ⟨e, hdd⟩; omega
      · have := oc_n_y (B := L) ⟨e, hdd⟩; omega
      · have := oc_n_y (B := L) ⟨e, hdd⟩; omega
    · rw [oc_Q_n z]; omega
theorem oc_len : ∀ (L : List oc_Cell), (∀ x, x ∈ L → oc_gd x) → L.length ≤ (oc_n 0 0 L + oc_n 1 0 L + oc_n 2 0 L + oc_n 3 0 L + oc_n 4 0 L + oc_n 5 0 L) + (oc_n 0 1 L + oc_n 1 1 L + oc_n 2 1 L + oc_n 3 1 L + oc_n 4 1 L + oc_n 5 1 L) := by
  intro L
  induction L with
  | nil => intro _; exact Nat.le_refl _
  | cons x L ih =>
    intro h
    have i := ih (fun y hy => h y (List.mem_cons_of_mem _ hy))
    have g := h x List.mem_cons_self
    have g1 := g.1
    have g2 := g.2.1
    have m0 : ∀ s d, oc_n s d L ≤ oc_n s d (x :: L) := by
      intro s d
      by_cases z : oc_s x = s ∧ oc_d x = d
      · rw [oc_n_y z]; omega
      · rw [oc_n_n z]; omega
    have e := oc_n_y (s := oc_s x) (d := oc_d x) (x := x) (B := L) ⟨rfl, rfl⟩
    have a0 := m0 0 0
    have a1 := m0 1 0
    have a2 := m0 2 0
    have a3 := m0 3 0
    have a4 := m0 4 0
    have a5 := m0 5 0
    have b0 := m0 0 1
    have b1 := m0 1 1
    have b2 := m0 2 1
    have b3 := m0 3 1
    have b4 := m0 4 1
    have b5 := m0 5 1
    rw [List.length_cons]
    have hs : oc_s x = 0 ∨ oc_s x = 1 ∨ oc_s x = 2 ∨ oc_s x = 3 ∨ oc_s x = 4 ∨ oc_s x = 5 := by omega
    have hd : oc_d x = 0 ∨ oc_d x = 1 := by omega
    rcases hs with z | z | z | z | z | z <;> rcases hd with y | y <;> rw [z, y] at e <;> omega
/-- the list without circuit c's cells -/
def oc_rm (c : Nat) (L : List oc_Cell) : List oc_Cell := L.filter (fun x => decide (oc_s x / 3 ≠ c))
theorem oc_rm_k {c : Nat} {x : oc_Cell} {B : List oc_Cell} (h : oc_s x / 3 ≠ c) : oc_rm c (x :: B) = x :: oc_rm c B := List.filter_cons_of_pos (decide_eq_true h)
theorem oc_rm_d {c : Nat} {x : oc_Cell} {B : List oc_Cell} (h : oc_s x / 3 = c) : oc_rm c (x :: B) = oc_rm c B := List.filter_cons_of_neg (by rw [decide_eq_false (fun w => w h)]; decide)
theorem oc_rm_app {c : Nat} {A B : List oc_Cell} : oc_rm c (A ++ B) = oc_rm c A ++ oc_rm c B := List.filter_append _ _
theorem oc_rm_mem {c : Nat} {x : oc_Cell} {L : List oc_Cell} (h : x ∈ oc_rm c L) : x ∈ L ∧ oc_s x / 3 ≠ c := by
  have h2 := List.mem_filter.mp h
  exact ⟨h2.1, of_decide_eq_true h2.2⟩
/-- queues, counts of another circuit -/
theorem oc_rm_Q {c q : Nat} : ∀ (L : List oc_Cell), (∀ x, x ∈ L → oc_gd x) → q / 6 ≠ c → oc_Q q (oc_rm c L) = oc_Q q L := by
  intro L
  induction L with
  | nil => intro _ _; rfl
  | cons x L ih =>
    intro h hq
    have i := ih (fun y hy => h y (List.mem_cons_of_mem _ hy)) hq
    have g := h x List.mem_cons_self
    have g1 := g.1
    have g2 := g.2.1
    have g3 := g.2.2.1
    have g4 := g.2.2.2.1
    by_cases z : oc_s x / 3 = c
    · rw [oc_rm_d z, oc_Q_n (by unfold oc_q; omega), i]
    · rw [oc_rm_k z]
      by_cases w : oc_q x = q
      · rw [oc_Q_y w, oc_Q_y w, i]
      · rw [oc_Q_n w, oc_Q_n w, i]
theorem oc_rm_Q0 {c q : Nat} {L : List oc_Cell} (h : ∀ x, x ∈ L → oc_gd x) (hq : q / 6 = c) : oc_Q q (oc_rm c L) = [] := by
  refine oc_Q_none _ (fun x hx => ?_)
  have h1 := oc_rm_mem hx
  have g := h x h1.1
  have g1 := g.1
  have g2 := g.2.1
  have g3 := g.2.2.1
  have g4 := g.2.2.2.1
  have h2 := h1.2
  unfold oc_q
  omega
theorem oc_rm_n {c s d : Nat} : ∀ (L : List oc_Cell), s / 3 ≠ c → oc_n s d (oc_rm c L) = oc_n s d L := by
  intro L
  induction L with
  | nil => intro _; rfl
  | cons x L ih =>
    intro hq
    have i := ih hq
    by_cases z : oc_s x / 3 = c
    · rw [oc_rm_d z, oc_n_n (fun w => hq (by rw [← w.1]; exact z)), i]
    · rw [oc_rm_k z]
      by_cases w : oc_s x = s ∧ oc_d x = d
      · rw [oc_n_y w, oc_n_y w, i]
      · rw [oc_n_n w, oc_n_n w, i]
theorem oc_rm_n0 {c s d : Nat} {L : List oc_Cell} (hq : s / 3 = c) : oc_n s d (oc_rm c L) = 0 := by
  refine oc_n_none _ (fun x hx z => (oc_rm_mem hx).2 ?_)
  rw [z]
  exact hq
/-- the sum of n lengths from q on -/
def oc_sm (f : Nat → Nat) : Nat → Nat → Nat
  | _, 0 => 0
  | q, n + 1 => f q + oc_sm f (q + 1) n
theorem oc_sum {c : Nat} : ∀ (L : List oc_Cell), (∀ x, x ∈ L → oc_gd x) → (oc_rm c L).length + oc_sm (fun q => (oc_Q q L).length) (c * 6) 6 = L.length := by
  intro L
  induction L with
  | nil => intro _; rfl
  | cons x L ih =>
    intro h
    have i := ih (fun y hy => h y (List.mem_cons_of_mem _ hy))
    have g := h x List.mem_cons_self
    have g1 := g.1
    have g2 := g.2.1
    have g3 := g.2.2.1
    have g4 := g.2.2.2.1
    have e : ∀ k, (oc_q x = c * 6 + k ∧ (oc_Q (c * 6 + k) (x :: L)).length = (oc_Q (c * 6 + k) L).length + 1) ∨ (oc_q x ≠ c * 6 + k ∧ (oc_Q (c * 6 + k) (x :: L)).length = (oc_Q (c * 6 + k) L).length) := by
      intro k
      by_cases z : oc_q x = c * 6 + k
      · exact Or.inl ⟨z, by rw [oc_Q_y z, List.length_cons]⟩
      · exact Or.inr ⟨z, by rw [oc_Q_n z]⟩
    have e0 := e 0
    have e1 := e 1
    have e2 := e 2
    have e3 := e 3
    have e4 := e 4
    have e5 := e 5
    rw [Nat.add_zero] at e0
    simp only [oc_sm, Nat.add_assoc, Nat.reduceAdd] at i ⊢
    rw [List.length_cons]
    by_cases z : oc_s x / 3 = c
    · rw [oc_rm_d z]
      have hq : oc_q x = c * 6 ∨ oc_q x = c * 6 + 1 ∨ oc_q x = c * 6 + 2 ∨ oc_q x = c * 6 + 3 ∨ oc_q x = c * 6 + 4 ∨ oc_q x = c * 6 + 5 := by unfold oc_q; omega
      omega
    · rw [oc_rm_k z, List.length_cons]
      have hq : oc_q x < c * 6 ∨ c * 6 + 5 < oc_q x := by unfold oc_q; omega
      omega
/-- the first cell of a kind, if there is one -/
theorem oc_first (p : oc_Cell → Prop) : ∀ (L : List oc_Cell), (∀ x, x ∈ L → ¬ p x) ∨ ∃ A x B, L = A ++ x :: B ∧ p x ∧ ∀ y, y ∈ A → ¬ p y := by
  intro L
  induction L with
  | nil => exact Or.inl (fun x hx => absurd hx List.not_mem_nil)
  | cons x L ih =>
    by_cases z : p x
    · exact Or.inr ⟨[], x, L, rfl, z, fun y hy => absurd hy List.not_mem_nil⟩
    · rcases ih with h | ⟨A, y, B, e, hy, hA⟩
      · refine Or.inl (fun y hy => ?_)
        rcases List.mem_cons.mp hy with w | w
        · rw [w]; exact z
        · exact h y w
      · refine Or.inr ⟨x :: A, y, B, by rw [e]; rfl, hy, fun w hw => ?_⟩
        rcases List.mem_cons.mp hw with v | v
        · rw [v]; exact z
        · exact hA w v
theorem oc_mem_mid {A B : List oc_Cell} {x y : oc_Cell} (h : y ∈ A ++ B) : y ∈ A ++ x :: B := by
  rcases List.mem_append.mp h with z | z
  · exact List.mem_append.mpr (Or.inl z)
  · exact List.mem_append.mpr (Or.inr (List.mem_cons_of_mem _ z))
theorem oc_mem_self {A B : List oc_Cell} {x : oc_Cell} : x ∈ A ++ x :: B := List.mem_append.mpr (Or.inr List.mem_cons_self)
/-- taking the first cell of queue q out -/
theorem oc_Q_take {q : Nat} {A B : List oc_Cell} {x : oc_Cell} (hx : oc_q x = q) (hA : ∀ y, y ∈ A → oc_q y ≠ q) : oc_Q q (A ++ x :: B) = x :: oc_Q q (A ++ B) := by
  rw [oc_Q_app, oc_Q_app, oc_Q_none A hA, oc_Q_y hx]
  rfl
theorem oc_Q_keep {q : Nat} {A B : List oc_Cell} {x : oc_Cell} (hx : oc_q x ≠ q) : oc_Q q (A ++ x :: B) = oc_Q q (A ++ B) := by
  rw [oc_Q_app, oc_Q_app, oc_Q_n hx]
theorem oc_Q_put {q : Nat} {A : List oc_Cell} {x : oc_Cell} (hx : oc_q x = q) : oc_Q q (A ++ [x]) = oc_Q q A ++ [x] := by
  rw [oc_Q_app, oc_Q_y hx]
  rfl
theorem oc_Q_put_n {q : Nat} {A : List oc_Cell} {x : oc_Cell} (hx : oc_q x ≠ q) : oc_Q q (A ++ [x]) = oc_Q q A := by
  rw [oc_Q_app, oc_Q_n hx]
  exact List.append_nil _
theorem oc_n_keep {s d : Nat} {A B : List oc_Cell} {x : oc_Cell} (h : ¬ (oc_s x = s ∧ oc_d x = d)) : oc_n s d (A ++ x :: B) = oc_n s d (A ++ B) := by
  rw [oc_n_app, oc_n_app, oc_n_n h]
theorem oc_n_take {s d : Nat} {A B : List oc_Cell} {x : oc_Cell} (h : oc_s x = s ∧ oc_d x = d) : oc_n s d (A ++ x :: B) = oc_n s d (A ++ B) + 1 := by
  rw [oc_n_app, oc_n_app, oc_n_y h]
  omega
theorem oc_n_put {s d : Nat} {A : List oc_Cell} {x : oc_Cell} (h : oc_s x = s ∧ oc_d x = d) : oc_n s d (A ++ [x]) = oc_n s d A + 1 := by
  rw [oc_n_app, oc_n_y h]
  rfl
theorem oc_n_put_n {s d : Nat} {A : List oc_Cell} {x : oc_Cell} (h : ¬ (oc_s x = s ∧ oc_d x = d)) : oc_n s d (A ++ [x]) = oc_n s d A := by
  rw [oc_n_app, oc_n_n h]
  rfl
/-! ===== the layouts ===== -/
/-- the reference's list -/
def oc_Y (nc : Int32) (ys yf yl yb yt : Nat → Int32) (L : List oc_Cell) : Prop := nc = nI L.length ∧ ∀ (i : Nat) (x : oc_Cell), L[i]? = some x → ys i = nI (oc_s x) ∧ yf i = nI (1 - oc_d x) ∧ yl i = nI (oc_l x) ∧ yb i = oc_b x ∧ yt i = oc_t x
/-- the component's queues -/
def oc_X (wc cs cb : Nat → Int32) (L : List oc_Cell) : Prop := ∀ q, q < 12 → wc q = nI (oc_Q q L).length ∧ ∀ (i : Nat) (x : oc_Cell), (oc_Q q L)[i]? = some x → cs (q * 9 + i) = nI (oc_s x % 3) ∧ cb (q * 9 + i) = oc_w x
/-- a part of an array moved down by one -/
def oc_sh (a : Nat → Int32) (lo hi : Nat) : Nat → Int32 := fun i => if lo ≤ i ∧ i < hi then a (i + 1) else a i
theorem oc_sh_in {a : Nat → Int32} {lo hi i : Nat} (h1 : lo ≤ i) (h2 : i < hi) : oc_sh a lo hi i = a (i + 1) := if_pos ⟨h1, h2⟩
theorem oc_sh_out {a : Nat → Int32} {lo hi i : Nat} (h : ¬ (lo ≤ i ∧ i < hi)) : oc_sh a lo hi i = a i := if_neg h
theorem oc_sh_0 {a : Nat → Int32} {lo : Nat} : oc_sh a lo lo = a := by
  funext i
  exact oc_sh_out (by omega)
theorem oc_sh_s {a : Nat → Int32} {lo hi : Nat} (h : lo ≤ hi) : upd (oc_sh a lo hi) hi (oc_sh a lo hi (hi + 1)) = oc_sh a lo (hi + 1) := by
  funext i
  by_cases z : i = hi
  · subst z
    rw [pk_us, oc_sh_out (by omega), oc_sh_in h (by omega)]
  · rw [pk_un z]
    by_cases y : lo ≤ i ∧ i < hi
    · rw [oc_sh_in y.1 y.2, oc_sh_in y.1 (by omega)]
    · rw [oc_sh_out y, oc_sh_out (by omega)]
theorem oc_get_mid {A B : List oc_Cell} {x : oc_Cell} : (A ++ x :: B)[A.length]? = some x := by
  rw [List.getElem?_append_right (Nat.le_refl _), Nat.sub_self]
  rfl
theorem oc_get_lo {A B : List oc_Cell} {x y : oc_Cell} {i : Nat} (h : i < A.length) (e : (A ++ B)[i]? = some y) : (A ++ x :: B)[i]? = some y := by
  rw [List.getElem?_append_left h] at e ⊢
  exact e
theorem oc_get_hi {A B : List oc_Cell} {x y : oc_Cell} {i : Nat} (h : A.length ≤ i) (e : (A ++ B)[i]? = some y) : (A ++ x :: B)[i + 1]? = some y := by
  rw [List.getElem?_append_right h] at e
  rw [List.getElem?_append_right (by omega), show i + 1 - A.length = (i - A.length) + 1 from by omega]
  exact e
theorem oc_get_lt {L : List oc_Cell} {y : oc_Cell} {i : Nat} (e : L[i]? = some y) : i < L.length := by
  obtain ⟨h, _⟩ := List.getElem?_eq_some_iff.mp e
  exact h
theorem oc_get_put {A : List oc_Cell} {x y : oc_Cell} {i : Nat} (e : (A ++ [x])[i]? = some y) : (i < A.length ∧ A[i]? = some y) ∨ (i = A.length ∧ y = x) := by
  by_cases h : i < A.length
  · rw [List.getElem?_append_left h] at e
    exact Or.inl ⟨h, e⟩
  · have h2 := oc_get_lt e
    rw [List.length_append, List.length_singleton] at h2
    have h3 : i = A.length := by omega
    subst h3
    rw [oc_get_mid] at e
    exact Or.inr ⟨rfl, (Option.some.inj e).symm⟩
/-- the reference's list with the cell at A.length taken out -/
theorem oc_Y_take {nc : Int32} {ys yf yl yb yt : Nat → Int32} {A B : List oc_Cell} {x : oc_Cell} (h : oc_Y nc ys yf yl yb yt (A ++ x :: B)) : oc_Y (nI (A ++ B).length) (oc_sh ys A.length (A ++ B).length) (oc_sh yf A.length (A ++ B).length) (oc_sh yl A.length (A ++ B).length) (oc_sh yb A.length (A ++ B).length) (oc_sh yt A.length (A ++ B).length) (A ++ B) := by
  refine ⟨rfl, fun i y e => ?_⟩
  have hi := oc_get_lt e
  by_cases z : i < A.length
  · rw [oc_sh_out (by omega), oc_sh_out (by omega), oc_sh_out (by omega), oc_sh_out (by omega), oc_sh_out (by omega)]
    exact h.2 i y (oc_get_lo z e)
  · rw [oc_sh_in (by omega) hi, oc_sh_in (by omega) hi, oc_sh_in (by omega) hi, oc_sh_in (by omega) hi, oc_sh_in (by omega) hi]
    exact h.2 (i + 1) y (oc_get_hi (by omega) e)
/-- a cell appended to the reference's list -/
theorem oc_Y_put {nc : Int32} {ys yf yl yb yt : Nat → Int32} {A : List oc_Cell} {x : oc_Cell} (h : oc_Y nc ys yf yl yb yt A) : oc_Y (nI (A.length + 1)) (upd ys A.length (nI (oc_s x))) (upd yf A.length (nI (1 - oc_d x))) (upd yl A.length (nI (oc_l x))) (upd yb A.length (oc_b x)) (upd yt A.length (oc_t x)) (A ++ [x]) := by
  refine ⟨by rw [List.length_append]; rfl, fun i y e => ?_⟩
  rcases oc_get_put e with ⟨h1, h2⟩ | ⟨h1, h2⟩
  · rw [pk_un (by omega), pk_un (by omega), pk_un (by omega), pk_un (by omega), pk_un (by omega)]
    exact h.2 i y h2
  · subst h1 h2
    rw [pk_us, pk_us, pk_us, pk_us, pk_us]
    exact ⟨rfl, rfl, rfl, rfl, rfl⟩
/-- the first cell of queue q dropped -/
theorem oc_X_drop {wc cs cb : Nat → Int32} {A B : List oc_Cell} {x : oc_Cell} {q n : Nat} (hq : q < 12) (hx : oc_q x = q) (hA : ∀ y, y ∈ A → oc_q y ≠ q) (hn : (oc_Q q (A ++ B)).length = n) (hc : ∀ q, q < 12 → (oc_Q q (A ++ x :: B)).length ≤ 9) (h : oc_X wc cs cb (A ++ x :: B)) : oc_X (upd wc q (nI n)) (oc_sh cs (q * 9) (q * 9 + n)) (oc_sh cb (q * 9) (q * 9 + n)) (A ++ B) := by
  intro p hp
  obtain ⟨h1, h2⟩ := h p hp
  have h3 := hc p hp
  by_cases z : p = q
  · subst z
    rw [oc_Q_take hx hA] at h2 h3
    rw [List.length_cons] at h3
    rw [pk_us, hn]
    refine ⟨rfl, fun i y e => ?_⟩
    have hi := oc_get_lt e
    rw [oc_sh_in (by omega) (by omega), oc_sh_in (by omega) (by omega)]
    exact h2 (i + 1) y e
  · rw [oc_Q_keep (by rw [hx]; exact fun w => z w.symm)] at h1 h2 h3
    rw [pk_un z]
    refine ⟨h1, fun i y e => ?_⟩
    have hi := oc_get_lt e
    have h6 := hc q hq
    rw [oc_Q_take hx hA, List.length_cons] at h6
    rw [oc_sh_out (by omega), oc_sh_out (by omega)]
    exact h2 i y e
/-- a cell put behind queue q -/
theorem oc_X_put {wc cs cb : Nat → Int32} {A : List oc_Cell} {x : oc_Cell} {q n : Nat} (hx : oc_q x = q) (hn : (oc_Q q A).length = n) (hn9 : n < 9) (hc : ∀ q, q < 12 → (oc_Q q A).length ≤ 9) (h : oc_X wc cs cb A) : oc_X (upd wc q (nI (n + 1))) (upd cs (q * 9 + n) (nI (oc_s x % 3))) (upd cb (q * 9 + n) (oc_w x)) (A ++ [x]) := by
  intro p hp
  obtain ⟨h1, h2⟩ := h p hp
  have h3 := hc p hp
  by_cases z : p = q
  · subst z
    rw [oc_Q_put hx, pk_us, List.length_append, hn]
    refine ⟨rfl, fun i y e => ?_⟩
    rcases oc_get_put e with ⟨e1, e2⟩ | ⟨e1, e2⟩
    · rw [pk_un (by omega), pk_un (by omega)]
      exact h2 i y e2
    · subst e2
      rw [e1, hn, pk_us, pk_us]
      exact ⟨rfl, rfl⟩
  · rw [oc_Q_put_n (by rw [hx]; exact fun w => z w.symm), pk_un z]
    refine ⟨h1, fun i y e => ?_⟩
    have hi := oc_get_lt e
    rw [pk_un (by omega), pk_un (by omega)]
    exact h2 i y e
end
section
/-! ===== indices ===== -/
theorem oc_is (c d h : Nat) : (nI c * 2 + nI d) * 3 + nI h = nI (c * 6 + d * 3 + h) := by
  rw [show (2 : Int32) = nI 2 from rfl, show (3 : Int32) = nI 3 from rfl, pk_mul, nI_add, pk_mul, nI_add]
  exact congrArg nI (by omega)
theorem oc_is0 (c h : Nat) : (nI c * 2 + 0) * 3 + nI h = nI (c * 6 + h) := by
  have e := oc_is c 0 h
  rw [nI_0] at e
  rw [e]
  exact congrArg nI (by omega)
theorem oc_is1 (c h : Nat) : (nI c * 2 + 1) * 3 + nI h = nI (c * 6 + 3 + h) := by
  have e := oc_is c 1 h
  rw [show nI 1 = 1 from rfl] at e
  rw [e]
theorem oc_iq (c d h : Nat) : nI c * 6 + nI d * 3 + nI h = nI (c * 6 + d * 3 + h) := by
  rw [show (6 : Int32) = nI 6 from rfl, show (3 : Int32) = nI 3 from rfl, pk_mul, pk_mul, nI_add, nI_add]
theorem oc_iq0 (c h : Nat) : nI c * 6 + 0 * 3 + nI h = nI (c * 6 + h) := by
  have e := oc_iq c 0 h
  rw [nI_0] at e
  rw [e]
  exact congrArg nI (by omega)
theorem oc_iq1 (c h : Nat) : nI c * 6 + 1 * 3 + nI h = nI (c * 6 + 3 + h) := by
  have e := oc_iq c 1 h
  rw [show nI 1 = 1 from rfl] at e
  rw [e]
theorem oc_iq00 (c : Nat) : nI c * 6 + 0 * 3 + 0 = nI (c * 6) := by
  have e := oc_iq0 c 0
  rw [nI_0] at e
  exact e
theorem oc_i3 (c s : Nat) : nI c * 3 + nI s = nI (c * 3 + s) := by
  rw [show (3 : Int32) = nI 3 from rfl, pk_mul, nI_add]
theorem oc_iw0 (n : Nat) : nI n * 2 + 0 = nI (n * 2) := by
  rw [show (2 : Int32) = nI 2 from rfl, pk_mul, Int32.add_zero]
theorem oc_iw1 (n : Nat) : nI n * 2 + 1 = nI (n * 2 + 1) := by
  rw [show (2 : Int32) = nI 2 from rfl, pk_mul, nI_1]
theorem oc_iw (n d : Nat) : nI n * 2 + nI d = nI (n * 2 + d) := by
  rw [show (2 : Int32) = nI 2 from rfl, pk_mul, nI_add]
theorem oc_i9 (q n : Nat) : nI q * 9 + nI n = nI (q * 9 + n) := by
  rw [show (9 : Int32) = nI 9 from rfl, pk_mul, nI_add]
theorem oc_i90 (q : Nat) : nI q * 9 = nI (q * 9) := by
  rw [show (9 : Int32) = nI 9 from rfl, pk_mul]
theorem oc_i6 (q : Nat) : nI q * 6 = nI (q * 6) := by
  rw [show (6 : Int32) = nI 6 from rfl, pk_mul]
theorem oc_i66 (q : Nat) : nI q * 6 + 6 = nI (q * 6 + 6) := by
  rw [show (6 : Int32) = nI 6 from rfl, pk_mul, nI_add]
theorem oc_i30 (q : Nat) : nI q * 3 = nI (q * 3) := by
  rw [show (3 : Int32) = nI 3 from rfl, pk_mul]
theorem oc_i33 (q : Nat) : nI q * 3 + 3 = nI (q * 3 + 3) := by
  rw [show (3 : Int32) = nI 3 from rfl, pk_mul, nI_add]
theorem oc_i8 (q n : Nat) : nI q * 8 + nI n = nI (q * 8 + n) := by
  rw [show (8 : Int32) = nI 8 from rfl, pk_mul, nI_add]
theorem oc_and7 {n : Nat} (h : n < 2 ^ 31) : nI n &&& 7 = nI (n % 8) := pk_andN (by omega) 3 (by decide)
/-! ===== arguments ===== -/
def oc_bad (v : Int32) (n : Nat) : Prop := v < 0 ∨ nI n ≤ v
theorem oc_arg (v : Int32) {n : Nat} (hn : n < 2 ^ 31) : oc_bad v n ∨ ∃ j : Nat, j < n ∧ v = nI j := by
  rcases pk_ix v hn with h | h | h
  · exact Or.inl (Or.inl h)
  · exact Or.inl (Or.inr h)
  · exact Or.inr h
theorem oc_bad_ne {v : Int32} {n j : Nat} (hb : oc_bad v n) (hj : j < n) (hn : n < 2 ^ 31) : ¬ nI j = v := by
  intro e
  subst e
  rcases hb with h | h
  · exact nI_pos (by omega) h
  · exact nI_ge hj hn h
/-! ===== arrays ===== -/
def oc_zr (a : Nat → Int32) (lo hi : Nat) (v : Int32) : Nat → Int32 := fun i => if lo ≤ i ∧ i < hi then v else a i
theorem oc_zr_in {a : Nat → Int32} {lo hi i : Nat} {v : Int32} (h1 : lo ≤ i) (h2 : i < hi) : oc_zr a lo hi v i = v := if_pos ⟨h1, h2⟩
theorem oc_zr_out {a : Nat → Int32} {lo hi i : Nat} {v : Int32} (h : ¬ (lo ≤ i ∧ i < hi)) : oc_zr a lo hi v i = a i := if_neg h
theorem oc_zr_0 {a : Nat → Int32} {lo : Nat} {v : Int32} : oc_zr a lo lo v = a := by
  funext i
  exact oc_zr_out (by omega)
theorem oc_zr_s {a : Nat → Int32} {lo hi : Nat} {v : Int32} (h : lo ≤ hi) : upd (oc_zr a lo hi v) hi v = oc_zr a lo (hi + 1) v := by
  funext i
  by_cases z : i = hi
  · subst z
    rw [pk_us, oc_zr_in h (by omega)]
  · rw [pk_un z]
    by_cases y : lo ≤ i ∧ i < hi
    · rw [oc_zr_in y.1 y.2, oc_zr_in y.1 (by omega)]
    · rw [oc_zr_out y, oc_zr_out (by omega)]
def oc_up (a : Nat → Int32) (lo hi : Nat) : Nat → Int32 := fun i => if lo ≤ i ∧ i < hi then a i + 1 else a i
theorem oc_up_in {a : Nat → Int32} {lo hi i : Nat} (h1 : lo ≤ i) (h2 : i < hi) : oc_up a lo hi i = a i + 1 := if_pos ⟨h1, h2⟩
theorem oc_up_out {a : Nat → Int32} {lo hi i : Nat} (h : ¬ (lo ≤ i ∧ i < hi)) : oc_up a lo hi i = a i := if_neg h
theorem oc_up_0 {a : Nat → Int32} {lo : Nat} : oc_up a lo lo = a := by
  funext i
  exact oc_up_out (by omega)
theorem oc_up_s {a : Nat → Int32} {lo hi : Nat} (h : lo ≤ hi) : upd (oc_up a lo hi) hi (a hi + 1) = oc_up a lo (hi + 1) := by
  funext i
  by_cases z : i = hi
  · subst z
    rw [pk_us, oc_up_in h (by omega)]
  · rw [pk_un z]
    by_cases y : lo ≤ i ∧ i < hi
    · rw [oc_up_in y.1 y.2, oc_up_in y.1 (by omega)]
    · rw [oc_up_out y, oc_up_out (by omega)]
/-! ===== the component's small methods ===== -/
section
variable {ks : Int32} {hc ro ky cl rl cp rp jo uw gc gb wc cs cb : Nat → Int32}
theorem oc_xbad {post : Int32 → Prop} {v : Int32} (h : oc_bad v 2) (p : post 1) : wpX_badCircuit post v := by
  unfold wpX_badCircuit
  by_cases z : v < 0
  · exact br_t z p
  · refine br_f z (br_f ?_ p)
    intro w
    rcases h with h | h
    · exact z h
    · rw [Int32.le_iff_toInt_le] at h w
      have e1 : (nI 2).toInt = 2 := by decide
      have e2 : (1 : Int32).toInt = 1 := by decide
      omega
theorem oc_xok {post : Int32 → Prop} {c : Nat} (c2 : c < 2) (p : post 0) : wpX_badCircuit post (nI c) :=
  br_f (nI_pos (by omega)) (br_t (nI_le (b := 1) (by omega) (by decide)) p)
theorem oc_xstr {post : Int32 → Prop} {k p : Int32} (h : post (oc_str k p)) : wpX_stream post k p := nm_e (nm_e h)
theorem oc_xpad {post : Int32 → Prop} {k p : Int32} (h : post (oc_pad k p)) : wpX_pad post k p := oc_xstr h
theorem oc_xpk {post : Int32 → Prop} {b p : Int32} (h : post (oc_pk b p)) : wpX_packed post b p := h
theorem oc_xside {post : Int32 → Prop} {c d h : Nat} (p : post (nI (c * 6 + d * 3 + h))) : wpX_sideOf post (nI c) (nI d) (nI h) := by
  unfold wpX_sideOf
  rw [oc_is]
  exact p
theorem oc_xqueue {post : Int32 → Prop} {c d h : Nat} (p : post (nI (c * 6 + d * 3 + h))) : wpX_queueOf post (nI c) (nI d) (nI h) := by
  unfold wpX_queueOf
  rw [oc_iq]
  exact p
theorem oc_xway {post : Int32 → Prop} {c s d : Nat} (p : post (nI ((c * 3 + s) * 2 + d))) : wpX_wayOf post (nI c) (nI s) (nI d) := by
  unfold wpX_wayOf
  rw [oc_i3, oc_iw]
  exact p
theorem oc_xns_bad {post : Int32 → Prop} {p0 v : Int32} (h : oc_bad v 3) (p : post 1) : wpX_noStream post (ks, hc, ro, ky, cl, rl, cp, rp, jo, uw, gc, gb, wc, cs, cb) p0 v := by
  simp only [wpX_noStream]
  by_cases z : v < 0
  · exact br_t z p
  · exact br_f z (br_t (h.resolve_left z) p)
theorem oc_xns_no {post : Int32 → Prop} {c s : Nat} (c2 : c < 2) (hs : s < 3) (hj : jo (c * 3 + s) = -1) (p : post 1) : wpX_noStream post (ks, hc, ro, ky, cl, rl, cp, rp, jo, uw, gc, gb, wc, cs, cb) (nI c) (nI s) := by
  simp only [wpX_noStream, oc_i3, nI_clamp (show c * 3 + s < 2 ^ 31 by omega), hj]
  exact br_f (nI_pos (by omega)) (br_f (nI_ge (b := 3) hs (by decide)) ⟨vp_in_nI (by omega) (by omega), br_f (by decide) p⟩)
theorem oc_xns_ok {post : Int32 → Prop} {c s j : Nat} (c2 : c < 2) (hs : s < 3) (hj : jo (c * 3 + s) = nI j) (hj3 : j < 3) (p : post 0) : wpX_noStream post (ks, hc, ro, ky, cl, rl, cp, rp, jo, uw, gc, gb, wc, cs, cb) (nI c) (nI s) := by
  simp only [wpX_noStream, oc_i3, nI_clamp (show c * 3 + s < 2 ^ 31 by omega), hj]
  exact br_f (nI_pos (by omega)) (br_f (nI_ge (b := 3) hs (by decide)) ⟨vp_in_nI (by omega) (by omega), br_t (nI_pos' (by omega)) p⟩)
/-! refusal -/
theorem oc_xref_a {post : Int32 → Prop} {v s d : Int32} (h : oc_bad v 2) (p : post (-1)) : wpX_refusal post (ks, hc, ro, ky, cl, rl, cp, rp, jo, uw, gc, gb, wc, cs, cb) v s d := by
  simp only [wpX_refusal]
  exact oc_xbad h (br_f (by decide) p)
theorem oc_xref_b {post : Int32 → Prop} {c : Nat} {s d : Int32} (c2 : c < 2) (h0 : hc c = 0) (p : post (-5)) : wpX_refusal post (ks, hc, ro, ky, cl, rl, cp, rp, jo, uw, gc, gb, wc, cs, cb) (nI c) s d := by
  simp only [wpX_refusal, nI_clamp (show c < 2 ^ 31 by omega)]
  exact oc_xok c2 (br_t rfl ⟨vp_in_nI c2 (by omega), br_t h0 p⟩)
theorem oc_xref_c {post : Int32 → Prop} {c : Nat} {s d : Int32} (c2 : c < 2) (h0 : ¬ hc c = 0) (hs : oc_bad s 3) (p : post (-3)) : wpX_refusal post (ks, hc, ro, ky, cl, rl, cp, rp, jo, uw, gc, gb, wc, cs, cb) (nI c) s d := by
  simp only [wpX_refusal, nI_clamp (show c < 2 ^ 31 by omega)]
  exact oc_xok c2 (br_t rfl ⟨vp_in_nI c2 (by omega), br_f h0 (oc_xns_bad hs (br_f (by decide) p))⟩)
theorem oc_xref_d {post : Int32 → Prop} {c s : Nat} {d : Int32} (c2 : c < 2) (h0 : ¬ hc c = 0) (hs : s < 3) (hj : jo (c * 3 + s) = -1) (p : post (-3)) : wpX_refusal post (ks, hc, ro, ky, cl, rl, cp, rp, jo, uw, gc, gb, wc, cs, cb) (nI c) (nI s) d := by
  simp only [wpX_refusal, nI_clamp (show c < 2 ^ 31 by omega)]
  exact oc_xok c2 (br_t rfl ⟨vp_in_nI c2 (by omega), br_f h0 (oc_xns_no c2 hs hj (br_f (by decide) p))⟩)
theorem oc_xref_e {post : Int32 → Prop} {c s d j n : Nat} (c2 : c < 2) (h0 : ¬ hc c = 0) (hs : s < 3) (hd : d < 2) (hj : jo (c * 3 + s) = nI j) (hj3 : j < 3) (hu : uw ((c * 3 + s) * 2 + d) = nI n) (hn : 3 ≤ n) (hn2 : n < 2 ^ 31) (p : post (-6)) : wpX_refusal post (ks, hc, ro, ky, cl, rl, cp, rp, jo, uw, gc, gb, wc, cs, cb) (nI c) (nI s) (nI d) := by
  simp only [wpX_refusal, nI_clamp (show c < 2 ^ 31 by omega)]
  refine oc_xok c2 (br_t rfl ⟨vp_in_nI c2 (by omega), br_f h0 (oc_xns_ok c2 hs hj hj3 (br_t rfl (oc_xway ⟨vp_in_nI (by omega) (by omega), ?_⟩)))⟩)
  rw [nI_clamp (by omega), hu]
  exact br_f (nI_nlt (b := 3) hn hn2) p
theorem oc_xref_f {post : Int32 → Prop} {c s d j n : Nat} (c2 : c < 2) (h0 : ¬ hc c = 0) (hs : s < 3) (hd : d < 2) (hj : jo (c * 3 + s) = nI j) (hj3 : j < 3) (hu : uw ((c * 3 + s) * 2 + d) = nI n) (hn : n < 3) (p : post 0) : wpX_refusal post (ks, hc, ro, ky, cl, rl, cp, rp, jo, uw, gc, gb, wc, cs, cb) (nI c) (nI s) (nI d) := by
  simp only [wpX_refusal, nI_clamp (show c < 2 ^ 31 by omega)]
  refine oc_xok c2 (br_t rfl ⟨vp_in_nI c2 (by omega), br_f h0 (oc_xns_ok c2 hs hj hj3 (br_t rfl (oc_xway ⟨vp_in_nI (by omega) (by omega), ?_⟩)))⟩)
  rw [nI_clamp (by omega), hu]
  exact br_t (nI_lt (b := 3) hn (by decide)) p
/-! silent -/
theorem oc_xsil_a {post : Int32 → Prop} {v s : Int32} (h : oc_bad v 2) (p : post 1) : wpX_silent post (ks, hc, ro, ky, cl, rl, cp, rp, jo, uw, gc, gb, wc, cs, cb) v s := by
  simp only [wpX_silent]
  exact oc_xbad h (br_f (by decide) p)
theorem oc_xsil_b {post : Int32 → Prop} {c : Nat} {s : Int32} (c2 : c < 2) (h0 : hc c = 0) (p : post 1) : wpX_silent post (ks, hc, ro, ky, cl, rl, cp, rp, jo, uw, gc, gb, wc, cs, cb) (nI c) s := by
  simp only [wpX_silent, nI_clamp (show c < 2 ^ 31 by omega)]
  exact oc_xok c2 (br_t rfl ⟨vp_in_nI c2 (by omega), br_t h0 p⟩)
theorem oc_xsil_c {post : Int32 → Prop} {c : Nat} {s : Int32} (c2 : c < 2) (h0 : ¬ hc c = 0) (hs : oc_bad s 3) (p : post 1) : wpX_silent post (ks, hc, ro, ky, cl, rl, cp, rp, jo, uw, gc, gb, wc, cs, cb) (nI c) s := by
  simp only [wpX_silent, nI_clamp (show c < 2 ^ 31 by omega)]
  exact oc_xok c2 (br_t rfl ⟨vp_in_nI c2 (by omega), br_f h0 (oc_xns_bad hs (br_f (by decide) p))⟩)
theorem oc_xsil_d {post : Int32 → Prop} {c s : Nat} (c2 : c < 2) (h0 : ¬ hc c = 0) (hs : s < 3) (hj : jo (c * 3 + s) = -1) (p : post 1) : wpX_silent post (ks, hc, ro, ky, cl, rl, cp, rp, jo, uw, gc, gb, wc, cs, cb) (nI c) (nI s) := by
  simp only [wpX_silent, nI_clamp (show c < 2 ^ 31 by omega)]
  exact oc_xok c2 (br_t rfl ⟨vp_in_nI c2 (by omega), br_f h0 (oc_xns_no c2 hs hj (br_f (by decide) p))⟩)
theorem oc_xsil_f {post : Int32 → Prop} {c s j : Nat} (c2 : c < 2) (h0 : ¬ hc c = 0) (hs : s < 3) (hj : jo (c * 3 + s) = nI j) (hj3 : j < 3) (p : post 0) : wpX_silent post (ks, hc, ro, ky, cl, rl, cp, rp, jo, uw, gc, gb, wc, cs, cb) (nI c) (nI s) := by
  simp only [wpX_silent, nI_clamp (show c < 2 ^ 31 by omega)]
  exact oc_xok c2 (br_t rfl ⟨vp_in_nI c2 (by omega), br_f h0 (oc_xns_ok c2 hs hj hj3 (br_t rfl p))⟩)
/-! keys, queues, layers -/
def oc_ks (k : Int32) : Int32 := (k * 1664525) + 1013904223
def oc_key (k : Int32) : Int32 := oc_ks k ^^^ (((oc_ks k).toUInt32 >>> ((15 : Int32).toUInt32 &&& Int32.toUInt32 31)).toInt32)
theorem oc_xkey {pr : Int32 → SX → Prop} (h : pr (oc_key ks) (oc_ks ks, hc, ro, ky, cl, rl, cp, rp, jo, uw, gc, gb, wc, cs, cb)) : wpX_newKey pr (ks, hc, ro, ky, cl, rl, cp, rp, jo, uw, gc, gb, wc, cs, cb) := nm_e h
theorem oc_xenq {pu : SX → Prop} {q n : Nat} {p1 p2 : Int32} (hq : q < 12) (hn : n < 9) (hw : wc q = nI n) (h : pu (ks, hc, ro, ky, cl, rl, cp, rp, jo, uw, gc, gb, upd wc q (nI (n + 1)), upd cs (q * 9 + n) p1, upd cb (q * 9 + n) p2)) : wpX_enqueue pu (ks, hc, ro, ky, cl, rl, cp, rp, jo, uw, gc, gb, wc, cs, cb) (nI q) p1 p2 := by
  have g : nI n < 9 := nI_lt (b := 9) hn (by decide)
  simp only [wpX_enqueue, nI_clamp (show q < 2 ^ 31 by omega), hw, oc_i9, nI_clamp (show q * 9 + n < 2 ^ 31 by omega), vp_in_nI (show q < 12 by omega) (by omega), vp_in_nI (show q * 9 + n < 108 by omega) (by omega), g, nI_1, forall_eq, true_and, and_true, not_true_eq_false, not_false_eq_true, false_implies, true_implies, implies_true]
  exact h
theorem oc_x15 {pu : SX → Prop} {q n : Nat} (hq : q < 12) (hn : n ≤ 8) (hw : wc q = nI n) (h : pu (ks, hc, ro, ky, cl, rl, cp, rp, jo, uw, gc, gb, wc, oc_sh cs (q * 9) (q * 9 + n), oc_sh cb (q * 9) (q * 9 + n))) : ∀ (r i : Nat), i + r = n → ∀ k, r < k → wX_dropFirst_15 pu (nI q) ks k (nI (q * 9 + i)) hc ro ky cl rl cp rp jo uw gc gb wc (oc_sh cs (q * 9) (q * 9 + i)) (oc_sh cb (q * 9) (q * 9 + i)) := by
  intro r
  induction r with
  | zero =>
    intro i hi k hk
    obtain ⟨k, rfl⟩ : ∃ k', k = k' + 1 := ⟨k - 1, by omega⟩
    obtain rfl : i = n := by omega
    simp only [wX_dropFirst_15, nI_clamp (show q < 2 ^ 31 by omega), hw, oc_i9]
    exact ⟨vp_in_nI hq (by omega), br_t (nI_le (Nat.le_refl _) (by omega)) h⟩
  | succ r ih =>
    intro i hi k hk
    obtain ⟨k, rfl⟩ : ∃ k', k = k' + 1 := ⟨k - 1, by omega⟩
    have g : ¬ nI (q * 9 + n) ≤ nI (q * 9 + i) := nI_ge (by omega) (by omega)
    simp only [wX_dropFirst_15, nI_clamp (show q < 2 ^ 31 by omega), hw, oc_i9, g, nI_1, nI_clamp (show q * 9 + i < 2 ^ 31 by omega), nI_clamp (show q * 9 + i + 1 < 2 ^ 31 by omega), vp_in_nI (show q < 12 by omega) (by omega), vp_in_nI (show q * 9 + i < 108 by omega) (by omega), vp_in_nI (show q * 9 + i + 1 < 108 by omega) (by omega), oc_sh_s (show q * 9 ≤ q * 9 + i by omega), forall_eq, true_and, and_true, not_true_eq_false, not_false_eq_true, false_implies, true_implies, implies_true]
    exact ih (i + 1) (by omega) k (by omega)
theorem oc_xdrop {pu : SX → Prop} {q n : Nat} (hq : q < 12) (hn : n ≤ 8) (hw : wc q = nI (n + 1)) (h : pu (ks, hc, ro, ky, cl, rl, cp, rp, jo, uw, gc, gb, upd wc q (nI n), oc_sh cs (q * 9) (q * 9 + n), oc_sh cb (q * 9) (q * 9 + n))) : wpX_dropFirst pu (ks, hc, ro, ky, cl, rl, cp, rp, jo, uw, gc, gb, wc, cs, cb) (nI q) := by
  simp only [wpX_dropFirst, nI_clamp (show q < 2 ^ 31 by omega), hw, nI_pred, oc_i90, vp_in_nI (show q < 12 by omega) (by omega), forall_eq, true_and, and_true, not_true_eq_false, not_false_eq_true, false_implies, true_implies, implies_true]
  refine ⟨n + 1, ?_⟩
  have e := oc_x15 (ks := ks) (hc := hc) (ro := ro) (ky := ky) (cl := cl) (rl := rl) (cp := cp) (rp := rp) (jo := jo) (uw := uw) (gc := gc) (gb := gb) (wc := upd wc q (nI n)) (cs := cs) (cb := cb) hq hn pk_us h n 0 (by omega) (n + 1) (by omega)
  simp only [Nat.add_zero, oc_sh_0] at e
  exact e
theorem oc_xcov {pr : Int32 → SX → Prop} {c d h : Nat} (c2 : c < 2) (hd : d < 2) (hh : h < 3) (p : pr (oc_str (ky (c * 6 + d * 3 + h)) (rl (c * 6 + d * 3 + h))) (ks, hc, ro, ky, cl, upd rl (c * 6 + d * 3 + h) (rl (c * 6 + d * 3 + h) + 1), cp, rp, jo, uw, gc, gb, wc, cs, cb)) : wpX_relayCover pr (ks, hc, ro, ky, cl, rl, cp, rp, jo, uw, gc, gb, wc, cs, cb) (nI c) (nI d) (nI h) := by
  simp only [wpX_relayCover]
  refine oc_xside ⟨vp_in_nI (by omega) (by omega), vp_in_nI (by omega) (by omega), oc_xstr ⟨vp_in_nI (by omega) (by omega), vp_in_nI (by omega) (by omega), ?_⟩⟩
  rw [nI_clamp (by omega)]
  exact nm_e p
/-! extend -/
theorem oc_x83s {pr : Int32 → SX → Prop} {c d n k : Nat} (c2 : c < 2) (hd : d < 2) (hn : n < 3) (h : wX_extend_83 pr (nI c) (nI n) k (nI (d + 1)) (oc_ks ks) hc ro (upd ky (c * 6 + d * 3 + n) (oc_key ks)) (upd cl (c * 6 + d * 3 + n) 0) (upd rl (c * 6 + d * 3 + n) 0) (upd cp (c * 6 + d * 3 + n) 0) (upd rp (c * 6 + d * 3 + n) 0) jo uw gc gb wc cs cb) : wX_extend_83 pr (nI c) (nI n) (k + 1) (nI d) ks hc ro ky cl rl cp rp jo uw gc gb wc cs cb := by
  have g : ¬ (2 : Int32) ≤ nI d := nI_ge (b := 2) hd (by decide)
  simp only [wX_extend_83, wpX_sideOf, wpX_newKey, oc_is, nI_clamp (show c * 6 + d * 3 + n < 2 ^ 31 by omega), vp_in_nI (show c * 6 + d * 3 + n < 12 by omega) (by omega), g, nI_1, forall_eq, true_and, and_true, not_true_eq_false, not_false_eq_true, false_implies, true_implies, implies_true]
  exact h
theorem oc_x83 {pr : Int32 → SX → Prop} {c n : Nat} (c2 : c < 2) (hn : n < 3) (h : pr (nI (n + 1)) (oc_ks (oc_ks ks), upd hc c (nI (n + 1)), ro, upd (upd ky (c * 6 + 0 * 3 + n) (oc_key ks)) (c * 6 + 1 * 3 + n) (oc_key (oc_ks ks)), upd (upd cl (c * 6 + 0 * 3 + n) 0) (c * 6 + 1 * 3 + n) 0, upd (upd rl (c * 6 + 0 * 3 + n) 0) (c * 6 + 1 * 3 + n) 0, upd (upd cp (c * 6 + 0 * 3 + n) 0) (c * 6 + 1 * 3 + n) 0, upd (upd rp (c * 6 + 0 * 3 + n) 0) (c * 6 + 1 * 3 + n) 0, jo, uw, gc, gb, wc, cs, cb)) : wX_extend_83 pr (nI c) (nI n) 3 0 ks hc ro ky cl rl cp rp jo uw gc gb wc cs cb := by
  refine oc_x83s (d := 0) c2 (by omega) hn (oc_x83s (d := 1) c2 (by omega) hn ?_)
  have g : (2 : Int32) ≤ nI (1 + 1) := by decide
  simp only [wX_extend_83, g, nI_clamp (show c < 2 ^ 31 by omega), vp_in_nI c2 (show 2 < 2 ^ 31 by omega), nI_1, forall_eq, true_and, and_true, not_true_eq_false, not_false_eq_true, false_implies, true_implies, implies_true]
  exact h
theorem oc_x31f {pr : Int32 → SX → Prop} {c n : Nat} {v : Int32} (c2 : c < 2) (hn : n ≤ 3) (h : pr (-2) (ks, hc, ro, ky, cl, rl, cp, rp, jo, uw, gc, gb, wc, cs, cb)) : ∀ (r i : Nat), i + r = n → (∃ k, i ≤ k ∧ k < n ∧ ro (c * 3 + k) = v) → wX_extend_31 pr (nI c) v (nI n) ks hc ro ky cl rl cp rp jo uw gc gb wc cs cb (r + 1) (nI i) := by
  intro r
  induction r with
  | zero =>
    intro i hi ⟨k, h1, h2, h3⟩
    omega
  | succ r ih =>
    intro i hi hk
    have g : ¬ nI n ≤ nI i := nI_ge (by omega) (by omega)
    rw [wX_extend_31]
    simp only [oc_i3, nI_clamp (show c * 3 + i < 2 ^ 31 by omega), vp_in_nI (show c * 3 + i < 6 by omega) (by omega), g, nI_1, forall_eq, true_and, and_true, not_true_eq_false, not_false_eq_true, false_implies, true_implies, implies_true]
    refine br_c (fun _ => h) (fun z => ih (i + 1) (by omega) ?_)
    obtain ⟨k, h1, h2, h3⟩ := hk
    refine ⟨k, ?_, h2, h3⟩
    by_cases w : k = i
    · subst w; exact absurd h3 z
    · omega
theorem oc_x31e {pr : Int32 → SX → Prop} {c n : Nat} {v : Int32} (c2 : c < 2) (hn : n ≤ 3) (h3 : n = 3 → pr (-4) (ks, hc, ro, ky, cl, rl, cp, rp, jo, uw, gc, gb, wc, cs, cb)) (hr : ∀ k, k < n → ¬ ro (c * 3 + k) = v) (h : n < 3 → wX_extend_83 pr (nI c) (nI n) 3 0 ks hc (upd ro (c * 3 + n) v) ky cl rl cp rp jo uw gc gb wc cs cb) : ∀ (r i : Nat), i + r = n → wX_extend_31 pr (nI c) v (nI n) ks hc ro ky cl rl cp rp jo uw gc gb wc cs cb (r + 1) (nI i) := by
  intro r
  induction r with
  | zero =>
    intro i hi
    obtain rfl : i = n := by omega
    have g : nI i ≤ nI i := nI_le (Nat.le_refl _) (by omega)
    rw [wX_extend_31]
    simp only [g, forall_eq, true_and, and_true, not_true_eq_false, not_false_eq_true, false_implies, true_implies, implies_true]
    by_cases z : i = 3
    · exact br_f (nI_nlt (b := 3) (by omega) (by omega)) (h3 z)
    · refine br_t (nI_lt (b := 3) (by omega) (by decide)) ?_
      rw [oc_i3, nI_clamp (by omega)]
      exact ⟨vp_in_nI (by omega) (by omega), 3, h (by omega)⟩
  | succ r ih =>
    intro i hi
    have g : ¬ nI n ≤ nI i := nI_ge (by omega) (by omega)
    rw [wX_extend_31]
    simp only [oc_i3, nI_clamp (show c * 3 + i < 2 ^ 31 by omega), vp_in_nI (show c * 3 + i < 6 by omega) (by omega), g, nI_1, hr i (by omega), forall_eq, true_and, and_true, not_true_eq_false, not_false_eq_true, false_implies, true_implies, implies_true]
    exact ih (i + 1) (by omega)
theorem oc_xext_a {pr : Int32 → SX → Prop} {v w : Int32} (h : oc_bad v 2) (p : pr (-1) (ks, hc, ro, ky, cl, rl, cp, rp, jo, uw, gc, gb, wc, cs, cb)) : wpX_extend pr (ks, hc, ro, ky, cl, rl, cp, rp, jo, uw, gc, gb, wc, cs, cb) v w := by
  simp only [wpX_extend]
  exact oc_xbad h (br_f (by decide) p)
theorem oc_xext_b {pr : Int32 → SX → Prop} {c : Nat} {w : Int32} (c2 : c < 2) (hw : oc_bad w 5) (p : pr (-2) (ks, hc, ro, ky, cl, rl, cp, rp, jo, uw, gc, gb, wc, cs, cb)) : wpX_extend pr (ks, hc, ro, ky, cl, rl, cp, rp, jo, uw, gc, gb, wc, cs, cb) (nI c) w := by
  simp only [wpX_extend]
  refine oc_xok c2 (br_t rfl ?_)
  by_cases z : w < 0
  · exact br_t z p
  · refine br_f z (br_f ?_ p)
    intro y
    have h := hw.resolve_left z
    rw [Int32.le_iff_toInt_le] at h y
    have e1 : (nI 5).toInt = 5 := by decide
    have e2 : (4 : Int32).toInt = 4 := by decide
    omega
theorem oc_xext_c {pr : Int32 → SX → Prop} {c w n : Nat} (c2 : c < 2) (hw : w < 5) (hn : n ≤ 3) (hh : hc c = nI n) (p : wX_extend_31 pr (nI c) (nI w) (nI n) ks hc ro ky cl rl cp rp jo uw gc gb wc cs cb (n + 1) (nI 0)) : wpX_extend pr (ks, hc, ro, ky, cl, rl, cp, rp, jo, uw, gc, gb, wc, cs, cb) (nI c) (nI w) := by
  simp only [wpX_extend, nI_clamp (show c < 2 ^ 31 by omega), hh]
  exact oc_xok c2 (br_t rfl (br_f (nI_pos (by omega)) (br_t (nI_le (b := 4) (by omega) (by decide)) ⟨vp_in_nI c2 (by omega), nm_e ⟨n + 1, p⟩⟩)))
/-! destroy -/
theorem oc_x65 {pr : Int32 → SX → Prop} {c : Nat} {x2 : Int32} (c2 : c < 2) (h : pr x2 (ks, upd hc c 0, ro, ky, cl, rl, cp, rp, oc_zr jo (c * 3) (c * 3 + 3) (-1), uw, gc, gb, wc, cs, cb)) : ∀ (r i : Nat), i + r = 3 → wX_destroy_65 pr (nI c) x2 ks (r + 1) (nI (c * 3 + i)) hc ro ky cl rl cp rp (oc_zr jo (c * 3) (c * 3 + i) (-1)) uw gc gb wc cs cb := by
  intro r
  induction r with
  | zero =>
    intro i hi
    obtain rfl : i = 3 := by omega
    have g : nI (c * 3 + 3) ≤ nI (c * 3 + 3) := nI_le (Nat.le_refl _) (by omega)
    rw [wX_destroy_65]
    simp only [oc_i33, g, nI_clamp (show c < 2 ^ 31 by omega), vp_in_nI c2 (show 2 < 2 ^ 31 by omega), forall_eq, true_and, and_true, not_true_eq_false, not_false_eq_true, false_implies, true_implies, implies_true]
    exact h
  | succ r ih =>
    intro i hi
    have g : ¬ nI (c * 3 + 3) ≤ nI (c * 3 + i) := nI_ge (by omega) (by omega)
    rw [wX_destroy_65]
    simp only [oc_i33, g, nI_clamp (show c * 3 + i < 2 ^ 31 by omega), vp_in_nI (show c * 3 + i < 6 by omega) (show 6 < 2 ^ 31 by omega), oc_zr_s (show c * 3 ≤ c * 3 + i by omega), nI_1, forall_eq, true_and, and_true, not_true_eq_false, not_false_eq_true, false_implies, true_implies, implies_true]
    exact ih (i + 1) (by omega)
theorem oc_x28 {pr : Int32 → SX → Prop} {c : Nat} {f : Nat → Nat} (c2 : c < 2) (hf : ∀ q, q < 12 → wc q = nI (f q)) : ∀ (r i a : Nat), i + r = 6 → pr (nI (a + oc_sm f (c * 6 + i) r)) (ks, upd hc c 0, ro, ky, cl, rl, cp, rp, oc_zr jo (c * 3) (c * 3 + 3) (-1), uw, gc, gb, oc_zr wc (c * 6) (c * 6 + 6) 0, cs, cb) → wX_destroy_28 pr (nI c) ks (r + 1) (nI a) (nI (c * 6 + i)) hc ro ky cl rl cp rp jo uw gc gb (oc_zr wc (c * 6) (c * 6 + i) 0) cs cb := by
  intro r
  induction r with
  | zero =>
    intro i a hi h
    obtain rfl : i = 6 := by omega
    have g : nI (c * 6 + 6) ≤ nI (c * 6 + 6) := nI_le (Nat.le_refl _) (by omega)
    rw [wX_destroy_28]
    simp only [oc_i66, oc_i30, g, forall_eq, true_and, and_true, not_true_eq_false, not_false_eq_true, false_implies, true_implies, implies_true]
    refine ⟨4, ?_⟩
    have e := oc_x65 (ks := ks) (hc := hc) (ro := ro) (ky := ky) (cl := cl) (rl := rl) (cp := cp) (rp := rp) (jo := jo) (uw := uw) (gc := gc) (gb := gb) (wc := oc_zr wc (c * 6) (c * 6 + 6) 0) (cs := cs) (cb := cb) (pr := pr) (x2 := nI a) c2 h 3 0 (by omega)
    simp only [Nat.add_zero, oc_zr_0] at e
    exact e
  | succ r ih =>
    intro i a hi h
    have g : ¬ nI (c * 6 + 6) ≤ nI (c * 6 + i) := nI_ge (by omega) (by omega)
    rw [wX_destroy_28]
    simp only [oc_i66, g, nI_clamp (show c * 6 + i < 2 ^ 31 by omega), vp_in_nI (show c * 6 + i < 12 by omega) (show 12 < 2 ^ 31 by omega), oc_zr_out (show ¬ (c * 6 ≤ c * 6 + i ∧ c * 6 + i < c * 6 + i) by omega), hf (c * 6 + i) (by omega), nI_add, oc_zr_s (show c * 6 ≤ c * 6 + i by omega), nI_1, forall_eq, true_and, and_true, not_true_eq_false, not_false_eq_true, false_implies, true_implies, implies_true]
    refine ih (i + 1) (a + f (c * 6 + i)) (by omega) ?_
    rw [Nat.add_assoc]
    exact h
theorem oc_xdes_a {pr : Int32 → SX → Prop} {v : Int32} (h : oc_bad v 2) (p : pr (-1) (ks, hc, ro, ky, cl, rl, cp, rp, jo, uw, gc, gb, wc, cs, cb)) : wpX_destroy pr (ks, hc, ro, ky, cl, rl, cp, rp, jo, uw, gc, gb, wc, cs, cb) v := by
  simp only [wpX_destroy]
  exact oc_xbad h (br_f (by decide) p)
theorem oc_xdes_b {pr : Int32 → SX → Prop} {c : Nat} (c2 : c < 2) (h0 : hc c = 0) (p : pr (-5) (ks, hc, ro, ky, cl, rl, cp, rp, jo, uw, gc, gb, wc, cs, cb)) : wpX_destroy pr (ks, hc, ro, ky, cl, rl, cp, rp, jo, uw, gc, gb, wc, cs, cb) (nI c) := by
  simp only [wpX_destroy, nI_clamp (show c < 2 ^ 31 by omega)]
  exact oc_xok c2 (br_t rfl ⟨vp_in_nI c2 (by omega), br_t h0 p⟩)
theorem oc_xdes {pr : Int32 → SX → Prop} {c : Nat} {f : Nat → Nat} (c2 : c < 2) (h0 : ¬ hc c = 0) (hf : ∀ q, q < 12 → wc q = nI (f q)) (h : pr (nI (oc_sm f (c * 6) 6)) (ks, upd hc c 0, ro, ky, cl, rl, cp, rp, oc_zr jo (c * 3) (c * 3 + 3) (-1), uw, gc, gb, oc_zr wc (c * 6) (c * 6 + 6) 0, cs, cb)) : wpX_destroy pr (ks, hc, ro, ky, cl, rl, cp, rp, jo, uw, gc, gb, wc, cs, cb) (nI c) := by
  simp only [wpX_destroy, nI_clamp (show c < 2 ^ 31 by omega), oc_i6]
  refine oc_xok c2 (br_t rfl ⟨vp_in_nI c2 (by omega), br_f h0 (nm_e ⟨7, ?_⟩)⟩)
  have e := oc_x28 (ks := ks) (hc := hc) (ro := ro) (ky := ky) (cl := cl) (rl := rl) (cp := cp) (rp := rp) (jo := jo) (uw := uw) (gc := gc) (gb := gb) (wc := wc) (cs := cs) (cb := cb) (pr := pr) c2 hf 6 0 0 (by omega) (by rw [Nat.zero_add]; exact h)
  simp only [Nat.add_zero, oc_zr_0] at e
  exact e
/-! open -/
theorem oc_x69s {pr : Int32 → SX → Prop} {c s d k : Nat} (c2 : c < 2) (hs : s < 3) (hd : d < 2) (h : wX_open_69 pr (nI c) (nI s) ks k (nI (d + 1)) hc ro ky cl rl cp rp jo (upd uw ((c * 3 + s) * 2 + d) 0) (upd gc ((c * 3 + s) * 2 + d) 0) gb wc cs cb) : wX_open_69 pr (nI c) (nI s) ks (k + 1) (nI d) hc ro ky cl rl cp rp jo uw gc gb wc cs cb := by
  have g : ¬ (2 : Int32) ≤ nI d := nI_ge (b := 2) hd (by decide)
  simp only [wX_open_69, wpX_wayOf, oc_i3, oc_iw, nI_clamp (show (c * 3 + s) * 2 + d < 2 ^ 31 by omega), vp_in_nI (show (c * 3 + s) * 2 + d < 12 by omega) (by omega), g, nI_1, forall_eq, true_and, and_true, not_true_eq_false, not_false_eq_true, false_implies, true_implies, implies_true]
  exact h
theorem oc_x69 {pr : Int32 → SX → Prop} {c s n : Nat} (c2 : c < 2) (hs : s < 3) (hh : hc c = nI (n + 1)) (h : pr (nI n) (ks, hc, ro, ky, cl, rl, cp, rp, jo, upd (upd uw ((c * 3 + s) * 2 + 0) 0) ((c * 3 + s) * 2 + 1) 0, upd (upd gc ((c * 3 + s) * 2 + 0) 0) ((c * 3 + s) * 2 + 1) 0, gb, wc, cs, cb)) : wX_open_69 pr (nI c) (nI s) ks 3 0 hc ro ky cl rl cp rp jo uw gc gb wc cs cb := by
  refine oc_x69s (d := 0) c2 hs (by omega) (oc_x69s (d := 1) c2 hs (by omega) ?_)
  have g : (2 : Int32) ≤ nI (1 + 1) := by decide
  simp only [wX_open_69, g, nI_clamp (show c < 2 ^ 31 by omega), vp_in_nI c2 (show 2 < 2 ^ 31 by omega), hh, nI_pred, forall_eq, true_and, and_true, not_true_eq_false, not_false_eq_true, false_implies, true_implies, implies_true]
  exact h
theorem oc_xopn_a {pr : Int32 → SX → Prop} {v w : Int32} (h : oc_bad v 2) (p : pr (-1) (ks, hc, ro, ky, cl, rl, cp, rp, jo, uw, gc, gb, wc, cs, cb)) : wpX_open pr (ks, hc, ro, ky, cl, rl, cp, rp, jo, uw, gc, gb, wc, cs, cb) v w := by
  simp only [wpX_open]
  exact oc_xbad h (br_f (by decide) p)
theorem oc_xopn_b {pr : Int32 → SX → Prop} {c : Nat} {w : Int32} (c2 : c < 2) (h0 : hc c = 0) (p : pr (-5) (ks, hc, ro, ky, cl, rl, cp, rp, jo, uw, gc, gb, wc, cs, cb)) : wpX_open pr (ks, hc, ro, ky, cl, rl, cp, rp, jo, uw, gc, gb, wc, cs, cb) (nI c) w := by
  simp only [wpX_open, nI_clamp (show c < 2 ^ 31 by omega)]
  exact oc_xok c2 (br_t rfl ⟨vp_in_nI c2 (by omega), br_t h0 p⟩)
theorem oc_xopn_c {pr : Int32 → SX → Prop} {c : Nat} {w : Int32} (c2 : c < 2) (h0 : ¬ hc c = 0) (hw : oc_bad w 3) (p : pr (-3) (ks, hc, ro, ky, cl, rl, cp, rp, jo, uw, gc, gb, wc, cs, cb)) : wpX_open pr (ks, hc, ro, ky, cl, rl, cp, rp, jo, uw, gc, gb, wc, cs, cb) (nI c) w := by
  simp only [wpX_open, nI_clamp (show c < 2 ^ 31 by omega)]
  refine oc_xok c2 (br_t rfl ⟨vp_in_nI c2 (by omega), br_f h0 ?_⟩)
  by_cases z : w < 0
  · exact br_t z p
  · exact br_f z (br_f (Int32.not_lt.mpr (hw.resolve_left z)) p)
theorem oc_xopn_d {pr : Int32 → SX → Prop} {c s j : Nat} (c2 : c < 2) (h0 : ¬ hc c = 0) (hs : s < 3) (hj : jo (c * 3 + s) = nI j) (hj3 : j < 3) (p : pr (-8) (ks, hc, ro, ky, cl, rl, cp, rp, jo, uw, gc, gb, wc, cs, cb)) : wpX_open pr (ks, hc, ro, ky, cl, rl, cp, rp, jo, uw, gc, gb, wc, cs, cb) (nI c) (nI s) := by
  simp only [wpX_open, nI_clamp (show c < 2 ^ 31 by omega), oc_i3, nI_clamp (show c * 3 + s < 2 ^ 31 by omega), hj]
  exact oc_xok c2 (br_t rfl ⟨vp_in_nI c2 (by omega), br_f h0 (br_f (nI_pos (by omega)) (br_t (nI_lt (b := 3) hs (by decide)) ⟨vp_in_nI (by omega) (by omega), br_f (nI_pos (by omega)) p⟩))⟩)
theorem oc_xopn {pr : Int32 → SX → Prop} {c s n : Nat} (c2 : c < 2) (hs : s < 3) (hn : n < 3) (hh : hc c = nI (n + 1)) (hj : jo (c * 3 + s) = -1) (p : pr (nI n) (ks, hc, ro, ky, cl, rl, cp, rp, upd jo (c * 3 + s) (nI n), upd (upd uw ((c * 3 + s) * 2 + 0) 0) ((c * 3 + s) * 2 + 1) 0, upd (upd gc ((c * 3 + s) * 2 + 0) 0) ((c * 3 + s) * 2 + 1) 0, gb, wc, cs, cb)) : wpX_open pr (ks, hc, ro, ky, cl, rl, cp, rp, jo, uw, gc, gb, wc, cs, cb) (nI c) (nI s) := by
  simp only [wpX_open, nI_clamp (show c < 2 ^ 31 by omega), oc_i3, nI_clamp (show c * 3 + s < 2 ^ 31 by omega), hj, hh, nI_pred]
  exact oc_xok c2 (br_t rfl ⟨vp_in_nI c2 (by omega), br_f (nI_ne0 (by omega) (by omega)) (br_f (nI_pos (by omega)) (br_t (nI_lt (b := 3) hs (by decide)) ⟨vp_in_nI (by omega) (by omega), br_t (by decide) ⟨vp_in_nI c2 (by omega), vp_in_nI (by omega) (by omega), nm_e ⟨3, oc_x69 c2 hs hh p⟩⟩⟩))⟩)
end
end
section
/-! ===== the component: sending, moving, questions ===== -/
def oc_k (a : Nat → Int32) (b : Nat) : Nat → Int32 := fun h => a (b + h)
theorem oc_dir {A : Int32 → Prop} {d : Nat} (hd : d < 2) (h : A (nI d)) : (nI (1 - d) = 0 → A 1) ∧ (¬ nI (1 - d) = 0 → A 0) := by
  have z : d = 0 ∨ d = 1 := by omega
  rcases z with rfl | rfl
  · exact br_f (by decide) h
  · exact br_t (by decide) h
theorem oc_dirE (v : Int32) : ∃ d : Nat, d < 2 ∧ lw_bz v = nI (1 - d) := by
  rcases lw_bz_01 v with h | h
  · exact ⟨1, by omega, h⟩
  · exact ⟨0, by omega, h⟩
theorem oc_xstrE {post : Int32 → Prop} {k p : Int32} : wpX_stream post k p ↔ post (oc_str k p) := ⟨fun h => h _ rfl _ rfl, oc_xstr⟩
theorem oc_xpadE {post : Int32 → Prop} {k p : Int32} : wpX_pad post k p ↔ post (oc_pad k p) := ⟨fun h => h _ rfl _ rfl, oc_xpad⟩
section
variable {ks : Int32} {hc ro ky cl rl cp rp jo uw gc gb wc cs cb : Nat → Int32}
/-! send -/
theorem oc_xs83 {pr : Int32 → SX → Prop} {c s j : Nat} (c2 : c < 2) (hj : j < 3) : ∀ (r i : Nat) (acc : Int32), i + r = j + 1 → wX_send_83 pr (nI c) (nI s) (nI j) ks 1 (acc ^^^ oc_ly (oc_k ky (c * 6)) (oc_k cl (c * 6)) i r) (nI (j + 1)) hc ro ky (oc_up cl (c * 6) (c * 6 + (j + 1))) rl cp rp jo uw gc gb wc cs cb → wX_send_83 pr (nI c) (nI s) (nI j) ks (r + 1) acc (nI i) hc ro ky (oc_up cl (c * 6) (c * 6 + i)) rl cp rp jo uw gc gb wc cs cb := by
  intro r
  induction r with
  | zero =>
    intro i acc hi h
    obtain rfl : i = j + 1 := by omega
    rw [show oc_ly (oc_k ky (c * 6)) (oc_k cl (c * 6)) (j + 1) 0 = 0 from rfl, Int32.xor_zero] at h
    exact h
  | succ r ih =>
    intro i acc hi h
    have g : ¬ nI j < nI i := nI_nlt (by omega) (by omega)
    rw [wX_send_83]
    simp only [g, wpX_sideOf, oc_is0, oc_xstrE, nI_clamp (show c * 6 + i < 2 ^ 31 by omega), vp_in_nI (show c * 6 + i < 12 by omega) (show 12 < 2 ^ 31 by omega), oc_up_out (show ¬ (c * 6 ≤ c * 6 + i ∧ c * 6 + i < c * 6 + i) by omega), oc_up_s (show c * 6 ≤ c * 6 + i by omega), nI_1, forall_eq, true_and, and_true, not_true_eq_false, not_false_eq_true, false_implies, true_implies, implies_true]
    refine ih (i + 1) _ (by omega) ?_
    rw [Int32.xor_assoc]
    exact h
theorem oc_xsend {pr : Int32 → SX → Prop} {c s j n u : Nat} {b : Int32} (c2 : c < 2) (hs : s < 3) (hj3 : j < 3) (hn : n < 9) (hu3 : u < 3) (h0 : ¬ hc c = 0) (hj : jo (c * 3 + s) = nI j) (hw : wc (c * 6) = nI n) (hu : uw ((c * 3 + s) * 2) = nI u)
    (p : pr (nI (u + 1)) (ks, hc, ro, ky, oc_up cl (c * 6) (c * 6 + (j + 1)), rl, upd cp (c * 6 + j) (cp (c * 6 + j) + 1), rp, jo, upd uw ((c * 3 + s) * 2) (nI (u + 1)), gc, gb, upd wc (c * 6) (nI (n + 1)), upd cs (c * 6 * 9 + n) (nI s), upd cb (c * 6 * 9 + n) (oc_pk (b &&& 255) (oc_pad (ky (c * 6 + j)) (cp (c * 6 + j))) ^^^ oc_ly (oc_k ky (c * 6)) (oc_k cl (c * 6)) 0 (j + 1)))) : wpX_send pr (ks, hc, ro, ky, cl, rl, cp, rp, jo, uw, gc, gb, wc, cs, cb) (nI c) (nI s) b := by
  simp only [wpX_send, oc_i3, nI_clamp (show c * 3 + s < 2 ^ 31 by omega), hj, vp_in_nI (show c * 3 + s < 6 by omega) (show 6 < 2 ^ 31 by omega), wpX_sideOf, oc_is0, nI_clamp (show c * 6 + j < 2 ^ 31 by omega), vp_in_nI (show c * 6 + j < 12 by omega) (show 12 < 2 ^ 31 by omega), oc_xpadE, forall_eq, true_and, and_true, not_true_eq_false, not_false_eq_true, false_implies, true_implies, implies_true]
  refine oc_xref_f (d := 0) c2 h0 hs (by omega) hj hj3 hu hu3 (br_t rfl (oc_xpk ⟨j + 2, ?_⟩))
  have e := oc_xs83 (ks := ks) (hc := hc) (ro := ro) (ky := ky) (cl := cl) (rl := rl) (cp := upd cp (c * 6 + j) (cp (c * 6 + j) + 1)) (rp := rp) (jo := jo) (uw := uw) (gc := gc) (gb := gb) (wc := wc) (cs := cs) (cb := cb) (pr := pr) (c := c) (s := s) (j := j) c2 hj3 (j + 1) 0 (oc_pk (b &&& 255) (oc_pad (ky (c * 6 + j)) (cp (c * 6 + j)))) (by omega)
  simp only [Nat.add_zero, oc_up_0] at e
  refine e ?_
  have g : nI j < nI (j + 1) := nI_lt (by omega) (by omega)
  rw [wX_send_83]
  simp only [g, wpX_queueOf, oc_iq00, forall_eq, true_and, and_true, not_true_eq_false, not_false_eq_true, false_implies, true_implies, implies_true]
  refine oc_xenq (by omega) hn hw ?_
  simp only [wpX_wayOf, oc_i3, oc_iw0, nI_clamp (show (c * 3 + s) * 2 < 2 ^ 31 by omega), vp_in_nI (show (c * 3 + s) * 2 < 12 by omega) (show 12 < 2 ^ 31 by omega), hu, nI_1, pk_us, forall_eq, true_and, and_true, not_true_eq_false, not_false_eq_true, false_implies, true_implies, implies_true]
  exact p
theorem oc_xreply {pr : Int32 → SX → Prop} {c s j n u : Nat} {b : Int32} (c2 : c < 2) (hs : s < 3) (hj3 : j < 3) (hn : n < 9) (hu3 : u < 3) (h0 : ¬ hc c = 0) (hj : jo (c * 3 + s) = nI j) (hw : wc (c * 6 + 3 + j) = nI n) (hu : uw ((c * 3 + s) * 2 + 1) = nI u)
    (p : pr (nI (u + 1)) (ks, hc, ro, ky, cl, upd rl (c * 6 + 3 + j) (rl (c * 6 + 3 + j) + 1), cp, upd rp (c * 6 + 3 + j) (rp (c * 6 + 3 + j) + 1), jo, upd uw ((c * 3 + s) * 2 + 1) (nI (u + 1)), gc, gb, upd wc (c * 6 + 3 + j) (nI (n + 1)), upd cs ((c * 6 + 3 + j) * 9 + n) (nI s), upd cb ((c * 6 + 3 + j) * 9 + n) (oc_pk (b &&& 255) (oc_pad (ky (c * 6 + 3 + j)) (rp (c * 6 + 3 + j))) ^^^ oc_str (ky (c * 6 + 3 + j)) (rl (c * 6 + 3 + j))))) : wpX_reply pr (ks, hc, ro, ky, cl, rl, cp, rp, jo, uw, gc, gb, wc, cs, cb) (nI c) (nI s) b := by
  simp only [wpX_reply, oc_i3, nI_clamp (show c * 3 + s < 2 ^ 31 by omega), hj, vp_in_nI (show c * 3 + s < 6 by omega) (show 6 < 2 ^ 31 by omega), wpX_sideOf, oc_is1, nI_clamp (show c * 6 + 3 + j < 2 ^ 31 by omega), vp_in_nI (show c * 6 + 3 + j < 12 by omega) (show 12 < 2 ^ 31 by omega), oc_xpadE, forall_eq, true_and, and_true, not_true_eq_false, not_false_eq_true, false_implies, true_implies, implies_true]
  refine oc_xref_f (d := 1) c2 h0 hs (by omega) hj hj3 hu hu3 (br_t rfl (oc_xpk ?_))
  refine oc_xcov (d := 1) c2 (by omega) hj3 ?_
  simp only [wpX_queueOf, oc_iq1, forall_eq, true_and, and_true, not_true_eq_false, not_false_eq_true, false_implies, true_implies, implies_true]
  refine oc_xenq (by omega) hn hw ?_
  simp only [wpX_wayOf, oc_i3, oc_iw1, nI_clamp (show (c * 3 + s) * 2 + 1 < 2 ^ 31 by omega), vp_in_nI (show (c * 3 + s) * 2 + 1 < 12 by omega) (show 12 < 2 ^ 31 by omega), hu, nI_1, pk_us, forall_eq, true_and, and_true, not_true_eq_false, not_false_eq_true, false_implies, true_implies, implies_true]
  exact p
/-! arrive -/
theorem oc_xarr_g {pr : Int32 → SX → Prop} {c s d u g : Nat} {b t cov bits : Int32} (c2 : c < 2) (hs : s < 3) (hd : d < 2) (hb : b &&& 255 = b) (ht : t = 0) (hbits : bits = oc_pk b cov ^^^ t) (hu : uw ((c * 3 + s) * 2 + d) = nI (u + 1)) (hg : gc ((c * 3 + s) * 2 + d) = nI g) (hg2 : g < 2 ^ 31)
    (p : pr 1 (ks, hc, ro, ky, cl, rl, cp, rp, jo, upd uw ((c * 3 + s) * 2 + d) (nI u), upd gc ((c * 3 + s) * 2 + d) (nI (g + 1)), upd gb (((c * 3 + s) * 2 + d) * 8 + g % 8) b, wc, cs, cb)) : wpX_arrive pr (ks, hc, ro, ky, cl, rl, cp, rp, jo, uw, gc, gb, wc, cs, cb) (nI c) (nI s) (nI d) bits cov := by
  subst ht
  subst hbits
  have f : (((oc_pk b cov ^^^ 0) >>> ((8 : Int32) &&& 31)) ^^^ (cov &&& 255)) = ((oc_pk b cov ^^^ 0) &&& 255) := (oc_fits hb (by decide)).mpr rfl
  have e : (oc_pk b cov ^^^ 0) &&& 255 = b := by rw [oc_fit_r hb (by decide), Int32.xor_zero]
  have w8 : ((c * 3 + s) * 2 + d) * 8 + g % 8 < 96 := by omega
  simp only [wpX_arrive, wpX_fits]
  refine br_t f (br_f (by decide) (oc_xway ?_))
  simp only [nI_clamp (show (c * 3 + s) * 2 + d < 2 ^ 31 by omega), vp_in_nI (show (c * 3 + s) * 2 + d < 12 by omega) (show 12 < 2 ^ 31 by omega), hu, hg, nI_pred, nI_1, e, oc_and7 hg2, oc_i8, nI_clamp (show ((c * 3 + s) * 2 + d) * 8 + g % 8 < 2 ^ 31 by omega), vp_in_nI w8 (show 96 < 2 ^ 31 by omega), forall_eq, true_and, and_true, not_true_eq_false, not_false_eq_true, false_implies, true_implies, implies_true]
  exact p
theorem oc_xarr_b {pr : Int32 → SX → Prop} {c : Nat} {s d b t cov bits : Int32} {f : Nat → Nat} (c2 : c < 2) (h0 : ¬ hc c = 0) (hf : ∀ q, q < 12 → wc q = nI (f q)) (hb : b &&& 255 = b) (ht : t &&& 255 = t) (ht0 : ¬ t = 0) (hbits : bits = oc_pk b cov ^^^ t)
    (p : pr 2 (ks, upd hc c 0, ro, ky, cl, rl, cp, rp, oc_zr jo (c * 3) (c * 3 + 3) (-1), uw, gc, gb, oc_zr wc (c * 6) (c * 6 + 6) 0, cs, cb)) : wpX_arrive pr (ks, hc, ro, ky, cl, rl, cp, rp, jo, uw, gc, gb, wc, cs, cb) (nI c) s d bits cov := by
  subst hbits
  simp only [wpX_arrive, wpX_fits]
  exact br_f (fun z => ht0 ((oc_fits hb ht).mp z)) (br_t trivial (oc_xdes c2 h0 hf p))
/-! forward -/
theorem oc_xfw_m {pr : Int32 → SX → Prop} {c l s j n : Nat} {w : Int32} (c2 : c < 2) (hs : s < 3) (hj3 : j < 3) (hl : l < j) (hn : n < 9) (hj : jo (c * 3 + s) = nI j) (hw : wc (c * 6 + (l + 1)) = nI n)
    (p : pr 0 (ks, hc, ro, ky, cl, upd rl (c * 6 + l) (rl (c * 6 + l) + 1), cp, rp, jo, uw, gc, gb, upd wc (c * 6 + (l + 1)) (nI (n + 1)), upd cs ((c * 6 + (l + 1)) * 9 + n) (nI s), upd cb ((c * 6 + (l + 1)) * 9 + n) (w ^^^ oc_str (ky (c * 6 + l)) (rl (c * 6 + l))))) : wpX_moveForward pr (ks, hc, ro, ky, cl, rl, cp, rp, jo, uw, gc, gb, wc, cs, cb) (nI c) (nI l) (nI s) w := by
  have g : ¬ nI j ≤ nI l := nI_ge hl (by omega)
  simp only [wpX_moveForward]
  refine oc_xcov (d := 0) c2 (by omega) (by omega) ?_
  simp only [oc_i3, nI_clamp (show c * 3 + s < 2 ^ 31 by omega), hj, vp_in_nI (show c * 3 + s < 6 by omega) (show 6 < 2 ^ 31 by omega), g, nI_1, wpX_queueOf, oc_iq0, forall_eq, true_and, and_true, not_true_eq_false, not_false_eq_true, false_implies, true_implies, implies_true]
  exact oc_xenq (by omega) hn hw p
theorem oc_xfw_a {pr : Int32 → SX → Prop} {c l s j : Nat} {w : Int32} (c2 : c < 2) (hs : s < 3) (hj3 : j < 3) (hl : j = l) (hj : jo (c * 3 + s) = nI j)
    (p : ∀ pr' : Int32 → SX → Prop, (∀ r u, pr r u → pr' r u) → wpX_arrive pr' (ks, hc, ro, ky, cl, upd rl (c * 6 + l) (rl (c * 6 + l) + 1), cp, upd rp (c * 6 + l) (rp (c * 6 + l) + 1), jo, uw, gc, gb, wc, cs, cb) (nI c) (nI s) (nI 0) (w ^^^ oc_str (ky (c * 6 + l)) (rl (c * 6 + l))) (oc_pad (ky (c * 6 + l)) (rp (c * 6 + l)))) : wpX_moveForward pr (ks, hc, ro, ky, cl, rl, cp, rp, jo, uw, gc, gb, wc, cs, cb) (nI c) (nI l) (nI s) w := by
  have g : nI j ≤ nI l := nI_le (by omega) (by omega)
  simp only [wpX_moveForward]
  refine oc_xcov (d := 0) c2 (by omega) (by omega) ?_
  simp only [oc_i3, nI_clamp (show c * 3 + s < 2 ^ 31 by omega), hj, vp_in_nI (show c * 3 + s < 6 by omega) (show 6 < 2 ^ 31 by omega), g, wpX_sideOf, oc_is0, nI_clamp (show c * 6 + l < 2 ^ 31 by omega), vp_in_nI (show c * 6 + l < 12 by omega) (show 12 < 2 ^ 31 by omega), oc_xpadE, forall_eq, true_and, and_true, not_true_eq_false, not_false_eq_true, false_implies, true_implies, implies_true]
  exact p _ (fun r ⟨_, _, _, _, _, _, _, _, _, _, _, _, _, _, _⟩ h => h)
/-! backward -/
theorem oc_xbw_m {pr : Int32 → SX → Prop} {c l s n : Nat} {w : Int32} (c2 : c < 2) (hl : l < 2) (hn : n < 9) (hw : wc (c * 6 + 3 + l) = nI n)
    (p : pr 0 (ks, hc, ro, ky, cl, upd rl (c * 6 + 3 + l) (rl (c * 6 + 3 + l) + 1), cp, rp, jo, uw, gc, gb, upd wc (c * 6 + 3 + l) (nI (n + 1)), upd cs ((c * 6 + 3 + l) * 9 + n) (nI s), upd cb ((c * 6 + 3 + l) * 9 + n) (w ^^^ oc_str (ky (c * 6 + 3 + l)) (rl (c * 6 + 3 + l))))) : wpX_moveBackward pr (ks, hc, ro, ky, cl, rl, cp, rp, jo, uw, gc, gb, wc, cs, cb) (nI c) (nI (l + 1)) (nI s) w := by
  have g : ¬ nI (l + 1) ≤ 0 := nI_nle (by omega) (by omega)
  simp only [wpX_moveBackward, g, nI_pred, forall_eq, true_and, and_true, not_true_eq_false, not_false_eq_true, false_implies, true_implies, implies_true]
  refine oc_xcov (d := 1) c2 (by omega) (by omega) ?_
  simp only [wpX_queueOf, oc_iq1, forall_eq, true_and, and_true, not_true_eq_false, not_false_eq_true, false_implies, true_implies, implies_true]
  exact oc_xenq (by omega) hn hw p
theorem oc_x58 {pr : Int32 → SX → Prop} {c s j : Nat} (c2 : c < 2) (hj : j < 3) : ∀ (r i : Nat) (acc : Int32), i + r = j + 1 → wX_moveBackward_58 pr (nI c) (nI s) (nI j) ks 1 (acc ^^^ oc_ly (oc_k ky (c * 6 + 3)) (oc_k cl (c * 6 + 3)) i r) (nI (j + 1)) hc ro ky (oc_up cl (c * 6 + 3) (c * 6 + 3 + (j + 1))) rl cp rp jo uw gc gb wc cs cb → wX_moveBackward_58 pr (nI c) (nI s) (nI j) ks (r + 1) acc (nI i) hc ro ky (oc_up cl (c * 6 + 3) (c * 6 + 3 + i)) rl cp rp jo uw gc gb wc cs cb := by
  intro r
  induction r with
  | zero =>
    intro i acc hi h
    obtain rfl : i = j + 1 := by omega
    rw [show oc_ly (oc_k ky (c * 6 + 3)) (oc_k cl (c * 6 + 3)) (j + 1) 0 = 0 from rfl, Int32.xor_zero] at h
    exact h
  | succ r ih =>
    intro i acc hi h
    have g : ¬ nI j < nI i := nI_nlt (by omega) (by omega)
    rw [wX_moveBackward_58]
    simp only [g, wpX_sideOf, oc_is1, oc_xstrE, nI_clamp (show c * 6 + 3 + i < 2 ^ 31 by omega), vp_in_nI (show c * 6 + 3 + i < 12 by omega) (show 12 < 2 ^ 31 by omega), oc_up_out (show ¬ (c * 6 + 3 ≤ c * 6 + 3 + i ∧ c * 6 + 3 + i < c * 6 + 3 + i) by omega), oc_up_s (show c * 6 + 3 ≤ c * 6 + 3 + i by omega), nI_1, forall_eq, true_and, and_true, not_true_eq_false, not_false_eq_true, false_implies, true_implies, implies_true]
    refine ih (i + 1) _ (by omega) ?_
    rw [Int32.xor_assoc]
    exact h
theorem oc_xbw_a {pr : Int32 → SX → Prop} {c s j : Nat} {w : Int32} (c2 : c < 2) (hs : s < 3) (hj3 : j < 3) (hj : jo (c * 3 + s) = nI j)
    (p : ∀ pr' : Int32 → SX → Prop, (∀ r u, pr r u → pr' r u) → wpX_arrive pr' (ks, hc, ro, ky, oc_up cl (c * 6 + 3) (c * 6 + 3 + (j + 1)), rl, upd cp (c * 6 + 3 + j) (cp (c * 6 + 3 + j) + 1), rp, jo, uw, gc, gb, wc, cs, cb) (nI c) (nI s) (nI 1) (w ^^^ oc_ly (oc_k ky (c * 6 + 3)) (oc_k cl (c * 6 + 3)) 0 (j + 1)) (oc_pad (ky (c * 6 + 3 + j)) (cp (c * 6 + 3 + j)))) : wpX_moveBackward pr (ks, hc, ro, ky, cl, rl, cp, rp, jo, uw, gc, gb, wc, cs, cb) (nI c) (nI 0) (nI s) w := by
  have g : nI 0 ≤ 0 := by decide
  simp only [wpX_moveBackward, g, oc_i3, nI_clamp (show c * 3 + s < 2 ^ 31 by omega), hj, vp_in_nI (show c * 3 + s < 6 by omega) (show 6 < 2 ^ 31 by omega), forall_eq, true_and, and_true, not_true_eq_false, not_false_eq_true, false_implies, true_implies, implies_true]
  refine ⟨j + 2, ?_⟩
  have e := oc_x58 (ks := ks) (hc := hc) (ro := ro) (ky := ky) (cl := cl) (rl := rl) (cp := cp) (rp := rp) (jo := jo) (uw := uw) (gc := gc) (gb := gb) (wc := wc) (cs := cs) (cb := cb) (pr := pr) (c := c) (s := s) (j := j) c2 hj3 (j + 1) 0 w (by omega)
  simp only [Nat.add_zero, oc_up_0] at e
  refine e ?_
  have g2 : nI j < nI (j + 1) := nI_lt (by omega) (by omega)
  rw [wX_moveBackward_58]
  simp only [g2, wpX_sideOf, oc_is1, nI_clamp (show c * 6 + 3 + j < 2 ^ 31 by omega), vp_in_nI (show c * 6 + 3 + j < 12 by omega) (show 12 < 2 ^ 31 by omega), oc_xpadE, forall_eq, true_and, and_true, not_true_eq_false, not_false_eq_true, false_implies, true_implies, implies_true]
  exact p _ (fun r ⟨_, _, _, _, _, _, _, _, _, _, _, _, _, _, _⟩ h => h)
/-! move -/
theorem oc_xmv_a {pr : Int32 → SX → Prop} {v w z : Int32} (h : oc_bad v 2) (p : pr (-1) (ks, hc, ro, ky, cl, rl, cp, rp, jo, uw, gc, gb, wc, cs, cb)) : wpX_move pr (ks, hc, ro, ky, cl, rl, cp, rp, jo, uw, gc, gb, wc, cs, cb) v w z := by
  simp only [wpX_move]
  exact oc_xbad h (br_f (by decide) p)
theorem oc_xmv_b {pr : Int32 → SX → Prop} {c : Nat} {w z : Int32} (c2 : c < 2) (h0 : hc c = 0) (p : pr (-5) (ks, hc, ro, ky, cl, rl, cp, rp, jo, uw, gc, gb, wc, cs, cb)) : wpX_move pr (ks, hc, ro, ky, cl, rl, cp, rp, jo, uw, gc, gb, wc, cs, cb) (nI c) w z := by
  simp only [wpX_move, nI_clamp (show c < 2 ^ 31 by omega)]
  exact oc_xok c2 (br_t rfl ⟨vp_in_nI c2 (by omega), br_t h0 p⟩)
theorem oc_xmv_c {pr : Int32 → SX → Prop} {c : Nat} {w z : Int32} (c2 : c < 2) (h0 : ¬ hc c = 0) (hw : oc_bad w 3) (p : pr (-7) (ks, hc, ro, ky, cl, rl, cp, rp, jo, uw, gc, gb, wc, cs, cb)) : wpX_move pr (ks, hc, ro, ky, cl, rl, cp, rp, jo, uw, gc, gb, wc, cs, cb) (nI c) w z := by
  simp only [wpX_move, nI_clamp (show c < 2 ^ 31 by omega)]
  refine oc_xok c2 (br_t rfl ⟨vp_in_nI c2 (by omega), br_f h0 ?_⟩)
  by_cases y : w < 0
  · exact br_t y p
  · exact br_f y (br_f (Int32.not_lt.mpr (hw.resolve_left y)) p)
theorem oc_xmv_43 {pr : Int32 → SX → Prop} {c d l : Nat} (c2 : c < 2) (hd : d < 2) (hl : l < 3) (h0 : ¬ hc c = 0) (p : wX_move_43 pr (nI c) (nI l) (nI (1 - d)) (nI d) (nI c) ks hc ro ky cl rl cp rp jo uw gc gb wc cs cb) : wpX_move pr (ks, hc, ro, ky, cl, rl, cp, rp, jo, uw, gc, gb, wc, cs, cb) (nI c) (nI l) (nI (1 - d)) := by
  simp only [wpX_move, nI_clamp (show c < 2 ^ 31 by omega)]
  exact oc_xok c2 (br_t rfl ⟨vp_in_nI c2 (by omega), br_f h0 (br_f (nI_pos (by omega)) (br_t (nI_lt (b := 3) hl (by decide)) (oc_dir (A := fun z => wX_move_43 pr (nI c) (nI l) (nI (1 - d)) z (nI c) ks hc ro ky cl rl cp rp jo uw gc gb wc cs cb) hd p)))⟩)
theorem oc_xmv_d {pr : Int32 → SX → Prop} {c d l : Nat} (c2 : c < 2) (hd : d < 2) (hl : l < 3) (h0 : ¬ hc c = 0) (hw : wc (c * 6 + d * 3 + l) = 0) (p : pr (-7) (ks, hc, ro, ky, cl, rl, cp, rp, jo, uw, gc, gb, wc, cs, cb)) : wpX_move pr (ks, hc, ro, ky, cl, rl, cp, rp, jo, uw, gc, gb, wc, cs, cb) (nI c) (nI l) (nI (1 - d)) := by
  refine oc_xmv_43 c2 hd hl h0 ?_
  simp only [wX_move_43, wpX_queueOf, oc_iq, nI_clamp (show c * 6 + d * 3 + l < 2 ^ 31 by omega)]
  exact ⟨vp_in_nI (by omega) (by omega), br_t hw p⟩
theorem oc_xmv_f {pr : Int32 → SX → Prop} {c l n : Nat} {sv bv : Int32} (c2 : c < 2) (hl : l < 3) (h0 : ¬ hc c = 0) (hn : n ≤ 8) (hw : wc (c * 6 + l) = nI (n + 1)) (hs : cs ((c * 6 + l) * 9) = sv) (hb : cb ((c * 6 + l) * 9) = bv)
    (p : ∀ pr' : Int32 → SX → Prop, (∀ r u, pr r u → pr' r u) → wpX_moveForward pr' (ks, hc, ro, ky, cl, rl, cp, rp, jo, uw, gc, gb, upd wc (c * 6 + l) (nI n), oc_sh cs ((c * 6 + l) * 9) ((c * 6 + l) * 9 + n), oc_sh cb ((c * 6 + l) * 9) ((c * 6 + l) * 9 + n)) (nI c) (nI l) sv bv) : wpX_move pr (ks, hc, ro, ky, cl, rl, cp, rp, jo, uw, gc, gb, wc, cs, cb) (nI c) (nI l) (nI (1 - 0)) := by
  refine oc_xmv_43 (d := 0) c2 (by omega) hl h0 ?_
  have g : ¬ nI (n + 1) = 0 := nI_ne0 (by omega) (by omega)
  have g2 : ¬ nI (1 - 0) = 0 := by decide
  rw [nI_0]
  simp only [wX_move_43, wpX_queueOf, oc_iq0, nI_clamp (show c * 6 + l < 2 ^ 31 by omega), vp_in_nI (show c * 6 + l < 12 by omega) (show 12 < 2 ^ 31 by omega), hw, g, oc_i90, nI_clamp (show (c * 6 + l) * 9 < 2 ^ 31 by omega), vp_in_nI (show (c * 6 + l) * 9 < 108 by omega) (show 108 < 2 ^ 31 by omega), hs, hb, forall_eq, true_and, and_true, not_true_eq_false, not_false_eq_true, false_implies, true_implies, implies_true]
  refine oc_xdrop (by omega) hn hw (br_f g2 ?_)
  exact p _ (fun r ⟨_, _, _, _, _, _, _, _, _, _, _, _, _, _, _⟩ h => h)
theorem oc_xmv_b2 {pr : Int32 → SX → Prop} {c l n : Nat} {sv bv : Int32} (c2 : c < 2) (hl : l < 3) (h0 : ¬ hc c = 0) (hn : n ≤ 8) (hw : wc (c * 6 + 3 + l) = nI (n + 1)) (hs : cs ((c * 6 + 3 + l) * 9) = sv) (hb : cb ((c * 6 + 3 + l) * 9) = bv)
    (p : ∀ pr' : Int32 → SX → Prop, (∀ r u, pr r u → pr' r u) → wpX_moveBackward pr' (ks, hc, ro, ky, cl, rl, cp, rp, jo, uw, gc, gb, upd wc (c * 6 + 3 + l) (nI n), oc_sh cs ((c * 6 + 3 + l) * 9) ((c * 6 + 3 + l) * 9 + n), oc_sh cb ((c * 6 + 3 + l) * 9) ((c * 6 + 3 + l) * 9 + n)) (nI c) (nI l) sv bv) : wpX_move pr (ks, hc, ro, ky, cl, rl, cp, rp, jo, uw, gc, gb, wc, cs, cb) (nI c) (nI l) (nI (1 - 1)) := by
  refine oc_xmv_43 (d := 1) c2 (by omega) hl h0 ?_
  have g : ¬ nI (n + 1) = 0 := nI_ne0 (by omega) (by omega)
  have g2 : nI (1 - 1) = 0 := by decide
  rw [show nI 1 = 1 from rfl]
  simp only [wX_move_43, wpX_queueOf, oc_iq1, nI_clamp (show c * 6 + 3 + l < 2 ^ 31 by omega), vp_in_nI (show c * 6 + 3 + l < 12 by omega) (show 12 < 2 ^ 31 by omega), hw, g, oc_i90, nI_clamp (show (c * 6 + 3 + l) * 9 < 2 ^ 31 by omega), vp_in_nI (show (c * 6 + 3 + l) * 9 < 108 by omega) (show 108 < 2 ^ 31 by omega), hs, hb, forall_eq, true_and, and_true, not_true_eq_false, not_false_eq_true, false_implies, true_implies, implies_true]
  refine oc_xdrop (by omega) hn hw (br_t g2 ?_)
  exact p _ (fun r ⟨_, _, _, _, _, _, _, _, _, _, _, _, _, _, _⟩ h => h)
/-! tamper -/
theorem oc_xtm_a {pr : Int32 → SX → Prop} {v w z y : Int32} (h : oc_bad v 2) (p : pr (-1) (ks, hc, ro, ky, cl, rl, cp, rp, jo, uw, gc, gb, wc, cs, cb)) : wpX_tamper pr (ks, hc, ro, ky, cl, rl, cp, rp, jo, uw, gc, gb, wc, cs, cb) v w z y := by
  simp only [wpX_tamper]
  exact oc_xbad h (br_f (by decide) p)
theorem oc_xtm_b {pr : Int32 → SX → Prop} {c : Nat} {w z y : Int32} (c2 : c < 2) (h0 : hc c = 0) (p : pr (-5) (ks, hc, ro, ky, cl, rl, cp, rp, jo, uw, gc, gb, wc, cs, cb)) : wpX_tamper pr (ks, hc, ro, ky, cl, rl, cp, rp, jo, uw, gc, gb, wc, cs, cb) (nI c) w z y := by
  simp only [wpX_tamper, nI_clamp (show c < 2 ^ 31 by omega)]
  exact oc_xok c2 (br_t rfl ⟨vp_in_nI c2 (by omega), br_t h0 p⟩)
theorem oc_xtm_c {pr : Int32 → SX → Prop} {c : Nat} {w z y : Int32} (c2 : c < 2) (h0 : ¬ hc c = 0) (hw : oc_bad w 3) (p : pr (-7) (ks, hc, ro, ky, cl, rl, cp, rp, jo, uw, gc, gb, wc, cs, cb)) : wpX_tamper pr (ks, hc, ro, ky, cl, rl, cp, rp, jo, uw, gc, gb, wc, cs, cb) (nI c) w z y := by
  simp only [wpX_tamper, nI_clamp (show c < 2 ^ 31 by omega)]
  refine oc_xok c2 (br_t rfl ⟨vp_in_nI c2 (by omega), br_f h0 ?_⟩)
  by_cases y : w < 0
  · exact br_t y p
  · exact br_f y (br_f (Int32.not_lt.mpr (hw.resolve_left y)) p)
theorem oc_xtm_43 {pr : Int32 → SX → Prop} {c d l : Nat} {y : Int32} (c2 : c < 2) (hd : d < 2) (hl : l < 3) (h0 : ¬ hc c = 0) (p : wX_tamper_43 pr (nI l) y (nI d) (nI c) ks hc ro ky cl rl cp rp jo uw gc gb wc cs cb) : wpX_tamper pr (ks, hc, ro, ky, cl, rl, cp, rp, jo, uw, gc, gb, wc, cs, cb) (nI c) (nI l) (nI (1 - d)) y := by
  simp only [wpX_tamper, nI_clamp (show c < 2 ^ 31 by omega)]
  exact oc_xok c2 (br_t rfl ⟨vp_in_nI c2 (by omega), br_f h0 (br_f (nI_pos (by omega)) (br_t (nI_lt (b := 3) hl (by decide)) (oc_dir (A := fun z => wX_tamper_43 pr (nI l) y z (nI c) ks hc ro ky cl rl cp rp jo uw gc gb wc cs cb) hd p)))⟩)
theorem oc_xtm_d {pr : Int32 → SX → Prop} {c d l : Nat} {y : Int32} (c2 : c < 2) (hd : d < 2) (hl : l < 3) (h0 : ¬ hc c = 0) (hw : wc (c * 6 + d * 3 + l) = 0) (p : pr (-7) (ks, hc, ro, ky, cl, rl, cp, rp, jo, uw, gc, gb, wc, cs, cb)) : wpX_tamper pr (ks, hc, ro, ky, cl, rl, cp, rp, jo, uw, gc, gb, wc, cs, cb) (nI c) (nI l) (nI (1 - d)) y := by
  refine oc_xtm_43 c2 hd hl h0 ?_
  simp only [wX_tamper_43, wpX_queueOf, oc_iq, nI_clamp (show c * 6 + d * 3 + l < 2 ^ 31 by omega)]
  exact ⟨vp_in_nI (by omega) (by omega), br_t hw p⟩
theorem oc_xtm {pr : Int32 → SX → Prop} {c d l n : Nat} {y : Int32} (c2 : c < 2) (hd : d < 2) (hl : l < 3) (h0 : ¬ hc c = 0) (hn : n ≤ 8) (hw : wc (c * 6 + d * 3 + l) = nI (n + 1)) (p : pr 0 (ks, hc, ro, ky, cl, rl, cp, rp, jo, uw, gc, gb, wc, cs, upd cb ((c * 6 + d * 3 + l) * 9) (cb ((c * 6 + d * 3 + l) * 9) ^^^ (y &&& 255)))) : wpX_tamper pr (ks, hc, ro, ky, cl, rl, cp, rp, jo, uw, gc, gb, wc, cs, cb) (nI c) (nI l) (nI (1 - d)) y := by
  refine oc_xtm_43 c2 hd hl h0 ?_
  have g : ¬ nI (n + 1) = 0 := nI_ne0 (by omega) (by omega)
  simp only [wX_tamper_43, wpX_queueOf, oc_iq, nI_clamp (show c * 6 + d * 3 + l < 2 ^ 31 by omega), vp_in_nI (show c * 6 + d * 3 + l < 12 by omega) (show 12 < 2 ^ 31 by omega), hw, g, oc_i90, nI_clamp (show (c * 6 + d * 3 + l) * 9 < 2 ^ 31 by omega), vp_in_nI (show (c * 6 + d * 3 + l) * 9 < 108 by omega) (show 108 < 2 ^ 31 by omega), forall_eq, true_and, and_true, not_true_eq_false, not_false_eq_true, false_implies, true_implies, implies_true]
  exact p
/-! questions -/
theorem oc_xgot_n {post : Int32 → Prop} {v w z : Int32} (h : ∀ post' : Int32 → Prop, post' 1 → wpX_silent post' (ks, hc, ro, ky, cl, rl, cp, rp, jo, uw, gc, gb, wc, cs, cb) v w) (p : post 0) : wpX_got post (ks, hc, ro, ky, cl, rl, cp, rp, jo, uw, gc, gb, wc, cs, cb) v w z := by
  simp only [wpX_got]
  exact h _ (br_f (by decide) p)
theorem oc_xgot {post : Int32 → Prop} {c s d : Nat} (c2 : c < 2) (hs : s < 3) (hd : d < 2) (h : ∀ post' : Int32 → Prop, post' 0 → wpX_silent post' (ks, hc, ro, ky, cl, rl, cp, rp, jo, uw, gc, gb, wc, cs, cb) (nI c) (nI s)) (p : post (gc ((c * 3 + s) * 2 + d))) : wpX_got post (ks, hc, ro, ky, cl, rl, cp, rp, jo, uw, gc, gb, wc, cs, cb) (nI c) (nI s) (nI (1 - d)) := by
  simp only [wpX_got]
  refine h _ (br_t rfl (oc_dir (A := fun z => wX_got_26 post z (nI s) (nI c) ks hc ro ky cl rl cp rp jo uw gc gb wc cs cb) hd ?_))
  simp only [wX_got_26]
  refine oc_xway ⟨vp_in_nI (by omega) (by omega), ?_⟩
  rw [nI_clamp (by omega)]
  exact p
theorem oc_xbg_n {post : Int32 → Prop} {v w z y : Int32} (h : ∀ post' : Int32 → Prop, post' 1 → wpX_silent post' (ks, hc, ro, ky, cl, rl, cp, rp, jo, uw, gc, gb, wc, cs, cb) v w) (p : post (-7)) : wpX_byteGot post (ks, hc, ro, ky, cl, rl, cp, rp, jo, uw, gc, gb, wc, cs, cb) v w z y := by
  simp only [wpX_byteGot]
  exact h _ (br_f (by decide) p)
theorem oc_xbg_b {post : Int32 → Prop} {c s d : Nat} {y : Int32} (c2 : c < 2) (hs : s < 3) (hd : d < 2) (h : ∀ post' : Int32 → Prop, post' 0 → wpX_silent post' (ks, hc, ro, ky, cl, rl, cp, rp, jo, uw, gc, gb, wc, cs, cb) (nI c) (nI s)) (hy : oc_bad y 8) (p : post (-7)) : wpX_byteGot post (ks, hc, ro, ky, cl, rl, cp, rp, jo, uw, gc, gb, wc, cs, cb) (nI c) (nI s) (nI (1 - d)) y := by
  simp only [wpX_byteGot]
  refine h _ (br_t rfl (oc_dir (A := fun z => wX_byteGot_23 post y z (nI s) (nI c) ks hc ro ky cl rl cp rp jo uw gc gb wc cs cb) hd ?_))
  simp only [wX_byteGot_23]
  refine oc_xway ?_
  by_cases z : y < 0
  · exact br_t z p
  · refine br_f z (br_t ?_ p)
    have h := hy.resolve_left z
    rw [Int32.le_iff_toInt_le] at h
    rw [Int32.lt_iff_toInt_lt]
    have e1 : (nI 8).toInt = 8 := by decide
    have e2 : (7 : Int32).toInt = 7 := by decide
    omega
theorem oc_xbg_o {post : Int32 → Prop} {c s d y g : Nat} (c2 : c < 2) (hs : s < 3) (hd : d < 2) (h : ∀ post' : Int32 → Prop, post' 0 → wpX_silent post' (ks, hc, ro, ky, cl, rl, cp, rp, jo, uw, gc, gb, wc, cs, cb) (nI c) (nI s)) (hy : y < 8) (hg : gc ((c * 3 + s) * 2 + d) = nI g) (hg2 : g ≤ y) (p : post (-7)) : wpX_byteGot post (ks, hc, ro, ky, cl, rl, cp, rp, jo, uw, gc, gb, wc, cs, cb) (nI c) (nI s) (nI (1 - d)) (nI y) := by
  simp only [wpX_byteGot]
  refine h _ (br_t rfl (oc_dir (A := fun z => wX_byteGot_23 post (nI y) z (nI s) (nI c) ks hc ro ky cl rl cp rp jo uw gc gb wc cs cb) hd ?_))
  simp only [wX_byteGot_23]
  refine oc_xway (br_f (nI_pos (by omega)) (br_f (nI_nlt (a := 7) (by omega) (by decide)) ⟨vp_in_nI (by omega) (by omega), ?_⟩))
  rw [nI_clamp (by omega), hg]
  exact br_f (nI_nlt hg2 (by omega)) p
theorem oc_xbg {post : Int32 → Prop} {c s d y g : Nat} (c2 : c < 2) (hs : s < 3) (hd : d < 2) (h : ∀ post' : Int32 → Prop, post' 0 → wpX_silent post' (ks, hc, ro, ky, cl, rl, cp, rp, jo, uw, gc, gb, wc, cs, cb) (nI c) (nI s)) (hy : y < 8) (hg : gc ((c * 3 + s) * 2 + d) = nI g) (hg2 : y < g) (hg3 : g < 2 ^ 31) (p : post (gb (((c * 3 + s) * 2 + d) * 8 + (g - 1 - y) % 8))) : wpX_byteGot post (ks, hc, ro, ky, cl, rl, cp, rp, jo, uw, gc, gb, wc, cs, cb) (nI c) (nI s) (nI (1 - d)) (nI y) := by
  simp only [wpX_byteGot]
  refine h _ (br_t rfl (oc_dir (A := fun z => wX_byteGot_23 post (nI y) z (nI s) (nI c) ks hc ro ky cl rl cp rp jo uw gc gb wc cs cb) hd ?_))
  simp only [wX_byteGot_23]
  refine oc_xway (br_f (nI_pos (by omega)) (br_f (nI_nlt (a := 7) (by omega) (by decide)) ⟨vp_in_nI (by omega) (by omega), ?_⟩))
  rw [nI_clamp (show (c * 3 + s) * 2 + d < 2 ^ 31 by omega), hg]
  refine br_t (nI_lt hg2 hg3) ⟨vp_in_nI (by omega) (by omega), ?_⟩
  have e : nI g - 1 - nI y = nI (g - 1 - y) := by
    rw [show (1 : Int32) = nI 1 from rfl, pk_sub (by omega), pk_sub (by omega)]
  rw [e, oc_and7 (by omega), oc_i8, nI_clamp (by omega)]
  exact ⟨vp_in_nI (by omega) (by omega), p⟩
theorem oc_xwt_n {post : Int32 → Prop} {v w z : Int32} (h : oc_bad v 2 ∨ (∃ c, c < 2 ∧ v = nI c ∧ hc c = 0) ∨ (∃ c, c < 2 ∧ v = nI c ∧ oc_bad w 3)) (p : post 0) : wpX_waiting post (ks, hc, ro, ky, cl, rl, cp, rp, jo, uw, gc, gb, wc, cs, cb) v w z := by
  simp only [wpX_waiting]
  rcases h with h | ⟨c, c2, rfl, h⟩ | ⟨c, c2, rfl, h⟩
  · exact oc_xbad h (br_f (by decide) p)
  · refine oc_xok c2 (br_t rfl ⟨vp_in_nI c2 (by omega), br_t ?_ p⟩)
    rw [nI_clamp (by omega)]; exact h
  · refine oc_xok c2 (br_t rfl ⟨vp_in_nI c2 (by omega), br_c (fun _ => p) (fun _ => ?_)⟩)
    by_cases y : w < 0
    · exact br_t y p
    · exact br_f y (br_f (Int32.not_lt.mpr (h.resolve_left y)) p)
theorem oc_xwt {post : Int32 → Prop} {c d l : Nat} (c2 : c < 2) (hd : d < 2) (hl : l < 3) (h0 : ¬ hc c = 0) (p : post (wc (c * 6 + d * 3 + l))) : wpX_waiting post (ks, hc, ro, ky, cl, rl, cp, rp, jo, uw, gc, gb, wc, cs, cb) (nI c) (nI l) (nI (1 - d)) := by
  simp only [wpX_waiting, nI_clamp (show c < 2 ^ 31 by omega)]
  refine oc_xok c2 (br_t rfl ⟨vp_in_nI c2 (by omega), br_f h0 (br_f (nI_pos (by omega)) (br_t (nI_lt (b := 3) hl (by decide)) (oc_dir (A := fun z => wX_waiting_41 post (nI l) z (nI c) ks hc ro ky cl rl cp rp jo uw gc gb wc cs cb) hd ?_)))⟩)
  simp only [wX_waiting_41, wpX_queueOf, oc_iq, nI_clamp (show c * 6 + d * 3 + l < 2 ^ 31 by omega)]
  exact ⟨vp_in_nI (by omega) (by omega), p⟩
theorem oc_xhop_a {post : Int32 → Prop} {v : Int32} (h : oc_bad v 2) (p : post (-1)) : wpX_hops post (ks, hc, ro, ky, cl, rl, cp, rp, jo, uw, gc, gb, wc, cs, cb) v := by
  simp only [wpX_hops]
  exact oc_xbad h (br_f (by decide) p)
theorem oc_xhop {post : Int32 → Prop} {c : Nat} (c2 : c < 2) (p : post (hc c)) : wpX_hops post (ks, hc, ro, ky, cl, rl, cp, rp, jo, uw, gc, gb, wc, cs, cb) (nI c) := by
  simp only [wpX_hops, nI_clamp (show c < 2 ^ 31 by omega)]
  exact oc_xok c2 (br_t rfl ⟨vp_in_nI c2 (by omega), p⟩)
end
end
section
/-! ===== the reference's walks ===== -/
theorem oc_nar {e : Nat} (he : e ≤ 1) : vp_nar .boolean (nI e) = nI e := by
  have z : e = 0 ∨ e = 1 := by omega
  rcases z with rfl | rfl
  · rfl
  · rfl
theorem oc_ne0 {c : Nat} (c2 : c < 2) (z : ¬ nI c = 0) : nI c = 1 := by
  have y : c = 0 ∨ c = 1 := by omega
  rcases y with rfl | rfl
  · exact absurd rfl z
  · rfl
section
variable {nc : Int32} {hc ro jo gc lb ys yf yl yb yt : Nat → Int32}
theorem oc_yref_a {post : Int32 → Prop} {v : Int32} (h : oc_bad v 2) (p : post (-1)) : wpY_refusal post (nc, hc, ro, jo, gc, lb, ys, yf, yl, yb, yt) v := by
  simp only [wpY_refusal]
  exact br_f (fun z => oc_bad_ne h (j := 0) (by omega) (by omega) z.symm) (br_f (fun z => oc_bad_ne h (j := 1) (by omega) (by omega) z.symm) p)
theorem oc_yr11_b {post : Int32 → Prop} {c : Nat} (c2 : c < 2) (h0 : hc c = 0) (p : post (-5)) : wY_refusal_11 post (nI c) nc hc ro jo gc lb ys yf yl yb yt := by
  simp only [wY_refusal_11, nI_clamp (show c < 2 ^ 31 by omega)]
  exact ⟨vp_in_nI c2 (by omega), br_t h0 p⟩
theorem oc_yr11_f {post : Int32 → Prop} {c : Nat} (c2 : c < 2) (h0 : ¬ hc c = 0) (p : post 0) : wY_refusal_11 post (nI c) nc hc ro jo gc lb ys yf yl yb yt := by
  simp only [wY_refusal_11, nI_clamp (show c < 2 ^ 31 by omega)]
  exact ⟨vp_in_nI c2 (by omega), br_f h0 p⟩
theorem oc_yref_b {post : Int32 → Prop} {c : Nat} (c2 : c < 2) (h0 : hc c = 0) (p : post (-5)) : wpY_refusal post (nc, hc, ro, jo, gc, lb, ys, yf, yl, yb, yt) (nI c) := by
  simp only [wpY_refusal]
  exact br_c (fun _ => oc_yr11_b c2 h0 p) (fun z => br_t (oc_ne0 c2 z) (oc_yr11_b c2 h0 p))
theorem oc_yref_f {post : Int32 → Prop} {c : Nat} (c2 : c < 2) (h0 : ¬ hc c = 0) (p : post 0) : wpY_refusal post (nc, hc, ro, jo, gc, lb, ys, yf, yl, yb, yt) (nI c) := by
  simp only [wpY_refusal]
  exact br_c (fun _ => oc_yr11_f c2 h0 p) (fun z => br_t (oc_ne0 c2 z) (oc_yr11_f c2 h0 p))
theorem oc_yref_ok {post : Int32 → Prop} {c : Nat} (c2 : c < 2) (p : hc c = 0 → post (-5)) (p2 : ¬ hc c = 0 → post 0) : wpY_refusal post (nc, hc, ro, jo, gc, lb, ys, yf, yl, yb, yt) (nI c) := by
  by_cases z : hc c = 0
  · exact oc_yref_b c2 z (p z)
  · exact oc_yref_f c2 z (p2 z)
/-! isOpen -/
theorem oc_yio_a {post : Int32 → Prop} {v w : Int32} (h : oc_bad v 2) (p : post 0) : wpY_isOpen post (nc, hc, ro, jo, gc, lb, ys, yf, yl, yb, yt) v w := by
  simp only [wpY_isOpen]
  exact oc_yref_a h (br_f (by decide) p)
theorem oc_yio_b {post : Int32 → Prop} {c : Nat} {w : Int32} (c2 : c < 2) (h0 : hc c = 0) (p : post 0) : wpY_isOpen post (nc, hc, ro, jo, gc, lb, ys, yf, yl, yb, yt) (nI c) w := by
  simp only [wpY_isOpen]
  exact oc_yref_b c2 h0 (br_f (by decide) p)
theorem oc_yio_c {post : Int32 → Prop} {c : Nat} {w : Int32} (c2 : c < 2) (h0 : ¬ hc c = 0) (hw : oc_bad w 3) (p : post 0) : wpY_isOpen post (nc, hc, ro, jo, gc, lb, ys, yf, yl, yb, yt) (nI c) w := by
  simp only [wpY_isOpen]
  refine oc_yref_f c2 h0 (br_t rfl ?_)
  by_cases z : w < 0
  · exact br_t z p
  · refine br_f z (br_t ?_ p)
    have h := hw.resolve_left z
    rw [Int32.le_iff_toInt_le] at h
    rw [Int32.lt_iff_toInt_lt]
    have e1 : (nI 3).toInt = 3 := by decide
    have e2 : (2 : Int32).toInt = 2 := by decide
    omega
theorem oc_yio_d {post : Int32 → Prop} {c s : Nat} (c2 : c < 2) (h0 : ¬ hc c = 0) (hs : s < 3) (hj : jo (c * 3 + s) = -1) (p : post 0) : wpY_isOpen post (nc, hc, ro, jo, gc, lb, ys, yf, yl, yb, yt) (nI c) (nI s) := by
  simp only [wpY_isOpen, oc_i3, nI_clamp (show c * 3 + s < 2 ^ 31 by omega), hj]
  exact oc_yref_f c2 h0 (br_t rfl (br_f (nI_pos (by omega)) (br_f (nI_nlt (a := 2) (by omega) (by decide)) ⟨vp_in_nI (by omega) (by omega), br_t (by decide) p⟩)))
theorem oc_yio_f {post : Int32 → Prop} {c s j : Nat} (c2 : c < 2) (h0 : ¬ hc c = 0) (hs : s < 3) (hj : jo (c * 3 + s) = nI j) (hj3 : j < 3) (p : post 1) : wpY_isOpen post (nc, hc, ro, jo, gc, lb, ys, yf, yl, yb, yt) (nI c) (nI s) := by
  simp only [wpY_isOpen, oc_i3, nI_clamp (show c * 3 + s < 2 ^ 31 by omega), hj]
  exact oc_yref_f c2 h0 (br_t rfl (br_f (nI_pos (by omega)) (br_f (nI_nlt (a := 2) (by omega) (by decide)) ⟨vp_in_nI (by omega) (by omega), br_f (nI_pos (by omega)) p⟩)))
/-! extend -/
theorem oc_y25f {pr : Int32 → SY → Prop} {c n : Nat} {v : Int32} (c2 : c < 2) (hn : n ≤ 3) (hh : hc c = nI n) (h : pr (-2) (nc, hc, ro, jo, gc, lb, ys, yf, yl, yb, yt)) : ∀ (r i : Nat), i + r = n → (∃ k, i ≤ k ∧ k < n ∧ ro (c * 3 + k) = v) → wY_extend_25 pr (nI c) v nc hc ro jo gc lb ys yf yl yb yt (r + 1) (nI i) := by
  intro r
  induction r with
  | zero =>
    intro i hi ⟨k, h1, h2, h3⟩
    omega
  | succ r ih =>
    intro i hi hk
    have g : ¬ nI n ≤ nI i := nI_ge (by omega) (by omega)
    rw [wY_extend_25]
    simp only [nI_clamp (show c < 2 ^ 31 by omega), hh, vp_in_nI c2 (show 2 < 2 ^ 31 by omega), oc_i3, nI_clamp (show c * 3 + i < 2 ^ 31 by omega), vp_in_nI (show c * 3 + i < 6 by omega) (show 6 < 2 ^ 31 by omega), g, nI_1, forall_eq, true_and, and_true, not_true_eq_false, not_false_eq_true, false_implies, true_implies, implies_true]
    refine br_c (fun _ => h) (fun z => ih (i + 1) (by omega) ?_)
    obtain ⟨k, h1, h2, h3⟩ := hk
    refine ⟨k, ?_, h2, h3⟩
    by_cases w : k = i
    · subst w; exact absurd h3 z
    · omega
theorem oc_y25e {pr : Int32 → SY → Prop} {c n : Nat} {v : Int32} (c2 : c < 2) (hn : n ≤ 3) (hh : hc c = nI n) (h3 : n = 3 → pr (-4) (nc, hc, ro, jo, gc, lb, ys, yf, yl, yb, yt)) (hr : ∀ k, k < n → ¬ ro (c * 3 + k) = v) (h : n < 3 → pr (nI (n + 1)) (nc, upd hc c (nI (n + 1)), upd ro (c * 3 + n) v, jo, gc, lb, ys, yf, yl, yb, yt)) : ∀ (r i : Nat), i + r = n → wY_extend_25 pr (nI c) v nc hc ro jo gc lb ys yf yl yb yt (r + 1) (nI i) := by
  intro r
  induction r with
  | zero =>
    intro i hi
    obtain rfl : i = n := by omega
    have g : nI i ≤ nI i := nI_le (Nat.le_refl _) (by omega)
    rw [wY_extend_25]
    simp only [nI_clamp (show c < 2 ^ 31 by omega), hh, vp_in_nI c2 (show 2 < 2 ^ 31 by omega), g, forall_eq, true_and, and_true, not_true_eq_false, not_false_eq_true, false_implies, true_implies, implies_true]
    by_cases z : i = 3
    · subst z; exact br_t rfl (h3 rfl)
    · refine br_f (fun w => z ((nI_eq (b := 3) (by omega) (by omega)).mp w)) ?_
      simp only [oc_i3, nI_clamp (show c * 3 + i < 2 ^ 31 by omega), vp_in_nI (show c * 3 + i < 6 by omega) (show 6 < 2 ^ 31 by omega), nI_1, pk_us, forall_eq, true_and, and_true, not_true_eq_false, not_false_eq_true, false_implies, true_implies, implies_true]
      exact h (by omega)
  | succ r ih =>
    intro i hi
    have g : ¬ nI n ≤ nI i := nI_ge (by omega) (by omega)
    rw [wY_extend_25]
    simp only [nI_clamp (show c < 2 ^ 31 by omega), hh, vp_in_nI c2 (show 2 < 2 ^ 31 by omega), oc_i3, nI_clamp (show c * 3 + i < 2 ^ 31 by omega), vp_in_nI (show c * 3 + i < 6 by omega) (show 6 < 2 ^ 31 by omega), g, nI_1, hr i (by omega), forall_eq, true_and, and_true, not_true_eq_false, not_false_eq_true, false_implies, true_implies, implies_true]
    exact ih (i + 1) (by omega)
theorem oc_yext_a {pr : Int32 → SY → Prop} {v w : Int32} (h : oc_bad v 2) (p : pr (-1) (nc, hc, ro, jo, gc, lb, ys, yf, yl, yb, yt)) : wpY_extend pr (nc, hc, ro, jo, gc, lb, ys, yf, yl, yb, yt) v w := by
  simp only [wpY_extend]
  exact oc_yref_a h (br_t rfl p)
theorem oc_yext_b {pr : Int32 → SY → Prop} {c : Nat} {w : Int32} (c2 : c < 2) (hw : oc_bad w 5) (p : pr (-2) (nc, hc, ro, jo, gc, lb, ys, yf, yl, yb, yt)) : wpY_extend pr (nc, hc, ro, jo, gc, lb, ys, yf, yl, yb, yt) (nI c) w := by
  simp only [wpY_extend]
  have k : (w < 0 → pr (-2) (nc, hc, ro, jo, gc, lb, ys, yf, yl, yb, yt)) ∧ (¬ w < 0 → ((w ≤ 4 → (∃ n25 : Nat, wY_extend_25 pr (nI c) w nc hc ro jo gc lb ys yf yl yb yt n25 0)) ∧ (¬ w ≤ 4 → pr (-2) (nc, hc, ro, jo, gc, lb, ys, yf, yl, yb, yt)))) := by
    by_cases z : w < 0
    · exact br_t z p
    · refine br_f z (br_f ?_ p)
      intro y
      have h := hw.resolve_left z
      rw [Int32.le_iff_toInt_le] at h y
      have e1 : (nI 5).toInt = 5 := by decide
      have e2 : (4 : Int32).toInt = 4 := by decide
      omega
  exact oc_yref_ok c2 (fun _ => br_f (by decide) k) (fun _ => br_f (by decide) k)
theorem oc_yext_c {pr : Int32 → SY → Prop} {c w n : Nat} (c2 : c < 2) (hw : w < 5) (p : wY_extend_25 pr (nI c) (nI w) nc hc ro jo gc lb ys yf yl yb yt (n + 1) (nI 0)) : wpY_extend pr (nc, hc, ro, jo, gc, lb, ys, yf, yl, yb, yt) (nI c) (nI w) := by
  simp only [wpY_extend]
  have k : (nI w < 0 → pr (-2) (nc, hc, ro, jo, gc, lb, ys, yf, yl, yb, yt)) ∧ (¬ nI w < 0 → ((nI w ≤ 4 → (∃ n25 : Nat, wY_extend_25 pr (nI c) (nI w) nc hc ro jo gc lb ys yf yl yb yt n25 0)) ∧ (¬ nI w ≤ 4 → pr (-2) (nc, hc, ro, jo, gc, lb, ys, yf, yl, yb, yt)))) :=
    br_f (nI_pos (by omega)) (br_t (nI_le (b := 4) (by omega) (by decide)) ⟨n + 1, p⟩)
  exact oc_yref_ok c2 (fun _ => br_f (by decide) k) (fun _ => br_f (by decide) k)
/-! take, append -/
theorem oc_y12 {pu : SY → Prop} {a n : Nat} (hn : n ≤ 35) (hb : ∀ i, i < n → vp_nar .boolean (yf (i + 1)) = yf (i + 1)) (h : pu (nI n, hc, ro, jo, gc, lb, oc_sh ys a n, oc_sh yf a n, oc_sh yl a n, oc_sh yb a n, oc_sh yt a n)) : ∀ (r i : Nat), i + r = n → a ≤ i → wY_take_12 pu (nI n) (r + 1) (nI i) hc ro jo gc lb (oc_sh ys a i) (oc_sh yf a i) (oc_sh yl a i) (oc_sh yb a i) (oc_sh yt a i) := by
  intro r
  induction r with
  | zero =>
    intro i hi ha
    obtain rfl : i = n := by omega
    rw [wY_take_12]
    exact br_t (nI_le (Nat.le_refl _) (by omega)) h
  | succ r ih =>
    intro i hi ha
    have g : ¬ nI n ≤ nI i := nI_ge (by omega) (by omega)
    have f : vp_nar .boolean (oc_sh yf a i (i + 1)) = oc_sh yf a i (i + 1) := by
      rw [oc_sh_out (by omega)]
      exact hb i (by omega)
    rw [wY_take_12]
    simp only [g, nI_1, nI_clamp (show i < 2 ^ 31 by omega), nI_clamp (show i + 1 < 2 ^ 31 by omega), vp_in_nI (show i < 36 by omega) (show 36 < 2 ^ 31 by omega), vp_in_nI (show i + 1 < 36 by omega) (show 36 < 2 ^ 31 by omega), f, oc_sh_s ha, forall_eq, true_and, and_true, not_true_eq_false, not_false_eq_true, false_implies, true_implies, implies_true]
    exact ih (i + 1) (by omega) (by omega)
theorem oc_ytake {pu : SY → Prop} {a n : Nat} (hn : n ≤ 35) (ha : a ≤ n) (hnc : nc = nI (n + 1)) (hb : ∀ i, i < n → vp_nar .boolean (yf (i + 1)) = yf (i + 1)) (h : pu (nI n, hc, ro, jo, gc, lb, oc_sh ys a n, oc_sh yf a n, oc_sh yl a n, oc_sh yb a n, oc_sh yt a n)) : wpY_take pu (nc, hc, ro, jo, gc, lb, ys, yf, yl, yb, yt) (nI a) := by
  simp only [wpY_take, hnc, nI_pred, forall_eq, true_and, and_true, not_true_eq_false, not_false_eq_true, false_implies, true_implies, implies_true]
  refine ⟨n - a + 1, ?_⟩
  have e := oc_y12 hn hb h (n - a) a (by omega) (Nat.le_refl _)
  simp only [oc_sh_0] at e
  exact e
/-- the list's cell at A.length is taken -/
theorem oc_ytakeL {pu : SY → Prop} {A B : List oc_Cell} {x : oc_Cell} (hY : oc_Y nc ys yf yl yb yt (A ++ x :: B)) (hL : (A ++ x :: B).length ≤ 36) (h : pu (nI (A ++ B).length, hc, ro, jo, gc, lb, oc_sh ys A.length (A ++ B).length, oc_sh yf A.length (A ++ B).length, oc_sh yl A.length (A ++ B).length, oc_sh yb A.length (A ++ B).length, oc_sh yt A.length (A ++ B).length)) : wpY_take pu (nc, hc, ro, jo, gc, lb, ys, yf, yl, yb, yt) (nI A.length) := by
  have e : (A ++ x :: B).length = (A ++ B).length + 1 := by
    rw [List.length_append, List.length_append, List.length_cons]; omega
  refine oc_ytake (n := (A ++ B).length) (by omega) (by rw [List.length_append]; omega) (by rw [hY.1, e]) (fun i hi => ?_) h
  have hi2 : i + 1 < (A ++ x :: B).length := by omega
  have h2 := (hY.2 (i + 1) _ (List.getElem?_eq_getElem hi2)).2.1
  rw [h2]
  exact oc_nar (by omega)
theorem oc_yapp {pu : SY → Prop} {n e : Nat} {p0 p2 p3 p4 : Int32} (hn : n < 36) (he : e ≤ 1) (hnc : nc = nI n) (h : pu (nI (n + 1), hc, ro, jo, gc, lb, upd ys n p0, upd yf n (nI e), upd yl n p2, upd yb n p3, upd yt n p4)) : wpY_append pu (nc, hc, ro, jo, gc, lb, ys, yf, yl, yb, yt) p0 (nI e) p2 p3 p4 := by
  simp only [wpY_append, hnc, nI_clamp (show n < 2 ^ 31 by omega), vp_in_nI (show n < 36 by omega) (show 36 < 2 ^ 31 by omega), oc_nar he, nI_1, forall_eq, true_and, and_true, not_true_eq_false, not_false_eq_true, false_implies, true_implies, implies_true]
  exact h
/-! destroy -/
theorem oc_y62 {pr : Int32 → SY → Prop} {c : Nat} {x3 : Int32} (c2 : c < 2) (h : pr (x3 - nc) (nc, hc, ro, oc_zr jo (c * 3) (c * 3 + 3) (-1), gc, lb, ys, yf, yl, yb, yt)) : ∀ (r i : Nat), i + r = 3 → wY_destroy_62 pr (nI c) x3 nc (r + 1) (nI i) hc ro (oc_zr jo (c * 3) (c * 3 + i) (-1)) gc lb ys yf yl yb yt := by
  intro r
  induction r with
  | zero =>
    intro i hi
    obtain rfl : i = 3 := by omega
    rw [wY_destroy_62]
    exact br_t (by decide) h
  | succ r ih =>
    intro i hi
    have g : ¬ (3 : Int32) ≤ nI i := nI_ge (b := 3) (by omega) (by decide)
    rw [wY_destroy_62]
    simp only [g, oc_i3, nI_clamp (show c * 3 + i < 2 ^ 31 by omega), vp_in_nI (show c * 3 + i < 6 by omega) (show 6 < 2 ^ 31 by omega), oc_zr_s (show c * 3 ≤ c * 3 + i by omega), nI_1, forall_eq, true_and, and_true, not_true_eq_false, not_false_eq_true, false_implies, true_implies, implies_true]
    exact ih (i + 1) (by omega)
theorem oc_m1 (n : Nat) : nI n + (-1) = nI n - 1 := (Int32.sub_eq_add_neg _ _).symm
theorem oc_y22 {c : Nat} (c2 : c < 2) : ∀ (n : Nat) (A B : List oc_Cell) (nc : Int32) (ys yf yl yb yt : Nat → Int32), A.length = n → oc_Y nc ys yf yl yb yt (A ++ B) → (∀ x, x ∈ A ++ B → oc_gd x) → (A ++ B).length ≤ 36 → ∃ ys' yf' yl' yb' yt' : Nat → Int32, oc_Y (nI (oc_rm c A ++ B).length) ys' yf' yl' yb' yt' (oc_rm c A ++ B) ∧ ∀ (pr : Int32 → SY → Prop) (x3 : Int32), pr (x3 - nI (oc_rm c A ++ B).length) (nI (oc_rm c A ++ B).length, upd hc c 0, ro, oc_zr jo (c * 3) (c * 3 + 3) (-1), gc, lb, ys', yf', yl', yb', yt') → wY_destroy_22 pr (nI c) x3 (n + 1) (nI n - 1) nc hc ro jo gc lb ys yf yl yb yt := by
  intro n
  induction n with
  | zero =>
    intro A B nc ys yf yl yb yt hA hY hg hL
    obtain rfl : A = [] := List.eq_nil_of_length_eq_zero hA
    refine ⟨ys, yf, yl, yb, yt, ?_, fun pr x3 p => ?_⟩
    · have h1 : nc = nI (oc_rm c [] ++ B).length := hY.1
      rw [← h1]; exact hY
    · have h1 : nI (oc_rm c [] ++ B).length = nc := hY.1.symm
      rw [h1] at p
      rw [wY_destroy_22]
      refine br_t (by decide) ?_
      simp only [nI_clamp (show c < 2 ^ 31 by omega), vp_in_nI c2 (show 2 < 2 ^ 31 by omega), forall_eq, true_and, and_true, not_true_eq_false, not_false_eq_true, false_implies, true_implies, implies_true]
      refine ⟨4, ?_⟩
      have e := oc_y62 (nc := nc) (hc := upd hc c 0) (ro := ro) (jo := jo) (gc := gc) (lb := lb) (ys := ys) (yf := yf) (yl := yl) (yb := yb) (yt := yt) c2 p 3 0 (by omega)
      simp only [Nat.add_zero, oc_zr_0] at e
      exact e
  | succ n ih =>
    intro A B nc ys yf yl yb yt hA hY hg hL
    obtain ⟨A', x, rfl⟩ : ∃ A' x, A = A' ++ [x] := by
      rcases List.eq_nil_or_concat A with h | ⟨A', x, h⟩
      · subst h; rw [List.length_nil] at hA; omega
      · exact ⟨A', x, by rw [h, List.concat_eq_append]⟩
    rw [List.length_append, List.length_singleton] at hA
    have hn : A'.length = n := by omega
    have e1 : A' ++ [x] ++ B = A' ++ x :: B := by rw [List.append_assoc]; rfl
    rw [e1] at hY hg hL
    have hn36 : n < 36 := by rw [List.length_append, List.length_cons] at hL; omega
    have gx := hg x oc_mem_self
    have hx := (hY.2 n x (by rw [← hn]; exact oc_get_mid)).1
    have hd : ys n / 3 = nI (oc_s x / 3) := by
      rw [hx]
      exact pk_div (d := 3) (by have := gx.1; omega) (by omega) (by omega)
    have g : ¬ nI n < 0 := nI_pos (by omega)
    have g3 : ¬ (3 : Int32) = 0 := by decide
    by_cases z : oc_s x / 3 = c
    · have e2 : oc_rm c (A' ++ [x]) ++ B = oc_rm c A' ++ B := by
        rw [oc_rm_app, oc_rm_d z, List.append_assoc]; rfl
      have hlen : (A' ++ B).length ≤ 36 := by
        rw [List.length_append, List.length_cons] at hL
        rw [List.length_append]; omega
      obtain ⟨ys', yf', yl', yb', yt', h1, h2⟩ := ih A' B _ _ _ _ _ _ hn (oc_Y_take hY) (fun y hy => hg y (oc_mem_mid hy)) hlen
      rw [e2]
      refine ⟨ys', yf', yl', yb', yt', h1, fun pr x3 p => ?_⟩
      have k : nI (oc_s x / 3) = nI c := by rw [z]
      rw [wY_destroy_22]
      simp only [nI_pred, g, nI_clamp (show n < 2 ^ 31 by omega), vp_in_nI hn36 (show 36 < 2 ^ 31 by omega), g3, hd, k, oc_m1, forall_eq, true_and, and_true, not_true_eq_false, not_false_eq_true, false_implies, true_implies, implies_true]
      subst hn
      exact oc_ytakeL hY hL (h2 pr x3 p)
    · have e2 : oc_rm c (A' ++ [x]) ++ B = oc_rm c A' ++ x :: B := by
        rw [oc_rm_app, oc_rm_k z, List.append_assoc]; rfl
      obtain ⟨ys', yf', yl', yb', yt', h1, h2⟩ := ih A' (x :: B) _ _ _ _ _ _ hn hY hg hL
      rw [e2]
      refine ⟨ys', yf', yl', yb', yt', h1, fun pr x3 p => ?_⟩
      have k : ¬ nI (oc_s x / 3) = nI c := fun w => z ((nI_eq (by have := gx.1; omega) (by omega)).mp w)
      rw [wY_destroy_22]
      simp only [nI_pred, g, nI_clamp (show n < 2 ^ 31 by omega), vp_in_nI hn36 (show 36 < 2 ^ 31 by omega), g3, hd, k, oc_m1, forall_eq, true_and, and_true, not_true_eq_false, not_false_eq_true, false_implies, true_implies, implies_true]
      exact h2 pr x3 p
theorem oc_ydes_a {pr : Int32 → SY → Prop} {v : Int32} (h : oc_bad v 2) (p : pr (-1) (nc, hc, ro, jo, gc, lb, ys, yf, yl, yb, yt)) : wpY_destroy pr (nc, hc, ro, jo, gc, lb, ys, yf, yl, yb, yt) v := by
  simp only [wpY_destroy]
  exact oc_yref_a h (br_f (by decide) p)
theorem oc_ydes_b {pr : Int32 → SY → Prop} {c : Nat} (c2 : c < 2) (h0 : hc c = 0) (p : pr (-5) (nc, hc, ro, jo, gc, lb, ys, yf, yl, yb, yt)) : wpY_destroy pr (nc, hc, ro, jo, gc, lb, ys, yf, yl, yb, yt) (nI c) := by
  simp only [wpY_destroy]
  exact oc_yref_b c2 h0 (br_f (by decide) p)
theorem oc_ydes {c : Nat} {L : List oc_Cell} (c2 : c < 2) (h0 : ¬ hc c = 0) (hY : oc_Y nc ys yf yl yb yt L) (hg : ∀ x, x ∈ L → oc_gd x) (hL : L.length ≤ 36) : ∃ ys' yf' yl' yb' yt' : Nat → Int32, oc_Y (nI (oc_rm c L).length) ys' yf' yl' yb' yt' (oc_rm c L) ∧ ∀ (pr : Int32 → SY → Prop), pr (nI L.length - nI (oc_rm c L).length) (nI (oc_rm c L).length, upd hc c 0, ro, oc_zr jo (c * 3) (c * 3 + 3) (-1), gc, lb, ys', yf', yl', yb', yt') → wpY_destroy pr (nc, hc, ro, jo, gc, lb, ys, yf, yl, yb, yt) (nI c) := by
  have e := oc_y22 (hc := hc) (ro := ro) (jo := jo) (gc := gc) (lb := lb) c2 L.length L [] nc ys yf yl yb yt rfl (by rw [List.append_nil]; exact hY) (by rw [List.append_nil]; exact hg) (by rw [List.append_nil]; exact hL)
  rw [List.append_nil] at e
  obtain ⟨ys', yf', yl', yb', yt', h1, h2⟩ := e
  refine ⟨ys', yf', yl', yb', yt', h1, fun pr p => ?_⟩
  simp only [wpY_destroy]
  refine oc_yref_f c2 h0 (br_t (by decide) (nm_e ⟨L.length + 1, ?_⟩))
  have h3 := h2 pr (nI L.length) p
  rw [← hY.1] at h3
  exact h3
/-! open -/
theorem oc_yopn_a {pr : Int32 → SY → Prop} {v w : Int32} (h : oc_bad v 2) (p : pr (-1) (nc, hc, ro, jo, gc, lb, ys, yf, yl, yb, yt)) : wpY_open pr (nc, hc, ro, jo, gc, lb, ys, yf, yl, yb, yt) v w := by
  simp only [wpY_open]
  exact oc_yref_a h (br_f (by decide) p)
theorem oc_yopn_b {pr : Int32 → SY → Prop} {c : Nat} {w : Int32} (c2 : c < 2) (h0 : hc c = 0) (p : pr (-5) (nc, hc, ro, jo, gc, lb, ys, yf, yl, yb, yt)) : wpY_open pr (nc, hc, ro, jo, gc, lb, ys, yf, yl, yb, yt) (nI c) w := by
  simp only [wpY_open]
  exact oc_yref_b c2 h0 (br_f (by decide) p)
theorem oc_yopn_c {pr : Int32 → SY → Prop} {c : Nat} {w : Int32} (c2 : c < 2) (h0 : ¬ hc c = 0) (hw : oc_bad w 3) (p : pr (-3) (nc, hc, ro, jo, gc, lb, ys, yf, yl, yb, yt)) : wpY_open pr (nc, hc, ro, jo, gc, lb, ys, yf, yl, yb, yt) (nI c) w := by
  simp only [wpY_open]
  refine oc_yref_f c2 h0 (br_t (by decide) ?_)
  by_cases z : w < 0
  · exact br_t z p
  · refine br_f z (br_f ?_ p)
    intro y
    have h := hw.resolve_left z
    rw [Int32.le_iff_toInt_le] at h y
    have e1 : (nI 3).toInt = 3 := by decide
    have e2 : (2 : Int32).toInt = 2 := by decide
    omega
theorem oc_yopn_d {pr : Int32 → SY → Prop} {c s j : Nat} (c2 : c < 2) (h0 : ¬ hc c = 0) (hs : s < 3) (hj : jo (c * 3 + s) = nI j) (hj3 : j < 3) (p : pr (-8) (nc, hc, ro, jo, gc, lb, ys, yf, yl, yb, yt)) : wpY_open pr (nc, hc, ro, jo, gc, lb, ys, yf, yl, yb, yt) (nI c) (nI s) := by
  simp only [wpY_open, oc_i3, forall_eq, true_and, and_true, not_true_eq_false, not_false_eq_true, false_implies, true_implies, implies_true, nI_clamp (show c * 3 + s < 2 ^ 31 by omega), hj]
  exact oc_yref_f c2 h0 (br_t (by decide) (br_f (nI_pos (by omega)) (br_t (nI_le (b := 2) (by omega) (by decide)) ⟨vp_in_nI (by omega) (by omega), br_f (nI_pos (by omega)) p⟩)))
theorem oc_yopn {pr : Int32 → SY → Prop} {c s n : Nat} (c2 : c < 2) (hs : s < 3) (hn : n < 3) (hh : hc c = nI (n + 1)) (hj : jo (c * 3 + s) = -1) (p : pr (nI n) (nc, hc, ro, upd jo (c * 3 + s) (nI n), upd (upd gc ((c * 3 + s) * 2 + 0) 0) ((c * 3 + s) * 2 + 1) 0, lb, ys, yf, yl, yb, yt)) : wpY_open pr (nc, hc, ro, jo, gc, lb, ys, yf, yl, yb, yt) (nI c) (nI s) := by
  have h0 : ¬ hc c = 0 := by rw [hh]; exact nI_ne0 (by omega) (by omega)
  have e0 : nI (c * 3 + s) * 2 = nI ((c * 3 + s) * 2) := by rw [show (2 : Int32) = nI 2 from rfl, pk_mul]
  simp only [wpY_open, oc_i3, forall_eq, true_and, and_true, not_true_eq_false, not_false_eq_true, false_implies, true_implies, implies_true, nI_clamp (show c * 3 + s < 2 ^ 31 by omega), hj, nI_clamp (show c < 2 ^ 31 by omega), hh, nI_pred, e0, nI_1, nI_clamp (show (c * 3 + s) * 2 < 2 ^ 31 by omega), nI_clamp (show (c * 3 + s) * 2 + 1 < 2 ^ 31 by omega), pk_us]
  exact oc_yref_f c2 h0 (br_t (by decide) (br_f (nI_pos (by omega)) (br_t (nI_le (b := 2) (by omega) (by decide)) ⟨vp_in_nI (by omega) (by omega), br_t (by decide) ⟨vp_in_nI c2 (by omega), vp_in_nI (by omega) (by omega), vp_in_nI (by omega) (by omega), vp_in_nI (by omega) (by omega), vp_in_nI (by omega) (by omega), p⟩⟩)))
end
end
section
/-! ===== the reference: sending, moving, questions ===== -/
def oc_pY (v1 v2 f : Int32) (x : oc_Cell) : Prop := nI (oc_s x / 3) = v1 ∧ nI (oc_l x) = v2 ∧ nI (1 - oc_d x) = f
def oc_cY (v1 v2 f : Int32) (L : List oc_Cell) : Nat := L.countP (fun x => decide (nI (oc_s x / 3) = v1 ∧ nI (oc_l x) = v2 ∧ nI (1 - oc_d x) = f))
theorem oc_cY_y {v1 v2 f : Int32} {x : oc_Cell} {A : List oc_Cell} (h : oc_pY v1 v2 f x) : oc_cY v1 v2 f (A ++ [x]) = oc_cY v1 v2 f A + 1 := by
  unfold oc_cY
  rw [List.countP_append, List.countP_cons_of_pos (by rw [decide_eq_true (show nI (oc_s x / 3) = v1 ∧ nI (oc_l x) = v2 ∧ nI (1 - oc_d x) = f from h)])]
  rfl
theorem oc_cY_n {v1 v2 f : Int32} {x : oc_Cell} {A : List oc_Cell} (h : ¬ oc_pY v1 v2 f x) : oc_cY v1 v2 f (A ++ [x]) = oc_cY v1 v2 f A := by
  unfold oc_cY
  rw [List.countP_append, List.countP_cons_of_neg (by rw [decide_eq_false (show ¬ (nI (oc_s x / 3) = v1 ∧ nI (oc_l x) = v2 ∧ nI (1 - oc_d x) = f) from h)]; decide)]
  rfl
theorem oc_mid {A B L : List oc_Cell} {x : oc_Cell} (h : L = A ++ x :: B) : L = (A ++ [x]) ++ B := by
  rw [h, List.append_assoc]
  rfl
theorem oc_len1 {A : List oc_Cell} {x : oc_Cell} : (A ++ [x]).length = A.length + 1 := by
  rw [List.length_append]
  rfl
theorem oc_dd {x : oc_Cell} {d : Nat} (gx : oc_gd x) (hd : d < 2) : nI (1 - oc_d x) = nI (1 - d) ↔ oc_d x = d := by
  have := gx.2.1
  rw [nI_eq (by omega) (by omega)]
  omega
section
variable {nc : Int32} {hc ro jo gc lb ys yf yl yb yt : Nat → Int32}
theorem oc_y5 {post : Int32 → Prop} {L : List oc_Cell} {s d : Nat} (hY : oc_Y nc ys yf yl yb yt L) (hg : ∀ x, x ∈ L → oc_gd x) (hL : L.length ≤ 36) (hs : s < 6) (hd : d < 2) (p : post (nI (oc_n s d L))) : ∀ (B A : List oc_Cell), L = A ++ B → wY_underWay_5 post (nI s) (nI (1 - d)) nc hc ro jo gc lb ys yf yl yb yt (B.length + 1) (nI (oc_n s d A)) (nI A.length) := by
  intro B
  induction B with
  | nil =>
    intro A hA
    rw [List.append_nil] at hA
    subst hA
    rw [wY_underWay_5]
    refine br_t ?_ p
    rw [hY.1]
    exact nI_le (Nat.le_refl _) (by omega)
  | cons x B ih =>
    intro A hA
    have hlt : A.length < L.length := by rw [hA, List.length_append, List.length_cons]; omega
    have gx := hg x (by rw [hA]; exact oc_mem_self)
    obtain ⟨e1, e2, _, _, _⟩ := hY.2 A.length x (by rw [hA]; exact oc_get_mid)
    have i := ih (A ++ [x]) (oc_mid hA)
    rw [oc_len1] at i
    have g : ¬ nc ≤ nI A.length := by rw [hY.1]; exact nI_ge hlt (by omega)
    rw [List.length_cons, wY_underWay_5]
    simp only [g, nI_clamp (show A.length < 2 ^ 31 by omega), vp_in_nI (show A.length < 36 by omega) (show 36 < 2 ^ 31 by omega), e1, e2, nI_1, forall_eq, true_and, and_true, not_true_eq_false, not_false_eq_true, false_implies, true_implies, implies_true]
    by_cases z : oc_s x = s
    · refine br_t (by rw [z]) ?_
      by_cases w : oc_d x = d
      · refine br_t (by rw [w]) ?_
        rw [oc_n_put ⟨z, w⟩] at i
        exact i
      · refine br_f (fun k => w ((oc_dd gx hd).mp k)) ?_
        rw [oc_n_put_n (fun k => w k.2)] at i
        exact i
    · refine br_f (fun k => z ((nI_eq (by have := gx.1; omega) (by omega)).mp k)) ?_
      rw [oc_n_put_n (fun k => z k.1)] at i
      exact i
theorem oc_yuw {post : Int32 → Prop} {L : List oc_Cell} {s d : Nat} (hY : oc_Y nc ys yf yl yb yt L) (hg : ∀ x, x ∈ L → oc_gd x) (hL : L.length ≤ 36) (hs : s < 6) (hd : d < 2) (p : post (nI (oc_n s d L))) : wpY_underWay post (nc, hc, ro, jo, gc, lb, ys, yf, yl, yb, yt) (nI s) (nI (1 - d)) := by
  simp only [wpY_underWay]
  exact ⟨L.length + 1, oc_y5 hY hg hL hs hd p L [] rfl⟩
/-! start -/
theorem oc_yst_a {pr : Int32 → SY → Prop} {v w b f : Int32} (h : oc_bad v 2) (p : pr (-1) (nc, hc, ro, jo, gc, lb, ys, yf, yl, yb, yt)) : wpY_start pr (nc, hc, ro, jo, gc, lb, ys, yf, yl, yb, yt) v w b f := by
  simp only [wpY_start]
  exact oc_yref_a h (br_f (by decide) p)
theorem oc_yst_b {pr : Int32 → SY → Prop} {c : Nat} {w b f : Int32} (c2 : c < 2) (h0 : hc c = 0) (p : pr (-5) (nc, hc, ro, jo, gc, lb, ys, yf, yl, yb, yt)) : wpY_start pr (nc, hc, ro, jo, gc, lb, ys, yf, yl, yb, yt) (nI c) w b f := by
  simp only [wpY_start]
  exact oc_yref_b c2 h0 (br_f (by decide) p)
theorem oc_yst_c {pr : Int32 → SY → Prop} {c : Nat} {w b f : Int32} (c2 : c < 2) (h0 : ¬ hc c = 0) (h : ∀ post' : Int32 → Prop, post' 0 → wpY_isOpen post' (nc, hc, ro, jo, gc, lb, ys, yf, yl, yb, yt) (nI c) w) (p : pr (-3) (nc, hc, ro, jo, gc, lb, ys, yf, yl, yb, yt)) : wpY_start pr (nc, hc, ro, jo, gc, lb, ys, yf, yl, yb, yt) (nI c) w b f := by
  simp only [wpY_start]
  exact oc_yref_f c2 h0 (br_t (by decide) (h _ (br_t rfl p)))
theorem oc_yst_e {pr : Int32 → SY → Prop} {c s d j : Nat} {b : Int32} {L : List oc_Cell} (c2 : c < 2) (hs : s < 3) (hd : d < 2) (h0 : ¬ hc c = 0) (hj : jo (c * 3 + s) = nI j) (hj3 : j < 3) (hY : oc_Y nc ys yf yl yb yt L) (hg : ∀ x, x ∈ L → oc_gd x) (hL : L.length ≤ 36) (hu : oc_n (c * 3 + s) d L = 3) (p : pr (-6) (nc, hc, ro, jo, gc, lb, ys, yf, yl, yb, yt)) : wpY_start pr (nc, hc, ro, jo, gc, lb, ys, yf, yl, yb, yt) (nI c) (nI s) b (nI (1 - d)) := by
  simp only [wpY_start, oc_i3, forall_eq, true_and, and_true, not_true_eq_false, not_false_eq_true, false_implies, true_implies, implies_true]
  refine oc_yref_f c2 h0 (br_t (by decide) (oc_yio_f c2 h0 hs hj hj3 (br_f (by decide) (oc_yuw hY hg hL (by omega) hd ?_))))
  rw [hu]
  exact br_t rfl p
theorem oc_y70 {pr : Int32 → SY → Prop} {s d : Nat} {b lk : Int32} {L : List oc_Cell} {x : oc_Cell} (hY : oc_Y nc ys yf yl yb yt L) (hg : ∀ x, x ∈ L → oc_gd x) (hL : L.length < 36) (gx : oc_gd x) (hs : oc_s x = s) (hd : oc_d x = d) (hl : lk = nI (oc_l x)) (hb : oc_b x = b &&& 255) (ht : oc_t x = 0)
    (p : pr (nI (oc_n s d (L ++ [x]))) (nI (L.length + 1), hc, ro, jo, gc, lb, upd ys L.length (nI (oc_s x)), upd yf L.length (nI (1 - oc_d x)), upd yl L.length (nI (oc_l x)), upd yb L.length (oc_b x), upd yt L.length (oc_t x))) : wY_start_70 pr b (nI (1 - d)) (nI s) lk (nI (1 - d)) (nI s) nc hc ro jo gc lb ys yf yl yb yt := by
  subst hl hs hd
  simp only [wY_start_70]
  refine oc_yapp hL (by omega) hY.1 ?_
  have hp := oc_Y_put (x := x) hY
  rw [hb, ht] at hp
  dsimp only
  refine oc_yuw hp ?_ ?_ gx.1 gx.2.1 ?_
  · intro y hy
    rcases List.mem_append.mp hy with z | z
    · exact hg y z
    · rw [List.mem_singleton.mp z]; exact gx
  · rw [oc_len1]; omega
  · rw [hb, ht] at p
    exact p
theorem oc_yst {pr : Int32 → SY → Prop} {c s d j : Nat} {b : Int32} {L : List oc_Cell} {x : oc_Cell} (c2 : c < 2) (hs : s < 3) (hd : d < 2) (h0 : ¬ hc c = 0) (hj : jo (c * 3 + s) = nI j) (hj3 : j < 3) (hY : oc_Y nc ys yf yl yb yt L) (hg : ∀ x, x ∈ L → oc_gd x) (hL : L.length < 36) (hu : oc_n (c * 3 + s) d L < 3) (gx : oc_gd x) (xs : oc_s x = c * 3 + s) (xd : oc_d x = d) (xl : oc_l x = if d = 0 then 0 else j) (xb : oc_b x = b &&& 255) (xt : oc_t x = 0)
    (p : pr (nI (oc_n (c * 3 + s) d (L ++ [x]))) (nI (L.length + 1), hc, ro, jo, gc, lb, upd ys L.length (nI (oc_s x)), upd yf L.length (nI (1 - oc_d x)), upd yl L.length (nI (oc_l x)), upd yb L.length (oc_b x), upd yt L.length (oc_t x))) : wpY_start pr (nc, hc, ro, jo, gc, lb, ys, yf, yl, yb, yt) (nI c) (nI s) b (nI (1 - d)) := by
  simp only [wpY_start, oc_i3, forall_eq, true_and, and_true, not_true_eq_false, not_false_eq_true, false_implies, true_implies, implies_true]
  refine oc_yref_f c2 h0 (br_t (by decide) (oc_yio_f c2 h0 hs hj hj3 (br_f (by decide) (oc_yuw hY hg (by omega) (by omega) hd ?_))))
  refine br_f (fun z => ?_) ?_
  · have := (nI_eq (b := 3) (by omega) (by omega)).mp z
    omega
  · have zd : d = 0 ∨ d = 1 := by omega
    rcases zd with rfl | rfl
    · rw [if_pos rfl] at xl
      exact br_f (by decide) (oc_y70 hY hg hL gx xs xd (by rw [xl]; rfl) xb xt p)
    · rw [if_neg (by decide)] at xl
      refine br_t (by decide) ⟨vp_in_nI (by omega) (by omega), ?_⟩
      rw [nI_clamp (by omega), hj]
      exact oc_y70 hY hg hL gx xs xd (by rw [xl]) xb xt p
/-! oldest -/
theorem oc_y3n {post : Int32 → Prop} {L : List oc_Cell} {v1 v2 f : Int32} (hY : oc_Y nc ys yf yl yb yt L) (hg : ∀ x, x ∈ L → oc_gd x) (hL : L.length ≤ 36) (hn : ∀ x, x ∈ L → ¬ oc_pY v1 v2 f x) (p : post (-7)) : ∀ (B A : List oc_Cell), L = A ++ B → wY_oldest_3 post v1 v2 f nc hc ro jo gc lb ys yf yl yb yt (B.length + 1) (nI A.length) := by
  intro B
  induction B with
  | nil =>
    intro A hA
    rw [List.append_nil] at hA
    subst hA
    rw [wY_oldest_3]
    refine br_t ?_ p
    rw [hY.1]
    exact nI_le (Nat.le_refl _) (by omega)
  | cons x B ih =>
    intro A hA
    have hlt : A.length < L.length := by rw [hA, List.length_append, List.length_cons]; omega
    have gx := hg x (by rw [hA]; exact oc_mem_self)
    have nx := hn x (by rw [hA]; exact oc_mem_self)
    obtain ⟨e1, e2, e3, _, _⟩ := hY.2 A.length x (by rw [hA]; exact oc_get_mid)
    have i := ih (A ++ [x]) (oc_mid hA)
    rw [oc_len1] at i
    have g : ¬ nc ≤ nI A.length := by rw [hY.1]; exact nI_ge hlt (by omega)
    have g3 : ¬ (3 : Int32) = 0 := by decide
    have hd : nI (oc_s x) / 3 = nI (oc_s x / 3) := pk_div (d := 3) (by have := gx.1; omega) (by omega) (by omega)
    rw [List.length_cons, wY_oldest_3]
    simp only [g, g3, nI_clamp (show A.length < 2 ^ 31 by omega), vp_in_nI (show A.length < 36 by omega) (show 36 < 2 ^ 31 by omega), e1, e2, e3, hd, nI_1, forall_eq, true_and, and_true, not_true_eq_false, not_false_eq_true, false_implies, true_implies, implies_true]
    exact br_c (fun z1 => br_c (fun z2 => br_c (fun z3 => absurd ⟨z1, z2, z3⟩ nx) (fun _ => i)) (fun _ => i)) (fun _ => i)
theorem oc_y3s {post : Int32 → Prop} {L B : List oc_Cell} {x : oc_Cell} {v1 v2 f : Int32} (hY : oc_Y nc ys yf yl yb yt L) (hg : ∀ x, x ∈ L → oc_gd x) (hL : L.length ≤ 36) (hx : oc_pY v1 v2 f x) : ∀ (D C : List oc_Cell), L = C ++ (D ++ x :: B) → (∀ y, y ∈ D → ¬ oc_pY v1 v2 f y) → post (nI (C ++ D).length) → wY_oldest_3 post v1 v2 f nc hc ro jo gc lb ys yf yl yb yt (D.length + 1) (nI C.length) := by
  intro D
  induction D with
  | nil =>
    intro C hC hD p
    have hC2 : L = C ++ x :: B := hC
    have hlt : C.length < L.length := by rw [hC2, List.length_append, List.length_cons]; omega
    have gx := hg x (by rw [hC2]; exact oc_mem_self)
    obtain ⟨e1, e2, e3, _, _⟩ := hY.2 C.length x (by rw [hC2]; exact oc_get_mid)
    have g : ¬ nc ≤ nI C.length := by rw [hY.1]; exact nI_ge hlt (by omega)
    have g3 : ¬ (3 : Int32) = 0 := by decide
    have hd : nI (oc_s x) / 3 = nI (oc_s x / 3) := pk_div (d := 3) (by have := gx.1; omega) (by omega) (by omega)
    rw [List.append_nil] at p
    rw [wY_oldest_3]
    simp only [g, g3, nI_clamp (show C.length < 2 ^ 31 by omega), vp_in_nI (show C.length < 36 by omega) (show 36 < 2 ^ 31 by omega), e1, e2, e3, hd, nI_1, forall_eq, true_and, and_true, not_true_eq_false, not_false_eq_true, false_implies, true_implies, implies_true]
    exact br_t hx.1 (br_t hx.2.1 (br_t hx.2.2 p))
  | cons y D ih =>
    intro C hC hD p
    have hC2 : L = C ++ y :: (D ++ x :: B) := hC
    have hlt : C.length < L.length := by rw [hC2, List.length_append, List.length_cons]; omega
    have gy := hg y (by rw [hC2]; exact oc_mem_self)
    have ny := hD y List.mem_cons_self
    obtain ⟨e1, e2, e3, _, _⟩ := hY.2 C.length y (by rw [hC2]; exact oc_get_mid)
    have i := ih (C ++ [y]) (oc_mid hC2) (fun w hw => hD w (List.mem_cons_of_mem _ hw)) (by rw [List.append_assoc]; exact p)
    rw [oc_len1] at i
    have g : ¬ nc ≤ nI C.length := by rw [hY.1]; exact nI_ge hlt (by omega)
    have g3 : ¬ (3 : Int32) = 0 := by decide
    have hd : nI (oc_s y) / 3 = nI (oc_s y / 3) := pk_div (d := 3) (by have := gy.1; omega) (by omega) (by omega)
    rw [List.length_cons, wY_oldest_3]
    simp only [g, g3, nI_clamp (show C.length < 2 ^ 31 by omega), vp_in_nI (show C.length < 36 by omega) (show 36 < 2 ^ 31 by omega), e1, e2, e3, hd, nI_1, forall_eq, true_and, and_true, not_true_eq_false, not_false_eq_true, false_implies, true_implies, implies_true]
    exact br_c (fun z1 => br_c (fun z2 => br_c (fun z3 => absurd ⟨z1, z2, z3⟩ ny) (fun _ => i)) (fun _ => i)) (fun _ => i)
theorem oc_yold_n {post : Int32 → Prop} {L : List oc_Cell} {v1 v2 f : Int32} (hY : oc_Y nc ys yf yl yb yt L) (hg : ∀ x, x ∈ L → oc_gd x) (hL : L.length ≤ 36) (hn : ∀ x, x ∈ L → ¬ oc_pY v1 v2 f x) (p : post (-7)) : wpY_oldest post (nc, hc, ro, jo, gc, lb, ys, yf, yl, yb, yt) v1 v2 f := by
  simp only [wpY_oldest]
  exact ⟨L.length + 1, oc_y3n hY hg hL hn p L [] rfl⟩
theorem oc_yold {post : Int32 → Prop} {A B : List oc_Cell} {x : oc_Cell} {v1 v2 f : Int32} (hY : oc_Y nc ys yf yl yb yt (A ++ x :: B)) (hg : ∀ y, y ∈ A ++ x :: B → oc_gd y) (hL : (A ++ x :: B).length ≤ 36) (hx : oc_pY v1 v2 f x) (hA : ∀ y, y ∈ A → ¬ oc_pY v1 v2 f y) (p : post (nI A.length)) : wpY_oldest post (nc, hc, ro, jo, gc, lb, ys, yf, yl, yb, yt) v1 v2 f := by
  simp only [wpY_oldest]
  exact ⟨A.length + 1, oc_y3s hY hg hL hx A [] rfl hA p⟩
/-! waiting -/
theorem oc_y6 {post : Int32 → Prop} {L : List oc_Cell} {v1 v2 f : Int32} (hY : oc_Y nc ys yf yl yb yt L) (hg : ∀ x, x ∈ L → oc_gd x) (hL : L.length ≤ 36) (p : post (nI (oc_cY v1 v2 f L))) : ∀ (B A : List oc_Cell), L = A ++ B → wY_waiting_6 post v1 v2 f nc hc ro jo gc lb ys yf yl yb yt (B.length + 1) (nI (oc_cY v1 v2 f A)) (nI A.length) := by
  intro B
  induction B with
  | nil =>
    intro A hA
    rw [List.append_nil] at hA
    subst hA
    rw [wY_waiting_6]
    refine br_t ?_ p
    rw [hY.1]
    exact nI_le (Nat.le_refl _) (by omega)
  | cons x B ih =>
    intro A hA
    have hlt : A.length < L.length := by rw [hA, List.length_append, List.length_cons]; omega
    have gx := hg x (by rw [hA]; exact oc_mem_self)
    obtain ⟨e1, e2, e3, _, _⟩ := hY.2 A.length x (by rw [hA]; exact oc_get_mid)
    have i := ih (A ++ [x]) (oc_mid hA)
    rw [oc_len1] at i
    have g : ¬ nc ≤ nI A.length := by rw [hY.1]; exact nI_ge hlt (by omega)
    have g3 : ¬ (3 : Int32) = 0 := by decide
    have hd : nI (oc_s x) / 3 = nI (oc_s x / 3) := pk_div (d := 3) (by have := gx.1; omega) (by omega) (by omega)
    have iy : oc_pY v1 v2 f x → wY_waiting_6 post v1 v2 f nc hc ro jo gc lb ys yf yl yb yt (B.length + 1) (nI (oc_cY v1 v2 f A + 1)) (nI (A.length + 1)) := by
      intro z
      rw [oc_cY_y z] at i
      exact i
    have iN : ¬ oc_pY v1 v2 f x → wY_waiting_6 post v1 v2 f nc hc ro jo gc lb ys yf yl yb yt (B.length + 1) (nI (oc_cY v1 v2 f A)) (nI (A.length + 1)) := by
      intro z
      rw [oc_cY_n z] at i
      exact i
    rw [List.length_cons, wY_waiting_6]
    simp only [g, g3, nI_clamp (show A.length < 2 ^ 31 by omega), vp_in_nI (show A.length < 36 by omega) (show 36 < 2 ^ 31 by omega), e1, e2, e3, hd, nI_1, forall_eq, true_and, and_true, not_true_eq_false, not_false_eq_true, false_implies, true_implies, implies_true]
    exact br_c (fun z1 => br_c (fun z2 => br_c (fun z3 => iy ⟨z1, z2, z3⟩) (fun z3 => iN (fun w => z3 w.2.2))) (fun z2 => iN (fun w => z2 w.2.1))) (fun z1 => iN (fun w => z1 w.1))
theorem oc_ywt {post : Int32 → Prop} {L : List oc_Cell} {v1 v2 f : Int32} (hY : oc_Y nc ys yf yl yb yt L) (hg : ∀ x, x ∈ L → oc_gd x) (hL : L.length ≤ 36) (p : post (nI (oc_cY v1 v2 f L))) : wpY_waiting post (nc, hc, ro, jo, gc, lb, ys, yf, yl, yb, yt) v1 v2 f := by
  simp only [wpY_waiting]
  exact ⟨L.length + 1, oc_y6 hY hg hL p L [] rfl⟩
/-! get -/
def oc_gs (a : Nat → Int32) (e k : Nat) : Nat → Int32 := fun i => if e * 8 + k < i ∧ i ≤ e * 8 + 7 then a (i - 1) else a i
theorem oc_gs_in {a : Nat → Int32} {e k i : Nat} (h : e * 8 + k < i ∧ i ≤ e * 8 + 7) : oc_gs a e k i = a (i - 1) := if_pos h
theorem oc_gs_out {a : Nat → Int32} {e k i : Nat} (h : ¬ (e * 8 + k < i ∧ i ≤ e * 8 + 7)) : oc_gs a e k i = a i := if_neg h
theorem oc_gs_7 {a : Nat → Int32} {e : Nat} : oc_gs a e 7 = a := by
  funext i
  exact oc_gs_out (by omega)
theorem oc_gs_s {a : Nat → Int32} {e k : Nat} (h : k < 7) : upd (oc_gs a e (k + 1)) (e * 8 + (k + 1)) (oc_gs a e (k + 1) (e * 8 + k)) = oc_gs a e k := by
  funext i
  by_cases z : i = e * 8 + (k + 1)
  · subst z
    rw [pk_us, oc_gs_out (by omega), oc_gs_in (by omega)]
    exact congrArg a (by omega)
  · rw [pk_un z]
    by_cases y : e * 8 + (k + 1) < i ∧ i ≤ e * 8 + 7
    · rw [oc_gs_in y, oc_gs_in (by omega)]
    · rw [oc_gs_out y, oc_gs_out (by omega)]
theorem oc_y3g {pu : SY → Prop} {e : Nat} {b : Int32} (he : e < 12) (h : pu (nc, hc, ro, jo, upd gc e (gc e + 1), upd (oc_gs lb e 0) (e * 8) b, ys, yf, yl, yb, yt)) : ∀ (k : Nat), k ≤ 7 → wY_get_3 pu (nI e) b nc (k + 1) (nI k) hc ro jo gc (oc_gs lb e k) ys yf yl yb yt := by
  intro k
  induction k with
  | zero =>
    intro _
    have e8 : nI e * 8 = nI (e * 8) := by rw [show (8 : Int32) = nI 8 from rfl, pk_mul]
    have g : nI 0 ≤ 0 := by decide
    rw [wY_get_3]
    simp only [g, e8, nI_clamp (show e * 8 < 2 ^ 31 by omega), nI_clamp (show e < 2 ^ 31 by omega), vp_in_nI (show e * 8 < 96 by omega) (show 96 < 2 ^ 31 by omega), vp_in_nI he (show 12 < 2 ^ 31 by omega), forall_eq, true_and, and_true, not_true_eq_false, not_false_eq_true, false_implies, true_implies, implies_true]
    exact h
  | succ k ih =>
    intro hk
    have g : ¬ nI (k + 1) ≤ 0 := nI_nle (by omega) (by omega)
    have e1 : nI (e * 8 + (k + 1)) - 1 = nI (e * 8 + k) := nI_pred (e * 8 + k)
    rw [wY_get_3]
    simp only [g, oc_i8, e1, pk_m1, nI_clamp (show e * 8 + k < 2 ^ 31 by omega), nI_clamp (show e * 8 + (k + 1) < 2 ^ 31 by omega), vp_in_nI (show e * 8 + k < 96 by omega) (show 96 < 2 ^ 31 by omega), vp_in_nI (show e * 8 + (k + 1) < 96 by omega) (show 96 < 2 ^ 31 by omega), oc_gs_s (show k < 7 by omega), forall_eq, true_and, and_true, not_true_eq_false, not_false_eq_true, false_implies, true_implies, implies_true]
    exact ih (by omega)
theorem oc_yget {pu : SY → Prop} {e : Nat} {b : Int32} (he : e < 12) (h : pu (nc, hc, ro, jo, upd gc e (gc e + 1), upd (oc_gs lb e 0) (e * 8) b, ys, yf, yl, yb, yt)) : wpY_get pu (nc, hc, ro, jo, gc, lb, ys, yf, yl, yb, yt) (nI e) b := by
  simp only [wpY_get]
  refine ⟨8, ?_⟩
  have e := oc_y3g (nc := nc) (hc := hc) (ro := ro) (jo := jo) (gc := gc) (lb := lb) (ys := ys) (yf := yf) (yl := yl) (yb := yb) (yt := yt) he h 7 (by omega)
  rw [oc_gs_7] at e
  exact e
end
end
section
/-! ===== the reference: move, tamper, questions ===== -/
section
variable {nc : Int32} {hc ro jo gc lb ys yf yl yb yt : Nat → Int32}
variable {A B : List oc_Cell} {x : oc_Cell}
/-- a cell goes on to the next link -/
theorem oc_y83_m {pr : Int32 → SY → Prop} {x1 : Int32} {d : Nat} {y : oc_Cell} (hY : oc_Y nc ys yf yl yb yt (A ++ x :: B)) (hL : (A ++ x :: B).length ≤ 36) (hd : d < 2) (yd : oc_d y = d) (y1 : d = 0 → oc_l y = oc_l x + 1) (y2 : d = 1 → oc_l x = oc_l y + 1) (ysx : oc_s y = oc_s x) (ybx : oc_b y = oc_b x) (ytx : oc_t y = oc_t x)
    (p : pr 0 (nI ((A ++ B).length + 1), hc, ro, jo, gc, lb, upd (oc_sh ys A.length (A ++ B).length) (A ++ B).length (nI (oc_s y)), upd (oc_sh yf A.length (A ++ B).length) (A ++ B).length (nI (1 - oc_d y)), upd (oc_sh yl A.length (A ++ B).length) (A ++ B).length (nI (oc_l y)), upd (oc_sh yb A.length (A ++ B).length) (A ++ B).length (oc_b y), upd (oc_sh yt A.length (A ++ B).length) (A ++ B).length (oc_t y))) : wY_move_83 pr x1 (nI (oc_l x)) (nI (1 - d)) (nI A.length) (nI (oc_s x)) (oc_b x) (oc_t x) 0 nc hc ro jo gc lb ys yf yl yb yt := by
  have hlen : (A ++ B).length < 36 := by
    rw [List.length_append, List.length_cons] at hL
    rw [List.length_append]; omega
  simp only [wY_move_83]
  refine oc_ytakeL hY hL (br_t trivial ?_)
  have zd : d = 0 ∨ d = 1 := by omega
  rcases zd with rfl | rfl
  · refine br_f (by decide) ?_
    rw [nI_1, ← y1 rfl]
    simp only [wY_move_113]
    refine oc_yapp (e := 1) hlen (by omega) rfl ?_
    rw [ysx, ybx, ytx, yd] at p
    exact p
  · refine br_t (by decide) ?_
    rw [y2 rfl, nI_pred]
    simp only [wY_move_113]
    refine oc_yapp (e := 0) hlen (by omega) rfl ?_
    rw [ysx, ybx, ytx, yd] at p
    exact p
/-- a cell ends, good -/
theorem oc_y83_g {pr : Int32 → SY → Prop} {x1 : Int32} {d : Nat} (hY : oc_Y nc ys yf yl yb yt (A ++ x :: B)) (hL : (A ++ x :: B).length ≤ 36) (hd : d < 2) (hs : oc_s x < 6) (ht : oc_t x = 0)
    (p : pr 1 (nI (A ++ B).length, hc, ro, jo, upd gc (oc_s x * 2 + d) (gc (oc_s x * 2 + d) + 1), upd (oc_gs lb (oc_s x * 2 + d) 0) ((oc_s x * 2 + d) * 8) (oc_b x), oc_sh ys A.length (A ++ B).length, oc_sh yf A.length (A ++ B).length, oc_sh yl A.length (A ++ B).length, oc_sh yb A.length (A ++ B).length, oc_sh yt A.length (A ++ B).length)) : wY_move_83 pr x1 (nI (oc_l x)) (nI (1 - d)) (nI A.length) (nI (oc_s x)) (oc_b x) (oc_t x) 1 nc hc ro jo gc lb ys yf yl yb yt := by
  simp only [wY_move_83]
  refine oc_ytakeL hY hL (br_f (by decide) (br_t ht ?_))
  have zd : d = 0 ∨ d = 1 := by omega
  rcases zd with rfl | rfl
  · refine br_f (by decide) ?_
    simp only [wY_move_149]
    rw [oc_iw0]
    exact oc_yget (by omega) p
  · refine br_t (by decide) ?_
    simp only [wY_move_149]
    rw [oc_iw1]
    exact oc_yget (by omega) p
/-- a cell ends, turned round: the circuit is destroyed -/
theorem oc_y83_b {c : Nat} {d : Nat} (c2 : c < 2) (h0 : ¬ hc c = 0) (hY : oc_Y nc ys yf yl yb yt (A ++ x :: B)) (hg : ∀ y, y ∈ A ++ x :: B → oc_gd y) (hL : (A ++ x :: B).length ≤ 36) (ht : ¬ oc_t x = 0) : ∃ ys' yf' yl' yb' yt' : Nat → Int32, oc_Y (nI (oc_rm c (A ++ B)).length) ys' yf' yl' yb' yt' (oc_rm c (A ++ B)) ∧ ∀ (pr : Int32 → SY → Prop), pr 2 (nI (oc_rm c (A ++ B)).length, upd hc c 0, ro, oc_zr jo (c * 3) (c * 3 + 3) (-1), gc, lb, ys', yf', yl', yb', yt') → wY_move_83 pr (nI c) (nI (oc_l x)) (nI (1 - d)) (nI A.length) (nI (oc_s x)) (oc_b x) (oc_t x) 1 nc hc ro jo gc lb ys yf yl yb yt := by
  have hlen : (A ++ B).length ≤ 36 := by
    rw [List.length_append, List.length_cons] at hL
    rw [List.length_append]; omega
  obtain ⟨ys', yf', yl', yb', yt', h1, h2⟩ := oc_ydes (hc := hc) (ro := ro) (jo := jo) (gc := gc) (lb := lb) c2 h0 (oc_Y_take hY) (fun y hy => hg y (oc_mem_mid hy)) hlen
  refine ⟨ys', yf', yl', yb', yt', h1, fun pr p => ?_⟩
  simp only [wY_move_83]
  exact oc_ytakeL hY hL (br_f (by decide) (br_f ht (h2 _ p)))
theorem oc_ymv_a {pr : Int32 → SY → Prop} {v w f : Int32} (h : oc_bad v 2) (p : pr (-1) (nc, hc, ro, jo, gc, lb, ys, yf, yl, yb, yt)) : wpY_move pr (nc, hc, ro, jo, gc, lb, ys, yf, yl, yb, yt) v w f := by
  simp only [wpY_move]
  exact oc_yref_a h (br_f (by decide) p)
theorem oc_ymv_b {pr : Int32 → SY → Prop} {c : Nat} {w f : Int32} (c2 : c < 2) (h0 : hc c = 0) (p : pr (-5) (nc, hc, ro, jo, gc, lb, ys, yf, yl, yb, yt)) : wpY_move pr (nc, hc, ro, jo, gc, lb, ys, yf, yl, yb, yt) (nI c) w f := by
  simp only [wpY_move]
  exact oc_yref_b c2 h0 (br_f (by decide) p)
theorem oc_ymv_n {pr : Int32 → SY → Prop} {c : Nat} {w f : Int32} {L : List oc_Cell} (c2 : c < 2) (h0 : ¬ hc c = 0) (hY : oc_Y nc ys yf yl yb yt L) (hg : ∀ x, x ∈ L → oc_gd x) (hL : L.length ≤ 36) (hn : ∀ x, x ∈ L → ¬ oc_pY (nI c) w f x) (p : pr (-7) (nc, hc, ro, jo, gc, lb, ys, yf, yl, yb, yt)) : wpY_move pr (nc, hc, ro, jo, gc, lb, ys, yf, yl, yb, yt) (nI c) w f := by
  simp only [wpY_move]
  exact oc_yref_f c2 h0 (br_t (by decide) (oc_yold_n hY hg hL hn (br_f (by decide) p)))
/-- the cell at A.length is the oldest on its link: z says whether it ends there -/
theorem oc_ymv {pr : Int32 → SY → Prop} {c d : Nat} (c2 : c < 2) (hd : d < 2) (h0 : ¬ hc c = 0) (hY : oc_Y nc ys yf yl yb yt (A ++ x :: B)) (hg : ∀ y, y ∈ A ++ x :: B → oc_gd y) (hL : (A ++ x :: B).length ≤ 36) (hx : oc_pY (nI c) (nI (oc_l x)) (nI (1 - d)) x) (hA : ∀ y, y ∈ A → ¬ oc_pY (nI c) (nI (oc_l x)) (nI (1 - d)) y) (hj : jo (oc_s x) = nI (oc_j x))
    (p0 : (d = 0 ∧ oc_l x ≠ oc_j x) ∨ (d = 1 ∧ oc_l x ≠ 0) → wY_move_83 pr (nI c) (nI (oc_l x)) (nI (1 - d)) (nI A.length) (nI (oc_s x)) (oc_b x) (oc_t x) 0 nc hc ro jo gc lb ys yf yl yb yt)
    (p1 : (d = 0 ∧ oc_l x = oc_j x) ∨ (d = 1 ∧ oc_l x = 0) → wY_move_83 pr (nI c) (nI (oc_l x)) (nI (1 - d)) (nI A.length) (nI (oc_s x)) (oc_b x) (oc_t x) 1 nc hc ro jo gc lb ys yf yl yb yt) : wpY_move pr (nc, hc, ro, jo, gc, lb, ys, yf, yl, yb, yt) (nI c) (nI (oc_l x)) (nI (1 - d)) := by
  have hlt : A.length < 36 := by rw [List.length_append, List.length_cons] at hL; omega
  have gx := hg x oc_mem_self
  have g1 := gx.1
  have g3 := gx.2.2.1
  have g4 := gx.2.2.2.1
  obtain ⟨e1, e2, e3, e4, e5⟩ := hY.2 A.length x oc_get_mid
  simp only [wpY_move]
  refine oc_yref_f c2 h0 (br_t (by decide) (oc_yold hY hg hL hx hA (br_t (nI_pos' (by omega)) ?_)))
  simp only [nI_clamp (show A.length < 2 ^ 31 by omega), vp_in_nI hlt (show 36 < 2 ^ 31 by omega), e1, e4, e5, nI_clamp (show oc_s x < 2 ^ 31 by omega), vp_in_nI g1 (show 6 < 2 ^ 31 by omega), hj, wY_move_75, forall_eq, true_and, and_true, not_true_eq_false, not_false_eq_true, false_implies, true_implies, implies_true]
  have zd : d = 0 ∨ d = 1 := by omega
  rcases zd with rfl | rfl
  · refine br_f (by decide) ?_
    by_cases z : oc_l x = oc_j x
    · exact br_t (by rw [z]) (p1 (Or.inl ⟨rfl, z⟩))
    · exact br_f (fun w => z ((nI_eq (by omega) (by omega)).mp w)) (p0 (Or.inl ⟨rfl, z⟩))
  · refine br_t (by decide) ?_
    by_cases z : oc_l x = 0
    · exact br_t (by rw [z]; rfl) (p1 (Or.inr ⟨rfl, z⟩))
    · exact br_f (fun w => z ((nI_eq (b := 0) (by omega) (by omega)).mp w)) (p0 (Or.inr ⟨rfl, z⟩))
/-! tamper -/
theorem oc_ytm_a {pr : Int32 → SY → Prop} {v w f y : Int32} (h : oc_bad v 2) (p : pr (-1) (nc, hc, ro, jo, gc, lb, ys, yf, yl, yb, yt)) : wpY_tamper pr (nc, hc, ro, jo, gc, lb, ys, yf, yl, yb, yt) v w f y := by
  simp only [wpY_tamper]
  exact oc_yref_a h (br_f (by decide) p)
theorem oc_ytm_b {pr : Int32 → SY → Prop} {c : Nat} {w f y : Int32} (c2 : c < 2) (h0 : hc c = 0) (p : pr (-5) (nc, hc, ro, jo, gc, lb, ys, yf, yl, yb, yt)) : wpY_tamper pr (nc, hc, ro, jo, gc, lb, ys, yf, yl, yb, yt) (nI c) w f y := by
  simp only [wpY_tamper]
  exact oc_yref_b c2 h0 (br_f (by decide) p)
theorem oc_ytm_n {pr : Int32 → SY → Prop} {c : Nat} {w f y : Int32} {L : List oc_Cell} (c2 : c < 2) (h0 : ¬ hc c = 0) (hY : oc_Y nc ys yf yl yb yt L) (hg : ∀ x, x ∈ L → oc_gd x) (hL : L.length ≤ 36) (hn : ∀ x, x ∈ L → ¬ oc_pY (nI c) w f x) (p : pr (-7) (nc, hc, ro, jo, gc, lb, ys, yf, yl, yb, yt)) : wpY_tamper pr (nc, hc, ro, jo, gc, lb, ys, yf, yl, yb, yt) (nI c) w f y := by
  simp only [wpY_tamper]
  exact oc_yref_f c2 h0 (br_t (by decide) (oc_yold_n hY hg hL hn (br_f (by decide) p)))
theorem oc_ytm {pr : Int32 → SY → Prop} {c : Nat} {w f y : Int32} (c2 : c < 2) (h0 : ¬ hc c = 0) (hY : oc_Y nc ys yf yl yb yt (A ++ x :: B)) (hg : ∀ y, y ∈ A ++ x :: B → oc_gd y) (hL : (A ++ x :: B).length ≤ 36) (hx : oc_pY (nI c) w f x) (hA : ∀ y, y ∈ A → ¬ oc_pY (nI c) w f y) (p : pr 0 (nc, hc, ro, jo, gc, lb, ys, yf, yl, yb, upd yt A.length (oc_t x ^^^ (y &&& 255)))) : wpY_tamper pr (nc, hc, ro, jo, gc, lb, ys, yf, yl, yb, yt) (nI c) w f y := by
  have hlt : A.length < 36 := by rw [List.length_append, List.length_cons] at hL; omega
  obtain ⟨e1, e2, e3, e4, e5⟩ := hY.2 A.length x oc_get_mid
  simp only [wpY_tamper]
  refine oc_yref_f c2 h0 (br_t (by decide) (oc_yold hY hg hL hx hA (br_t (nI_pos' (by omega)) ?_)))
  simp only [nI_clamp (show A.length < 2 ^ 31 by omega), vp_in_nI hlt (show 36 < 2 ^ 31 by omega), e5, forall_eq, true_and, and_true, not_true_eq_false, not_false_eq_true, false_implies, true_implies, implies_true]
  exact p
/-! questions -/
theorem oc_ygot_n {post : Int32 → Prop} {v w z : Int32} (h : ∀ post' : Int32 → Prop, post' 0 → wpY_isOpen post' (nc, hc, ro, jo, gc, lb, ys, yf, yl, yb, yt) v w) (p : post 0) : wpY_got post (nc, hc, ro, jo, gc, lb, ys, yf, yl, yb, yt) v w z := by
  simp only [wpY_got]
  exact h _ (br_t rfl p)
theorem oc_ygot {post : Int32 → Prop} {c s d : Nat} (c2 : c < 2) (hs : s < 3) (hd : d < 2) (h : ∀ post' : Int32 → Prop, post' 1 → wpY_isOpen post' (nc, hc, ro, jo, gc, lb, ys, yf, yl, yb, yt) (nI c) (nI s)) (p : post (gc ((c * 3 + s) * 2 + d))) : wpY_got post (nc, hc, ro, jo, gc, lb, ys, yf, yl, yb, yt) (nI c) (nI s) (nI (1 - d)) := by
  simp only [wpY_got, oc_i3]
  refine h _ (br_f (by decide) (oc_dir (A := fun z => vp_in (nI (c * 3 + s) * 2 + z) 12 ∧ post (gc (nI (c * 3 + s) * 2 + z).toNatClampNeg)) hd ?_))
  rw [oc_iw, nI_clamp (by omega)]
  exact ⟨vp_in_nI (by omega) (by omega), p⟩
theorem oc_ybg_b {post : Int32 → Prop} {v w z y : Int32} (hy : oc_bad y 8) (p : post (-7)) : wpY_byteGot post (nc, hc, ro, jo, gc, lb, ys, yf, yl, yb, yt) v w z y := by
  simp only [wpY_byteGot]
  by_cases z : y < 0
  · exact br_t z p
  · refine br_f z (br_t ?_ p)
    have h := hy.resolve_left z
    rw [Int32.le_iff_toInt_le] at h
    rw [Int32.lt_iff_toInt_lt]
    have e1 : (nI 8).toInt = 8 := by decide
    have e2 : (7 : Int32).toInt = 7 := by decide
    omega
theorem oc_ybg_n {post : Int32 → Prop} {v w z : Int32} {y : Nat} (hy : y < 8) (h : ∀ post' : Int32 → Prop, post' 0 → wpY_isOpen post' (nc, hc, ro, jo, gc, lb, ys, yf, yl, yb, yt) v w) (p : post (-7)) : wpY_byteGot post (nc, hc, ro, jo, gc, lb, ys, yf, yl, yb, yt) v w z (nI y) := by
  simp only [wpY_byteGot]
  exact br_f (nI_pos (by omega)) (br_f (nI_nlt (a := 7) (by omega) (by decide)) (oc_ygot_n h (br_f (nI_pos (by omega)) p)))
theorem oc_ybg_o {post : Int32 → Prop} {c s d y g : Nat} (c2 : c < 2) (hs : s < 3) (hd : d < 2) (hy : y < 8) (h : ∀ post' : Int32 → Prop, post' 1 → wpY_isOpen post' (nc, hc, ro, jo, gc, lb, ys, yf, yl, yb, yt) (nI c) (nI s)) (hg : gc ((c * 3 + s) * 2 + d) = nI g) (hg2 : g ≤ y) (p : post (-7)) : wpY_byteGot post (nc, hc, ro, jo, gc, lb, ys, yf, yl, yb, yt) (nI c) (nI s) (nI (1 - d)) (nI y) := by
  simp only [wpY_byteGot]
  refine br_f (nI_pos (by omega)) (br_f (nI_nlt (a := 7) (by omega) (by decide)) (oc_ygot c2 hs hd h (br_f ?_ p)))
  rw [hg]
  exact nI_nlt hg2 (by omega)
theorem oc_ybg {post : Int32 → Prop} {c s d y g : Nat} (c2 : c < 2) (hs : s < 3) (hd : d < 2) (hy : y < 8) (h : ∀ post' : Int32 → Prop, post' 1 → wpY_isOpen post' (nc, hc, ro, jo, gc, lb, ys, yf, yl, yb, yt) (nI c) (nI s)) (hg : gc ((c * 3 + s) * 2 + d) = nI g) (hg2 : y < g) (hg3 : g < 2 ^ 31) (p : post (lb (((c * 3 + s) * 2 + d) * 8 + y))) : wpY_byteGot post (nc, hc, ro, jo, gc, lb, ys, yf, yl, yb, yt) (nI c) (nI s) (nI (1 - d)) (nI y) := by
  simp only [wpY_byteGot, oc_i3]
  refine br_f (nI_pos (by omega)) (br_f (nI_nlt (a := 7) (by omega) (by decide)) (oc_ygot c2 hs hd h (br_t ?_ (oc_dir (A := fun z => vp_in ((nI (c * 3 + s) * 2 + z) * 8 + nI y) 96 ∧ post (lb ((nI (c * 3 + s) * 2 + z) * 8 + nI y).toNatClampNeg)) hd ?_))))
  · rw [hg]
    exact nI_lt hg2 hg3
  · rw [oc_iw, oc_i8, nI_clamp (by omega)]
    exact ⟨vp_in_nI (by omega) (by omega), p⟩
theorem oc_yhop_a {post : Int32 → Prop} {v : Int32} (h : oc_bad v 2) (p : post (-1)) : wpY_hops post (nc, hc, ro, jo, gc, lb, ys, yf, yl, yb, yt) v := by
  simp only [wpY_hops]
  exact oc_yref_a h (br_t rfl p)
theorem oc_yhop {post : Int32 → Prop} {c : Nat} (c2 : c < 2) (p : post (hc c)) : wpY_hops post (nc, hc, ro, jo, gc, lb, ys, yf, yl, yb, yt) (nI c) := by
  simp only [wpY_hops, nI_clamp (show c < 2 ^ 31 by omega)]
  exact oc_yref_ok c2 (fun _ => br_f (by decide) ⟨vp_in_nI c2 (by omega), p⟩) (fun _ => br_f (by decide) ⟨vp_in_nI c2 (by omega), p⟩)
end
end
section
/-! ===== the relation ===== -/
def oc_z (a p : Nat → Int32) (b : Nat) : Nat → Int32 := fun h => if h < 3 then a (b + h) else p (b + (h - 3))
theorem oc_z_lo {a p : Nat → Int32} {b h : Nat} (hh : h < 3) : oc_z a p b h = a (b + h) := if_pos hh
theorem oc_z_hi {a p : Nat → Int32} {b h : Nat} : oc_z a p b (3 + h) = p (b + h) := by
  unfold oc_z
  rw [if_neg (by omega), show 3 + h - 3 = h from by omega]
/-- circuit c's forward cells, those nearest to their end first -/
def oc_Gf (c : Nat) (L : List oc_Cell) : List oc_Cell := oc_Q (c * 6 + 2) L ++ (oc_Q (c * 6 + 1) L ++ oc_Q (c * 6) L)
def oc_Gb (c : Nat) (L : List oc_Cell) : List oc_Cell := oc_Q (c * 6 + 3) L ++ (oc_Q (c * 6 + 4) L ++ oc_Q (c * 6 + 5) L)
def oc_Kf (c m : Nat) (ky cl rl cp rp : Nat → Int32) (L : List oc_Cell) : Prop := oc_C (oc_k ky (c * 6)) (oc_z rl rp (c * 6)) (oc_z cl cp (c * 6)) m (oc_Gf c L)
def oc_Kb (c m : Nat) (ky cl rl cp rp : Nat → Int32) (L : List oc_Cell) : Prop := oc_C (oc_k ky (c * 6 + 3)) (oc_z cl cp (c * 6 + 3)) (oc_z rl rp (c * 6 + 3)) m (oc_Gb c L)
def oc_B (k : Nat) (gc gb lb : Nat → Int32) : Prop := ∀ w, w < 12 → ∃ g, g ≤ k ∧ gc w = nI g ∧ ∀ i, i < 8 → i < g → gb (w * 8 + (g - 1 - i) % 8) = lb (w * 8 + i)
def oc_W (mm : Nat → Nat) (jo : Nat → Int32) (L : List oc_Cell) : Prop := ∀ x, x ∈ L → oc_gd x ∧ jo (oc_s x) = nI (oc_j x) ∧ oc_j x < mm (oc_s x / 3)
def oc_U (jo uw : Nat → Int32) (L : List oc_Cell) : Prop := ∀ s d, s < 6 → d < 2 → oc_n s d L ≤ 3 ∧ (¬ jo s = -1 → uw (s * 2 + d) = nI (oc_n s d L))
def oc_H (mm : Nat → Nat) (hc jo : Nat → Int32) : Prop := (∀ c, c < 2 → mm c ≤ 3 ∧ hc c = nI (mm c)) ∧ ∀ s, s < 6 → jo s = -1 ∨ ∃ j, j < mm (s / 3) ∧ jo s = nI j
def oc_K (mm : Nat → Nat) (ky cl rl cp rp : Nat → Int32) (L : List oc_Cell) : Prop := ∀ c, c < 2 → oc_Kf c (mm c) ky cl rl cp rp L ∧ oc_Kb c (mm c) ky cl rl cp rp L
def oc_F (k : Nat) (L : List oc_Cell) (mm : Nat → Nat) (hc ky cl rl cp rp jo uw gc gb wc cs cb : Nat → Int32) (nc : Int32) (lb ys yf yl yb yt : Nat → Int32) : Prop :=
  oc_H mm hc jo ∧ oc_B k gc gb lb ∧ oc_Y nc ys yf yl yb yt L ∧ oc_X wc cs cb L ∧ oc_W mm jo L ∧ oc_U jo uw L ∧ oc_K mm ky cl rl cp rp L
/-- the relation at the head of a turn whose first cell is k -/
def i_Rel (k : Nat) (u : SX) (v : SY) : Prop := match u, v with
  | (_, hc, ro, ky, cl, rl, cp, rp, jo, uw, gc, gb, wc, cs, cb), (nc, hc', ro', jo', gc', lb, ys, yf, yl, yb, yt) => hc' = hc ∧ ro' = ro ∧ jo' = jo ∧ gc' = gc ∧ ∃ (L : List oc_Cell) (mm : Nat → Nat), oc_F k L mm hc ky cl rl cp rp jo uw gc gb wc cs cb nc lb ys yf yl yb yt
section
variable {ks : Int32} {hc ro ky cl rl cp rp jo uw gc gb wc cs cb : Nat → Int32}
variable {nc : Int32} {lb ys yf yl yb yt : Nat → Int32} {k : Nat} {L : List oc_Cell} {mm : Nat → Nat}
theorem oc_in (F : oc_F k L mm hc ky cl rl cp rp jo uw gc gb wc cs cb nc lb ys yf yl yb yt) : i_Rel k (ks, hc, ro, ky, cl, rl, cp, rp, jo, uw, gc, gb, wc, cs, cb) (nc, hc, ro, jo, gc, lb, ys, yf, yl, yb, yt) := ⟨rfl, rfl, rfl, rfl, L, mm, F⟩
theorem oc_el {P : SX → SY → Prop} (h : ∀ (ks : Int32) (hc ro ky cl rl cp rp jo uw gc gb wc cs cb : Nat → Int32) (nc : Int32) (lb ys yf yl yb yt : Nat → Int32) (L : List oc_Cell) (mm : Nat → Nat), oc_F k L mm hc ky cl rl cp rp jo uw gc gb wc cs cb nc lb ys yf yl yb yt → P (ks, hc, ro, ky, cl, rl, cp, rp, jo, uw, gc, gb, wc, cs, cb) (nc, hc, ro, jo, gc, lb, ys, yf, yl, yb, yt)) {u : SX} {v : SY} (I : i_Rel k u v) : P u v := by
  obtain ⟨ks, hc, ro, ky, cl, rl, cp, rp, jo, uw, gc, gb, wc, cs, cb⟩ := u
  obtain ⟨nc, hc', ro', jo', gc', lb, ys, yf, yl, yb, yt⟩ := v
  obtain ⟨e1, e2, e3, e4, L, mm, F⟩ := I
  subst e1 e2 e3 e4
  exact h _ _ _ _ _ _ _ _ _ _ _ _ _ _ _ _ _ _ _ _ _ _ L mm F
theorem oc_Fup {k2 : Nat} (hk : k ≤ k2) (F : oc_F k L mm hc ky cl rl cp rp jo uw gc gb wc cs cb nc lb ys yf yl yb yt) : oc_F k2 L mm hc ky cl rl cp rp jo uw gc gb wc cs cb nc lb ys yf yl yb yt := by
  refine ⟨F.1, fun w hw => ?_, F.2.2⟩
  obtain ⟨g, h1, h2⟩ := F.2.1 w hw
  exact ⟨g, by omega, h2⟩
/-! what follows from the relation -/
theorem oc_gds (W : oc_W mm jo L) : ∀ x, x ∈ L → oc_gd x := fun x hx => (W x hx).1
theorem oc_cap9 (hg : ∀ x, x ∈ L → oc_gd x) (hU : ∀ s d, s < 6 → d < 2 → oc_n s d L ≤ 3) : ∀ q, q < 12 → (oc_Q q L).length ≤ 9 := by
  intro q hq
  have h := oc_cap (c := q / 6) (d := q / 3 % 2) (l := q % 3) (by omega) (by omega) L hg
  rw [show q / 6 * 6 + q / 3 % 2 * 3 + q % 3 = q from by omega] at h
  have a := hU (q / 6 * 3) (q / 3 % 2) (by omega) (by omega)
  have b := hU (q / 6 * 3 + 1) (q / 3 % 2) (by omega) (by omega)
  have c := hU (q / 6 * 3 + 2) (q / 3 % 2) (by omega) (by omega)
  omega
theorem oc_cap8 {s d l : Nat} (hg : ∀ x, x ∈ L → oc_gd x) (hU : ∀ s d, s < 6 → d < 2 → oc_n s d L ≤ 3) (hs : s < 6) (hd : d < 2) (hl : l < 3) (hn : oc_n s d L < 3) : (oc_Q (s / 3 * 6 + d * 3 + l) L).length < 9 := by
  have h := oc_cap (c := s / 3) (d := d) (l := l) hd hl L hg
  have a := hU (s / 3 * 3) d (by omega) (by omega)
  have b := hU (s / 3 * 3 + 1) d (by omega) (by omega)
  have c := hU (s / 3 * 3 + 2) d (by omega) (by omega)
  have z : s = s / 3 * 3 ∨ s = s / 3 * 3 + 1 ∨ s = s / 3 * 3 + 2 := by omega
  rcases z with z | z | z
  · rw [← z] at h a b c; omega
  · rw [← z] at h b; omega
  · rw [← z] at h c; omega
theorem oc_len36 (hg : ∀ x, x ∈ L → oc_gd x) (hU : ∀ s d, s < 6 → d < 2 → oc_n s d L ≤ 3) : L.length ≤ 36 := by
  have h := oc_len L hg
  have a0 := hU 0 0 (by omega) (by omega)
  have a1 := hU 1 0 (by omega) (by omega)
  have a2 := hU 2 0 (by omega) (by omega)
  have a3 := hU 3 0 (by omega) (by omega)
  have a4 := hU 4 0 (by omega) (by omega)
  have a5 := hU 5 0 (by omega) (by omega)
  have b0 := hU 0 1 (by omega) (by omega)
  have b1 := hU 1 1 (by omega) (by omega)
  have b2 := hU 2 1 (by omega) (by omega)
  have b3 := hU 3 1 (by omega) (by omega)
  have b4 := hU 4 1 (by omega) (by omega)
  have b5 := hU 5 1 (by omega) (by omega)
  omega
theorem oc_len35 {s d : Nat} (hg : ∀ x, x ∈ L → oc_gd x) (hU : ∀ s d, s < 6 → d < 2 → oc_n s d L ≤ 3) (hs : s < 6) (hd : d < 2) (hn : oc_n s d L < 3) : L.length < 36 := by
  have h := oc_len L hg
  have a0 := hU 0 0 (by omega) (by omega)
  have a1 := hU 1 0 (by omega) (by omega)
  have a2 := hU 2 0 (by omega) (by omega)
  have a3 := hU 3 0 (by omega) (by omega)
  have a4 := hU 4 0 (by omega) (by omega)
  have a5 := hU 5 0 (by omega) (by omega)
  have b0 := hU 0 1 (by omega) (by omega)
  have b1 := hU 1 1 (by omega) (by omega)
  have b2 := hU 2 1 (by omega) (by omega)
  have b3 := hU 3 1 (by omega) (by omega)
  have b4 := hU 4 1 (by omega) (by omega)
  have b5 := hU 5 1 (by omega) (by omega)
  have zs : s = 0 ∨ s = 1 ∨ s = 2 ∨ s = 3 ∨ s = 4 ∨ s = 5 := by omega
  have zd : d = 0 ∨ d = 1 := by omega
  rcases zs with rfl | rfl | rfl | rfl | rfl | rfl <;> rcases zd with rfl | rfl <;> omega
theorem oc_hz {c : Nat} (H : oc_H mm hc jo) (c2 : c < 2) : hc c = 0 ↔ mm c = 0 := by
  have h := H.1 c c2
  rw [h.2, ← nI_0, nI_eq (by omega) (by omega)]
theorem oc_pq {x : oc_Cell} {c d l : Nat} (gx : oc_gd x) (c2 : c < 2) (hd : d < 2) (hl : l < 3) : oc_pY (nI c) (nI l) (nI (1 - d)) x ↔ oc_q x = c * 6 + d * 3 + l := by
  have g1 := gx.1
  have g2 := gx.2.1
  have g3 := gx.2.2.1
  have g4 := gx.2.2.2.1
  unfold oc_pY oc_q
  rw [nI_eq (by omega) (by omega), nI_eq (by omega) (by omega), nI_eq (by omega) (by omega)]
  omega
theorem oc_pn {x : oc_Cell} {v w f : Int32} (gx : oc_gd x) (h : oc_bad v 2 ∨ oc_bad w 3) : ¬ oc_pY v w f x := by
  have g1 := gx.1
  have g3 := gx.2.2.1
  have g4 := gx.2.2.2.1
  intro z
  rcases h with h | h
  · exact oc_bad_ne h (by omega) (by omega) z.1
  · exact oc_bad_ne h (by omega) (by omega) z.2.1
theorem oc_cY_0 {v w f : Int32} (h : ∀ x, x ∈ L → ¬ oc_pY v w f x) : oc_cY v w f L = 0 := by
  unfold oc_cY
  rw [List.countP_eq_zero]
  intro x hx
  rw [decide_eq_true_eq]
  exact h x hx
theorem oc_cY_q {c d l : Nat} (hg : ∀ x, x ∈ L → oc_gd x) (c2 : c < 2) (hd : d < 2) (hl : l < 3) : oc_cY (nI c) (nI l) (nI (1 - d)) L = (oc_Q (c * 6 + d * 3 + l) L).length := by
  unfold oc_cY oc_Q
  rw [List.countP_eq_length_filter]
  refine congrArg List.length (List.filter_congr (fun x hx => ?_))
  rw [decide_eq_decide]
  exact oc_pq (hg x hx) c2 hd hl
/-- a circuit without hops has no cells -/
theorem oc_none0 {c : Nat} (W : oc_W mm jo L) (h : mm c = 0) : ∀ x, x ∈ L → ¬ oc_s x / 3 = c := by
  intro x hx z
  have h2 := (W x hx).2.2
  rw [z, h] at h2
  omega
theorem oc_jo {s : Nat} (H : oc_H mm hc jo) (hs : s < 6) : (jo s = -1) ∨ ∃ j, j < 3 ∧ j < mm (s / 3) ∧ jo s = nI j ∧ ¬ jo s = -1 := by
  rcases H.2 s hs with h | ⟨j, h1, h2⟩
  · exact Or.inl h
  · have h3 := (H.1 (s / 3) (by omega)).1
    refine Or.inr ⟨j, by omega, h1, h2, ?_⟩
    rw [h2]
    intro z
    have h4 : ¬ nI j < 0 := nI_pos (by omega)
    rw [z] at h4
    exact h4 (by decide)
end
theorem i_up {k : Nat} {u : SX} {v : SY} (h : i_Rel k u v) : i_Rel (k + 5) u v := by
  refine oc_el (P := fun u v => i_Rel (k + 5) u v) ?_ h
  intro ks hc ro ky cl rl cp rp jo uw gc gb wc cs cb nc lb ys yf yl yb yt L mm F
  exact oc_in (oc_Fup (by omega) F)
end
section
/-! ===== the constructors ===== -/
def oc_J0 : Nat → Int32 := oc_zr (fun _ => 0) 0 6 (-1)
theorem oc_xi {pu : SX → Prop} {ks : Int32} (h : pu (ks, (fun _ => 0), (fun _ => 0), (fun _ => 0), (fun _ => 0), (fun _ => 0), (fun _ => 0), (fun _ => 0), oc_J0, (fun _ => 0), (fun _ => 0), (fun _ => 0), (fun _ => 0), (fun _ => 0), (fun _ => 0))) : ∀ (r i : Nat), i + r = 6 → wX_init_122 pu ks (r + 1) (nI i) (fun _ => 0) (fun _ => 0) (fun _ => 0) (fun _ => 0) (fun _ => 0) (fun _ => 0) (fun _ => 0) (oc_zr (fun _ => 0) 0 i (-1)) (fun _ => 0) (fun _ => 0) (fun _ => 0) (fun _ => 0) (fun _ => 0) (fun _ => 0) := by
  intro r
  induction r with
  | zero =>
    intro i hi
    obtain rfl : i = 6 := by omega
    rw [wX_init_122]
    exact br_t (by decide) h
  | succ r ih =>
    intro i hi
    have g : ¬ (6 : Int32) ≤ nI i := nI_ge (b := 6) (by omega) (by decide)
    rw [wX_init_122]
    simp only [g, nI_clamp (show i < 2 ^ 31 by omega), vp_in_nI (show i < 6 by omega) (show 6 < 2 ^ 31 by omega), oc_zr_s (show 0 ≤ i by omega), nI_1, forall_eq, true_and, and_true, not_true_eq_false, not_false_eq_true, false_implies, true_implies, implies_true]
    exact ih (i + 1) (by omega)
theorem oc_yi {pu : SY → Prop} {nc : Int32} (h : pu (nc, (fun _ => 0), (fun _ => 0), oc_J0, (fun _ => 0), (fun _ => 0), (fun _ => 0), (fun _ => 0), (fun _ => 0), (fun _ => 0), (fun _ => 0))) : ∀ (r i : Nat), i + r = 6 → wY_init_85 pu nc (r + 1) (nI i) (fun _ => 0) (fun _ => 0) (oc_zr (fun _ => 0) 0 i (-1)) (fun _ => 0) (fun _ => 0) (fun _ => 0) (fun _ => 0) (fun _ => 0) (fun _ => 0) (fun _ => 0) := by
  intro r
  induction r with
  | zero =>
    intro i hi
    obtain rfl : i = 6 := by omega
    rw [wY_init_85]
    exact br_t (by decide) h
  | succ r ih =>
    intro i hi
    have g : ¬ (6 : Int32) ≤ nI i := nI_ge (b := 6) (by omega) (by decide)
    rw [wY_init_85]
    simp only [g, nI_clamp (show i < 2 ^ 31 by omega), vp_in_nI (show i < 6 by omega) (show 6 < 2 ^ 31 by omega), oc_zr_s (show 0 ≤ i by omega), nI_1, forall_eq, true_and, and_true, not_true_eq_false, not_false_eq_true, false_implies, true_implies, implies_true]
    exact ih (i + 1) (by omega)
theorem oc_F0 : oc_F 1 [] (fun _ => 0) (fun _ => 0) (fun _ => 0) (fun _ => 0) (fun _ => 0) (fun _ => 0) (fun _ => 0) oc_J0 (fun _ => 0) (fun _ => 0) (fun _ => 0) (fun _ => 0) (fun _ => 0) (fun _ => 0) 0 (fun _ => 0) (fun _ => 0) (fun _ => 0) (fun _ => 0) (fun _ => 0) (fun _ => 0) := by
  refine ⟨⟨fun c _ => ⟨Nat.zero_le _, rfl⟩, fun s hs => Or.inl (oc_zr_in (by omega) hs)⟩, fun w _ => ⟨0, by omega, rfl, fun i _ h => absurd h (by omega)⟩, ⟨rfl, fun i x e => ?_⟩, fun q _ => ⟨rfl, fun i x e => ?_⟩, fun x hx => absurd hx List.not_mem_nil, fun s d _ _ => ⟨Nat.zero_le _, fun _ => rfl⟩, fun c _ => ⟨⟨trivial, fun h hh => absurd hh (Nat.not_lt_zero _)⟩, ⟨trivial, fun h hh => absurd hh (Nat.not_lt_zero _)⟩⟩⟩
  · rw [List.getElem?_nil] at e; exact absurd e (by simp)
  · rw [oc_Q_nil, List.getElem?_nil] at e; exact absurd e (by simp)
theorem i_vc0 (k0 : Int32) : wpX_init (fun u => wpY_init (fun v => i_Rel 1 u v) k0) k0 := by
  unfold wpX_init
  refine ⟨7, ?_⟩
  have e := oc_xi (pu := fun u => wpY_init (fun v => i_Rel 1 u v) k0) (ks := k0) ?_ 6 0 (by omega)
  · rw [oc_zr_0] at e
    exact e
  · unfold wpY_init
    refine ⟨7, ?_⟩
    have e := oc_yi (pu := fun v => i_Rel 1 (k0, (fun _ => 0), (fun _ => 0), (fun _ => 0), (fun _ => 0), (fun _ => 0), (fun _ => 0), (fun _ => 0), oc_J0, (fun _ => 0), (fun _ => 0), (fun _ => 0), (fun _ => 0), (fun _ => 0), (fun _ => 0)) v) (nc := 0) (oc_in oc_F0) 6 0 (by omega)
    rw [oc_zr_0] at e
    exact e
/-! ===== the questions ===== -/
theorem i_vc_hops {k : Nat} {u : SX} {v : SY} (I : i_Rel k u v) (hk : k + 5 ≤ 2561) (v1 : Int32) : wpX_hops (fun r => wpY_hops (fun r' => r' = r ∧ i_Rel (k + 5) u v) v v1) u v1 := by
  refine oc_el (P := fun u v => wpX_hops (fun r => wpY_hops (fun r' => r' = r ∧ i_Rel (k + 5) u v) v v1) u v1) ?_ I
  intro ks hc ro ky cl rl cp rp jo uw gc gb wc cs cb nc lb ys yf yl yb yt L mm F
  have N := oc_in (ks := ks) (ro := ro) (oc_Fup (k2 := k + 5) (by omega) F)
  rcases oc_arg v1 (n := 2) (by omega) with h | ⟨c, c2, rfl⟩
  · exact oc_xhop_a h (oc_yhop_a h ⟨rfl, N⟩)
  · exact oc_xhop c2 (oc_yhop c2 ⟨rfl, N⟩)
theorem i_vc_waiting {k : Nat} {u : SX} {v : SY} (I : i_Rel k u v) (hk : k + 5 ≤ 2561) (v1 : Int32) (v2 : Int32) (v3 : Int32) : wpX_waiting (fun r => wpY_waiting (fun r' => r' = r ∧ i_Rel (k + 5) u v) v v1 v2 (lw_bz v3)) u v1 v2 (lw_bz v3) := by
  refine oc_el (P := fun u v => wpX_waiting (fun r => wpY_waiting (fun r' => r' = r ∧ i_Rel (k + 5) u v) v v1 v2 (lw_bz v3)) u v1 v2 (lw_bz v3)) ?_ I
  intro ks hc ro ky cl rl cp rp jo uw gc gb wc cs cb nc lb ys yf yl yb yt L mm F
  have N := oc_in (ks := ks) (ro := ro) (oc_Fup (k2 := k + 5) (by omega) F)
  obtain ⟨H, HB, HY, HX, HW, HU, HK⟩ := F
  have hg := oc_gds HW
  have hL := oc_len36 hg (fun s d hs hd => (HU s d hs hd).1)
  obtain ⟨d, d2, ed⟩ := oc_dirE v3
  rw [ed]
  rcases oc_arg v1 (n := 2) (by omega) with h | ⟨c, c2, rfl⟩
  · refine oc_xwt_n (Or.inl h) (oc_ywt HY hg hL ⟨?_, N⟩)
    rw [oc_cY_0 (fun x hx => oc_pn (hg x hx) (Or.inl h))]
    rfl
  · by_cases z : hc c = 0
    · refine oc_xwt_n (Or.inr (Or.inl ⟨c, c2, rfl, z⟩)) (oc_ywt HY hg hL ⟨?_, N⟩)
      rw [oc_cY_0 (fun x hx y => oc_none0 HW ((oc_hz H c2).mp z) x hx ?_)]
      · rfl
      · have g1 := (hg x hx).1
        exact (nI_eq (by omega) (by omega)).mp y.1
    · rcases oc_arg v2 (n := 3) (by omega) with h | ⟨l, l3, rfl⟩
      · refine oc_xwt_n (Or.inr (Or.inr ⟨c, c2, rfl, h⟩)) (oc_ywt HY hg hL ⟨?_, N⟩)
        rw [oc_cY_0 (fun x hx => oc_pn (hg x hx) (Or.inr h))]
        rfl
      · refine oc_xwt c2 d2 l3 z (oc_ywt HY hg hL ⟨?_, N⟩)
        rw [oc_cY_q hg c2 d2 l3]
        exact ((HX _ (by omega)).1).symm
theorem i_vc_got {k : Nat} {u : SX} {v : SY} (I : i_Rel k u v) (hk : k + 5 ≤ 2561) (v1 : Int32) (v2 : Int32) (v3 : Int32) : wpX_got (fun r => wpY_got (fun r' => r' = r ∧ i_Rel (k + 5) u v) v v1 v2 (lw_bz v3)) u v1 v2 (lw_bz v3) := by
  refine oc_el (P := fun u v => wpX_got (fun r => wpY_got (fun r' => r' = r ∧ i_Rel (k + 5) u v) v v1 v2 (lw_bz v3)) u v1 v2 (lw_bz v3)) ?_ I
  intro ks hc ro ky cl rl cp rp jo uw gc gb wc cs cb nc lb ys yf yl yb yt L mm F
  have N := oc_in (ks := ks) (ro := ro) (oc_Fup (k2 := k + 5) (by omega) F)
  obtain ⟨H, HB, HY, HX, HW, HU, HK⟩ := F
  obtain ⟨d, d2, ed⟩ := oc_dirE v3
  rw [ed]
  rcases oc_arg v1 (n := 2) (by omega) with h | ⟨c, c2, rfl⟩
  · exact oc_xgot_n (fun _ p => oc_xsil_a h p) (oc_ygot_n (fun _ p => oc_yio_a h p) ⟨rfl, N⟩)
  · by_cases z : hc c = 0
    · exact oc_xgot_n (fun _ p => oc_xsil_b c2 z p) (oc_ygot_n (fun _ p => oc_yio_b c2 z p) ⟨rfl, N⟩)
    · rcases oc_arg v2 (n := 3) (by omega) with h | ⟨s, s3, rfl⟩
      · exact oc_xgot_n (fun _ p => oc_xsil_c c2 z h p) (oc_ygot_n (fun _ p => oc_yio_c c2 z h p) ⟨rfl, N⟩)
      · rcases oc_jo (s := c * 3 + s) H (by omega) with h | ⟨j, j3, _, hj, _⟩
        · exact oc_xgot_n (fun _ p => oc_xsil_d c2 z s3 h p) (oc_ygot_n (fun _ p => oc_yio_d c2 z s3 h p) ⟨rfl, N⟩)
        · exact oc_xgot c2 s3 d2 (fun _ p => oc_xsil_f c2 z s3 hj j3 p) (oc_ygot c2 s3 d2 (fun _ p => oc_yio_f c2 z s3 hj j3 p) ⟨rfl, N⟩)
theorem i_vc_byteGot {k : Nat} {u : SX} {v : SY} (I : i_Rel k u v) (hk : k + 5 ≤ 2561) (v1 : Int32) (v2 : Int32) (v3 : Int32) (v4 : Int32) : wpX_byteGot (fun r => wpY_byteGot (fun r' => r' = r ∧ i_Rel (k + 5) u v) v v1 v2 (lw_bz v3) v4) u v1 v2 (lw_bz v3) v4 := by
  refine oc_el (P := fun u v => wpX_byteGot (fun r => wpY_byteGot (fun r' => r' = r ∧ i_Rel (k + 5) u v) v v1 v2 (lw_bz v3) v4) u v1 v2 (lw_bz v3) v4) ?_ I
  intro ks hc ro ky cl rl cp rp jo uw gc gb wc cs cb nc lb ys yf yl yb yt L mm F
  have N := oc_in (ks := ks) (ro := ro) (oc_Fup (k2 := k + 5) (by omega) F)
  obtain ⟨H, HB, HY, HX, HW, HU, HK⟩ := F
  obtain ⟨d, d2, ed⟩ := oc_dirE v3
  rw [ed]
  have no : (∀ post' : Int32 → Prop, post' 1 → wpX_silent post' (ks, hc, ro, ky, cl, rl, cp, rp, jo, uw, gc, gb, wc, cs, cb) v1 v2) → (∀ post' : Int32 → Prop, post' 0 → wpY_isOpen post' (nc, hc, ro, jo, gc, lb, ys, yf, yl, yb, yt) v1 v2) → wpX_byteGot (fun r => wpY_byteGot (fun r' => r' = r ∧ i_Rel (k + 5) (ks, hc, ro, ky, cl, rl, cp, rp, jo, uw, gc, gb, wc, cs, cb) (nc, hc, ro, jo, gc, lb, ys, yf, yl, yb, yt)) (nc, hc, ro, jo, gc, lb, ys, yf, yl, yb, yt) v1 v2 (nI (1 - d)) v4) (ks, hc, ro, ky, cl, rl, cp, rp, jo, uw, gc, gb, wc, cs, cb) v1 v2 (nI (1 - d)) v4 := by
    intro h1 h2
    rcases oc_arg v4 (n := 8) (by omega) with h | ⟨y, y8, rfl⟩
    · exact oc_xbg_n h1 (oc_ybg_b h ⟨rfl, N⟩)
    · exact oc_xbg_n h1 (oc_ybg_n y8 h2 ⟨rfl, N⟩)
  rcases oc_arg v1 (n := 2) (by omega) with h | ⟨c, c2, rfl⟩
  · exact no (fun _ p => oc_xsil_a h p) (fun _ p => oc_yio_a h p)
  · by_cases z : hc c = 0
    · exact no (fun _ p => oc_xsil_b c2 z p) (fun _ p => oc_yio_b c2 z p)
    · rcases oc_arg v2 (n := 3) (by omega) with h | ⟨s, s3, rfl⟩
      · exact no (fun _ p => oc_xsil_c c2 z h p) (fun _ p => oc_yio_c c2 z h p)
      · rcases oc_jo (s := c * 3 + s) H (by omega) with h | ⟨j, j3, _, hj, _⟩
        · exact no (fun _ p => oc_xsil_d c2 z s3 h p) (fun _ p => oc_yio_d c2 z s3 h p)
        · rcases oc_arg v4 (n := 8) (by omega) with h | ⟨y, y8, rfl⟩
          · exact oc_xbg_b c2 s3 d2 (fun _ p => oc_xsil_f c2 z s3 hj j3 p) h (oc_ybg_b h ⟨rfl, N⟩)
          · obtain ⟨g, g1, g2, g3⟩ := HB ((c * 3 + s) * 2 + d) (by omega)
            by_cases hy : g ≤ y
            · exact oc_xbg_o c2 s3 d2 (fun _ p => oc_xsil_f c2 z s3 hj j3 p) y8 g2 hy (oc_ybg_o c2 s3 d2 y8 (fun _ p => oc_yio_f c2 z s3 hj j3 p) g2 hy ⟨rfl, N⟩)
            · exact oc_xbg c2 s3 d2 (fun _ p => oc_xsil_f c2 z s3 hj j3 p) y8 g2 (by omega) (by omega) (oc_ybg c2 s3 d2 y8 (fun _ p => oc_yio_f c2 z s3 hj j3 p) g2 (by omega) (by omega) ⟨(g3 y y8 (by omega)).symm, N⟩)
end
section
/-! ===== what changes the relation: chains ===== -/
theorem oc_nm1 {j : Nat} (h : j < 3) : ¬ nI j = -1 := by
  intro z
  have h4 : ¬ nI j < 0 := nI_pos (by omega)
  rw [z] at h4
  exact h4 (by decide)
def oc_um (mm : Nat → Nat) (c v : Nat) : Nat → Nat := fun i => if i = c then v else mm i
theorem oc_um_s {mm : Nat → Nat} {c v : Nat} : oc_um mm c v c = v := if_pos rfl
theorem oc_um_n {mm : Nat → Nat} {c v i : Nat} (h : i ≠ c) : oc_um mm c v i = mm i := if_neg h
theorem oc_Gf_mem {c : Nat} {x : oc_Cell} {L : List oc_Cell} (hg : ∀ x, x ∈ L → oc_gd x) (h : x ∈ oc_Gf c L) : x ∈ L ∧ oc_s x / 3 = c ∧ oc_d x = 0 := by
  unfold oc_Gf at h
  have h2 : x ∈ L ∧ (oc_q x = c * 6 + 2 ∨ oc_q x = c * 6 + 1 ∨ oc_q x = c * 6) := by
    rcases List.mem_append.mp h with z | z
    · exact ⟨(oc_Q_mem z).1, Or.inl (oc_Q_mem z).2⟩
    · rcases List.mem_append.mp z with y | y
      · exact ⟨(oc_Q_mem y).1, Or.inr (Or.inl (oc_Q_mem y).2)⟩
      · exact ⟨(oc_Q_mem y).1, Or.inr (Or.inr (oc_Q_mem y).2)⟩
  have g := hg x h2.1
  have g1 := g.1
  have g2 := g.2.1
  have g3 := g.2.2.1
  have g4 := g.2.2.2.1
  have h3 := h2.2
  unfold oc_q at h3
  exact ⟨h2.1, by omega, by omega⟩
theorem oc_Gb_mem {c : Nat} {x : oc_Cell} {L : List oc_Cell} (hg : ∀ x, x ∈ L → oc_gd x) (h : x ∈ oc_Gb c L) : x ∈ L ∧ oc_s x / 3 = c ∧ oc_d x = 1 := by
  unfold oc_Gb at h
  have h2 : x ∈ L ∧ (oc_q x = c * 6 + 3 ∨ oc_q x = c * 6 + 4 ∨ oc_q x = c * 6 + 5) := by
    rcases List.mem_append.mp h with z | z
    · exact ⟨(oc_Q_mem z).1, Or.inl (oc_Q_mem z).2⟩
    · rcases List.mem_append.mp z with y | y
      · exact ⟨(oc_Q_mem y).1, Or.inr (Or.inl (oc_Q_mem y).2)⟩
      · exact ⟨(oc_Q_mem y).1, Or.inr (Or.inr (oc_Q_mem y).2)⟩
  have g := hg x h2.1
  have g1 := g.1
  have g2 := g.2.1
  have g3 := g.2.2.1
  have g4 := g.2.2.2.1
  have h3 := h2.2
  unfold oc_q at h3
  exact ⟨h2.1, by omega, by omega⟩
theorem oc_z_congr {a p a' p' : Nat → Int32} {b : Nat} (h : ∀ i, b ≤ i → i < b + 3 → a i = a' i ∧ p i = p' i) : ∀ h, h < 6 → oc_z a p b h = oc_z a' p' b h := by
  intro k hk
  by_cases z : k < 3
  · rw [oc_z_lo z, oc_z_lo z]
    exact (h (b + k) (by omega) (by omega)).1
  · obtain ⟨i, rfl⟩ : ∃ i, k = 3 + i := ⟨k - 3, by omega⟩
    rw [oc_z_hi, oc_z_hi]
    exact (h (b + i) (by omega) (by omega)).2
section
variable {ky cl rl cp rp ky' cl' rl' cp' rp' : Nat → Int32} {L L' : List oc_Cell} {mm : Nat → Nat} {c m : Nat}
theorem oc_Kf_congr (hm : m ≤ 3) (hg : ∀ x, x ∈ L → oc_gd x) (ea : ∀ i, c * 6 ≤ i → i < c * 6 + 3 → ky i = ky' i ∧ cl i = cl' i ∧ rl i = rl' i ∧ cp i = cp' i ∧ rp i = rp' i) (eq : ∀ q, c * 6 ≤ q → q < c * 6 + 3 → oc_Q q L' = oc_Q q L) (K : oc_Kf c m ky cl rl cp rp L) : oc_Kf c m ky' cl' rl' cp' rp' L' := by
  have eG : oc_Gf c L' = oc_Gf c L := by
    unfold oc_Gf
    rw [eq _ (by omega) (by omega), eq _ (by omega) (by omega), eq _ (by omega) (by omega)]
  unfold oc_Kf at K ⊢
  rw [eG]
  refine oc_C_congr hm (fun x hx => ?_) (fun h hh => (ea (c * 6 + h) (by omega) (by omega)).1) (oc_z_congr (fun i h1 h2 => ?_)) (oc_z_congr (fun i h1 h2 => ?_)) K
  · have g := hg x (oc_Gf_mem hg hx).1
    exact ⟨g.2.2.1, g.2.2.2.1⟩
  · exact ⟨(ea i h1 h2).2.2.1, (ea i h1 h2).2.2.2.2⟩
  · exact ⟨(ea i h1 h2).2.1, (ea i h1 h2).2.2.2.1⟩
theorem oc_Kb_congr (hm : m ≤ 3) (hg : ∀ x, x ∈ L → oc_gd x) (ea : ∀ i, c * 6 + 3 ≤ i → i < c * 6 + 6 → ky i = ky' i ∧ cl i = cl' i ∧ rl i = rl' i ∧ cp i = cp' i ∧ rp i = rp' i) (eq : ∀ q, c * 6 + 3 ≤ q → q < c * 6 + 6 → oc_Q q L' = oc_Q q L) (K : oc_Kb c m ky cl rl cp rp L) : oc_Kb c m ky' cl' rl' cp' rp' L' := by
  have eG : oc_Gb c L' = oc_Gb c L := by
    unfold oc_Gb
    rw [eq _ (by omega) (by omega), eq _ (by omega) (by omega), eq _ (by omega) (by omega)]
  unfold oc_Kb at K ⊢
  rw [eG]
  refine oc_C_congr hm (fun x hx => ?_) (fun h hh => (ea (c * 6 + 3 + h) (by omega) (by omega)).1) (oc_z_congr (fun i h1 h2 => ?_)) (oc_z_congr (fun i h1 h2 => ?_)) K
  · have g := hg x (oc_Gb_mem hg hx).1
    exact ⟨g.2.2.1, g.2.2.2.1⟩
  · exact ⟨(ea i h1 (by omega)).2.1, (ea i h1 (by omega)).2.2.2.1⟩
  · exact ⟨(ea i h1 (by omega)).2.2.1, (ea i h1 (by omega)).2.2.2.2⟩
theorem oc_K_f (c2 : c < 2) (hm : ∀ c, c < 2 → mm c ≤ 3) (hg : ∀ x, x ∈ L → oc_gd x) (ea : ∀ i, ¬ (c * 6 ≤ i ∧ i < c * 6 + 3) → cl i = cl' i ∧ rl i = rl' i ∧ cp i = cp' i ∧ rp i = rp' i) (eq : ∀ q, ¬ (c * 6 ≤ q ∧ q < c * 6 + 3) → oc_Q q L' = oc_Q q L) (new : oc_Kf c (mm c) ky cl' rl' cp' rp' L') (K : oc_K mm ky cl rl cp rp L) : oc_K mm ky cl' rl' cp' rp' L' := by
  intro e e2
  obtain ⟨K1, K2⟩ := K e e2
  refine ⟨?_, oc_Kb_congr (hm e e2) hg (fun i h1 h2 => ⟨rfl, ea i (by omega)⟩) (fun q h1 h2 => eq q (by omega)) K2⟩
  by_cases z : e = c
  · subst z; exact new
  · exact oc_Kf_congr (hm e e2) hg (fun i h1 h2 => ⟨rfl, ea i (by omega)⟩) (fun q h1 h2 => eq q (by omega)) K1
theorem oc_K_b (c2 : c < 2) (hm : ∀ c, c < 2 → mm c ≤ 3) (hg : ∀ x, x ∈ L → oc_gd x) (ea : ∀ i, ¬ (c * 6 + 3 ≤ i ∧ i < c * 6 + 6) → cl i = cl' i ∧ rl i = rl' i ∧ cp i = cp' i ∧ rp i = rp' i) (eq : ∀ q, ¬ (c * 6 + 3 ≤ q ∧ q < c * 6 + 6) → oc_Q q L' = oc_Q q L) (new : oc_Kb c (mm c) ky cl' rl' cp' rp' L') (K : oc_K mm ky cl rl cp rp L) : oc_K mm ky cl' rl' cp' rp' L' := by
  intro e e2
  obtain ⟨K1, K2⟩ := K e e2
  refine ⟨oc_Kf_congr (hm e e2) hg (fun i h1 h2 => ⟨rfl, ea i (by omega)⟩) (fun q h1 h2 => eq q (by omega)) K1, ?_⟩
  by_cases z : e = c
  · subst z; exact new
  · exact oc_Kb_congr (hm e e2) hg (fun i h1 h2 => ⟨rfl, ea i (by omega)⟩) (fun q h1 h2 => eq q (by omega)) K2
/-- the chains of another circuit than c, where only c's arrays changed -/
theorem oc_K_o (c2 : c < 2) (hm : ∀ c, c < 2 → mm c ≤ 3) (hg : ∀ x, x ∈ L → oc_gd x) (ea : ∀ i, ¬ (c * 6 ≤ i ∧ i < c * 6 + 6) → cl i = cl' i ∧ rl i = rl' i ∧ cp i = cp' i ∧ rp i = rp' i) (eq : ∀ q, ¬ (c * 6 ≤ q ∧ q < c * 6 + 6) → oc_Q q L' = oc_Q q L) (K : oc_K mm ky cl rl cp rp L) : ∀ e, e < 2 → e ≠ c → oc_Kf e (mm e) ky cl' rl' cp' rp' L' ∧ oc_Kb e (mm e) ky cl' rl' cp' rp' L' := by
  intro e e2 z
  obtain ⟨K1, K2⟩ := K e e2
  exact ⟨oc_Kf_congr (hm e e2) hg (fun i h1 h2 => ⟨rfl, ea i (by omega)⟩) (fun q h1 h2 => eq q (by omega)) K1, oc_Kb_congr (hm e e2) hg (fun i h1 h2 => ⟨rfl, ea i (by omega)⟩) (fun q h1 h2 => eq q (by omega)) K2⟩
end
section
variable {ks : Int32} {hc ro ky cl rl cp rp jo uw gc gb wc cs cb : Nat → Int32}
variable {nc : Int32} {lb ys yf yl yb yt : Nat → Int32} {k : Nat} {L : List oc_Cell} {mm : Nat → Nat} {c : Nat}
/-! ===== extend ===== -/
theorem oc_F_ext {n : Nat} {k1 k2 : Int32} (c2 : c < 2) (hn : n < 3) (em : mm c = n) (F : oc_F k L mm hc ky cl rl cp rp jo uw gc gb wc cs cb nc lb ys yf yl yb yt) : oc_F k L (oc_um mm c (n + 1)) (upd hc c (nI (n + 1))) (upd (upd ky (c * 6 + 0 * 3 + n) k1) (c * 6 + 1 * 3 + n) k2) (upd (upd cl (c * 6 + 0 * 3 + n) 0) (c * 6 + 1 * 3 + n) 0) (upd (upd rl (c * 6 + 0 * 3 + n) 0) (c * 6 + 1 * 3 + n) 0) (upd (upd cp (c * 6 + 0 * 3 + n) 0) (c * 6 + 1 * 3 + n) 0) (upd (upd rp (c * 6 + 0 * 3 + n) 0) (c * 6 + 1 * 3 + n) 0) jo uw gc gb wc cs cb nc lb ys yf yl yb yt := by
  obtain ⟨H, HB, HY, HX, HW, HU, HK⟩ := F
  have hg := oc_gds HW
  have le : ∀ i, mm i ≤ oc_um mm c (n + 1) i := by
    intro i
    by_cases z : i = c
    · subst z; rw [oc_um_s]; omega
    · rw [oc_um_n z]; exact Nat.le_refl _
  have un : ∀ (a : Nat → Int32) (x y : Int32) (i : Nat), i ≠ c * 6 + n → i ≠ c * 6 + 3 + n → a i = upd (upd a (c * 6 + 0 * 3 + n) x) (c * 6 + 1 * 3 + n) y i := by
    intro a x y i h1 h2
    rw [pk_un (by omega), pk_un (by omega)]
  have u0 : ∀ (a : Nat → Int32), upd (upd a (c * 6 + 0 * 3 + n) 0) (c * 6 + 1 * 3 + n) 0 (c * 6 + n) = 0 := by
    intro a
    rw [pk_un (by omega), show c * 6 + 0 * 3 + n = c * 6 + n from by omega, pk_us]
  have u1 : ∀ (a : Nat → Int32), upd (upd a (c * 6 + 0 * 3 + n) 0) (c * 6 + 1 * 3 + n) 0 (c * 6 + 3 + n) = 0 := by
    intro a
    rw [show c * 6 + 1 * 3 + n = c * 6 + 3 + n from by omega, pk_us]
  refine ⟨⟨fun e e2 => ?_, fun s hs => ?_⟩, HB, HY, HX, fun x hx => ?_, HU, fun e e2 => ?_⟩
  · by_cases z : e = c
    · subst z; rw [oc_um_s, pk_us]; exact ⟨by omega, rfl⟩
    · rw [oc_um_n z, pk_un z]; exact H.1 e e2
  · rcases H.2 s hs with h | ⟨j, h1, h2⟩
    · exact Or.inl h
    · exact Or.inr ⟨j, Nat.lt_of_lt_of_le h1 (le _), h2⟩
  · obtain ⟨h1, h2, h3⟩ := HW x hx
    exact ⟨h1, h2, Nat.lt_of_lt_of_le h3 (le _)⟩
  · obtain ⟨K1, K2⟩ := HK e e2
    by_cases z : e = c
    · subst z
      rw [em] at K1 K2
      rw [oc_um_s]
      refine ⟨?_, ?_⟩
      · refine oc_Text hn (fun x hx => ?_) (fun h hh => ?_) (fun h h6 h1 h2 => ?_) (fun h h6 h1 h2 => ?_) ?_ ?_ K1
        · obtain ⟨x1, x2, x3⟩ := oc_Gf_mem hg hx
          obtain ⟨g, _, hj⟩ := HW x x1
          rw [x2, em] at hj
          exact ⟨g.2.2.1, hj⟩
        · exact un ky _ _ _ (by omega) (by omega)
        · unfold oc_z; rw [← un rl _ _ _ (by omega) (by omega)]
          split
          · rfl
          · exact un rp _ _ _ (by omega) (by omega)
        · unfold oc_z; rw [← un cl _ _ _ (by omega) (by omega)]
          split
          · rfl
          · exact un cp _ _ _ (by omega) (by omega)
        · rw [oc_z_lo hn, oc_z_lo hn, u0, u0]
        · rw [oc_z_hi, oc_z_hi, u0, u0]
      · refine oc_Text hn (fun x hx => ?_) (fun h hh => ?_) (fun h h6 h1 h2 => ?_) (fun h h6 h1 h2 => ?_) ?_ ?_ K2
        · obtain ⟨x1, x2, x3⟩ := oc_Gb_mem hg hx
          obtain ⟨g, _, hj⟩ := HW x x1
          rw [x2, em] at hj
          exact ⟨g.2.2.1, hj⟩
        · exact un ky _ _ _ (by omega) (by omega)
        · unfold oc_z; rw [← un cl _ _ _ (by omega) (by omega)]
          split
          · rfl
          · exact un cp _ _ _ (by omega) (by omega)
        · unfold oc_z; rw [← un rl _ _ _ (by omega) (by omega)]
          split
          · rfl
          · exact un rp _ _ _ (by omega) (by omega)
        · rw [oc_z_lo hn, oc_z_lo hn, u1, u1]
        · rw [oc_z_hi, oc_z_hi, u1, u1]
    · rw [oc_um_n z]
      have hm := (H.1 e e2).1
      exact ⟨oc_Kf_congr hm hg (fun i h1 h2 => ⟨un ky _ _ _ (by omega) (by omega), un cl _ _ _ (by omega) (by omega), un rl _ _ _ (by omega) (by omega), un cp _ _ _ (by omega) (by omega), un rp _ _ _ (by omega) (by omega)⟩) (fun _ _ _ => rfl) K1, oc_Kb_congr hm hg (fun i h1 h2 => ⟨un ky _ _ _ (by omega) (by omega), un cl _ _ _ (by omega) (by omega), un rl _ _ _ (by omega) (by omega), un cp _ _ _ (by omega) (by omega), un rp _ _ _ (by omega) (by omega)⟩) (fun _ _ _ => rfl) K2⟩
/-! ===== open ===== -/
theorem oc_F_opn {s n : Nat} (c2 : c < 2) (s3 : s < 3) (hn : n < 3) (em : mm c = n + 1) (hj : jo (c * 3 + s) = -1) (F : oc_F k L mm hc ky cl rl cp rp jo uw gc gb wc cs cb nc lb ys yf yl yb yt) : oc_F k L mm hc ky cl rl cp rp (upd jo (c * 3 + s) (nI n)) (upd (upd uw ((c * 3 + s) * 2 + 0) 0) ((c * 3 + s) * 2 + 1) 0) (upd (upd gc ((c * 3 + s) * 2 + 0) 0) ((c * 3 + s) * 2 + 1) 0) gb wc cs cb nc lb ys yf yl yb yt := by
  obtain ⟨H, HB, HY, HX, HW, HU, HK⟩ := F
  have ne : ∀ x, x ∈ L → oc_s x ≠ c * 3 + s := by
    intro x hx z
    obtain ⟨g, h1, _⟩ := HW x hx
    rw [z, hj] at h1
    exact oc_nm1 g.2.2.2.1 h1.symm
  refine ⟨⟨H.1, fun e e6 => ?_⟩, fun w hw => ?_, HY, HX, fun x hx => ?_, fun e d e6 d2 => ?_, HK⟩
  · by_cases z : e = c * 3 + s
    · subst z
      rw [pk_us, show (c * 3 + s) / 3 = c from by omega]
      exact Or.inr ⟨n, by omega, rfl⟩
    · rw [pk_un z]; exact H.2 e e6
  · by_cases z : w = (c * 3 + s) * 2 ∨ w = (c * 3 + s) * 2 + 1
    · refine ⟨0, by omega, ?_, fun i _ h => absurd h (by omega)⟩
      rcases z with z | z
      · rw [z, pk_un (by omega), Nat.add_zero, pk_us]; rfl
      · rw [z, pk_us]; rfl
    · rw [pk_un (by omega), pk_un (by omega)]
      exact HB w hw
  · obtain ⟨h1, h2, h3⟩ := HW x hx
    rw [pk_un (ne x hx)]
    exact ⟨h1, h2, h3⟩
  · obtain ⟨h1, h2⟩ := HU e d e6 d2
    refine ⟨h1, fun hz => ?_⟩
    by_cases z : e = c * 3 + s
    · subst z
      rw [oc_n_none L ne]
      have zd : d = 0 ∨ d = 1 := by omega
      rcases zd with rfl | rfl
      · rw [pk_un (by omega), pk_us]; rfl
      · rw [pk_us]; rfl
    · rw [pk_un z] at hz
      rw [pk_un (by omega), pk_un (by omega)]
      exact h2 hz
/-! ===== destroy ===== -/
theorem oc_F_des {nc' : Int32} {ys' yf' yl' yb' yt' : Nat → Int32} (c2 : c < 2) (H : oc_H mm hc jo) (HB : oc_B k gc gb lb) (HX : oc_X wc cs cb L) (HW : oc_W mm jo L) (HU : ∀ s d, s < 6 → d < 2 → oc_n s d L ≤ 3 ∧ (s / 3 ≠ c → ¬ jo s = -1 → uw (s * 2 + d) = nI (oc_n s d L))) (HK : ∀ e, e < 2 → e ≠ c → oc_Kf e (mm e) ky cl rl cp rp L ∧ oc_Kb e (mm e) ky cl rl cp rp L) (HY : oc_Y nc' ys' yf' yl' yb' yt' (oc_rm c L)) : oc_F k (oc_rm c L) (oc_um mm c 0) (upd hc c 0) ky cl rl cp rp (oc_zr jo (c * 3) (c * 3 + 3) (-1)) uw gc gb (oc_zr wc (c * 6) (c * 6 + 6) 0) cs cb nc' lb ys' yf' yl' yb' yt' := by
  have hg := oc_gds HW
  refine ⟨⟨fun e e2 => ?_, fun s hs => ?_⟩, HB, HY, fun q hq => ?_, fun x hx => ?_, fun s d hs hd => ?_, fun e e2 => ?_⟩
  · by_cases z : e = c
    · subst z; rw [oc_um_s, pk_us]; exact ⟨by omega, rfl⟩
    · rw [oc_um_n z, pk_un z]; exact H.1 e e2
  · by_cases z : s / 3 = c
    · exact Or.inl (oc_zr_in (by omega) (by omega))
    · rw [oc_zr_out (by omega), oc_um_n z]; exact H.2 s hs
  · by_cases z : q / 6 = c
    · rw [oc_zr_in (by omega) (by omega), oc_rm_Q0 hg z]
      refine ⟨rfl, fun i x e => ?_⟩
      rw [List.getElem?_nil] at e
      exact absurd e (by simp)
    · rw [oc_zr_out (by omega), oc_rm_Q L hg z]
      exact HX q hq
  · obtain ⟨h1, h2⟩ := oc_rm_mem hx
    obtain ⟨h3, h4, h5⟩ := HW x h1
    rw [oc_zr_out (by omega), oc_um_n h2]
    exact ⟨h3, h4, h5⟩
  · by_cases z : s / 3 = c
    · rw [oc_rm_n0 z]
      refine ⟨by omega, fun h => absurd ?_ h⟩
      exact oc_zr_in (by omega) (by omega)
    · rw [oc_rm_n L z, oc_zr_out (by omega)]
      exact ⟨(HU s d hs hd).1, (HU s d hs hd).2 z⟩
  · by_cases z : e = c
    · subst z
      have f : oc_Gf e (oc_rm e L) = [] := by
        unfold oc_Gf
        rw [oc_rm_Q0 hg (by omega), oc_rm_Q0 hg (by omega), oc_rm_Q0 hg (by omega)]
        rfl
      have b : oc_Gb e (oc_rm e L) = [] := by
        unfold oc_Gb
        rw [oc_rm_Q0 hg (by omega), oc_rm_Q0 hg (by omega), oc_rm_Q0 hg (by omega)]
        rfl
      unfold oc_Kf oc_Kb
      rw [oc_um_s, f, b]
      exact ⟨⟨trivial, fun h hh => absurd hh (Nat.not_lt_zero _)⟩, ⟨trivial, fun h hh => absurd hh (Nat.not_lt_zero _)⟩⟩
    · obtain ⟨K1, K2⟩ := HK e e2 z
      rw [oc_um_n z]
      have hm := (H.1 e e2).1
      exact ⟨oc_Kf_congr hm hg (fun _ _ _ => ⟨rfl, rfl, rfl, rfl, rfl⟩) (fun q h1 h2 => oc_rm_Q L hg (by omega)) K1, oc_Kb_congr hm hg (fun _ _ _ => ⟨rfl, rfl, rfl, rfl, rfl⟩) (fun q h1 h2 => oc_rm_Q L hg (by omega)) K2⟩
end
end
section
/-! ===== extend, open, destroy ===== -/
theorem i_vc_extend {k : Nat} {u : SX} {v : SY} (I : i_Rel k u v) (hk : k + 5 ≤ 2561) (v1 : Int32) (v2 : Int32) : wpX_extend (fun r u' => wpY_extend (fun r' v' => r' = r ∧ i_Rel (k + 5) u' v') v v1 v2) u v1 v2 := by
  refine oc_el (P := fun u v => wpX_extend (fun r u' => wpY_extend (fun r' v' => r' = r ∧ i_Rel (k + 5) u' v') v v1 v2) u v1 v2) ?_ I
  intro ks hc ro ky cl rl cp rp jo uw gc gb wc cs cb nc lb ys yf yl yb yt L mm F0
  have F := oc_Fup (k2 := k + 5) (by omega) F0
  have N := oc_in (ks := ks) (ro := ro) F
  rcases oc_arg v1 (n := 2) (by omega) with h | ⟨c, c2, rfl⟩
  · exact oc_xext_a h (oc_yext_a h ⟨rfl, N⟩)
  · rcases oc_arg v2 (n := 5) (by omega) with h | ⟨w, w5, rfl⟩
    · exact oc_xext_b c2 h (oc_yext_b c2 h ⟨rfl, N⟩)
    · obtain ⟨hn, hh⟩ := F.1.1 c c2
      by_cases e : ∃ i, i < mm c ∧ ro (c * 3 + i) = nI w
      · obtain ⟨i, h1, h2⟩ := e
        refine oc_xext_c c2 w5 hn hh (oc_x31f c2 hn ?_ (mm c) 0 (by omega) ⟨i, by omega, h1, h2⟩)
        exact oc_yext_c (n := mm c) c2 w5 (oc_y25f c2 hn hh ⟨rfl, N⟩ (mm c) 0 (by omega) ⟨i, by omega, h1, h2⟩)
      · have hr : ∀ i, i < mm c → ¬ ro (c * 3 + i) = nI w := fun i h1 h2 => e ⟨i, h1, h2⟩
        refine oc_xext_c c2 w5 hn hh (oc_x31e c2 hn (fun h3 => ?_) hr (fun h3 => oc_x83 c2 h3 ?_) (mm c) 0 (by omega))
        · exact oc_yext_c (n := mm c) c2 w5 (oc_y25e c2 hn hh (fun _ => ⟨rfl, N⟩) hr (fun h4 => by omega) (mm c) 0 (by omega))
        · exact oc_yext_c (n := mm c) c2 w5 (oc_y25e c2 hn hh (fun h4 => by omega) hr (fun _ => ⟨rfl, oc_in (oc_F_ext c2 h3 rfl F)⟩) (mm c) 0 (by omega))
theorem i_vc_open {k : Nat} {u : SX} {v : SY} (I : i_Rel k u v) (hk : k + 5 ≤ 2561) (v1 : Int32) (v2 : Int32) : wpX_open (fun r u' => wpY_open (fun r' v' => r' = r ∧ i_Rel (k + 5) u' v') v v1 v2) u v1 v2 := by
  refine oc_el (P := fun u v => wpX_open (fun r u' => wpY_open (fun r' v' => r' = r ∧ i_Rel (k + 5) u' v') v v1 v2) u v1 v2) ?_ I
  intro ks hc ro ky cl rl cp rp jo uw gc gb wc cs cb nc lb ys yf yl yb yt L mm F0
  have F := oc_Fup (k2 := k + 5) (by omega) F0
  have N := oc_in (ks := ks) (ro := ro) F
  rcases oc_arg v1 (n := 2) (by omega) with h | ⟨c, c2, rfl⟩
  · exact oc_xopn_a h (oc_yopn_a h ⟨rfl, N⟩)
  · by_cases z : hc c = 0
    · exact oc_xopn_b c2 z (oc_yopn_b c2 z ⟨rfl, N⟩)
    · rcases oc_arg v2 (n := 3) (by omega) with h | ⟨s, s3, rfl⟩
      · exact oc_xopn_c c2 z h (oc_yopn_c c2 z h ⟨rfl, N⟩)
      · rcases oc_jo (s := c * 3 + s) F.1 (by omega) with h | ⟨j, j3, _, hj, _⟩
        · obtain ⟨hn, hh⟩ := F.1.1 c c2
          have z2 : mm c ≠ 0 := fun w => z ((oc_hz F.1 c2).mpr w)
          obtain ⟨n, en⟩ : ∃ n, mm c = n + 1 := ⟨mm c - 1, by omega⟩
          rw [en] at hh
          exact oc_xopn c2 s3 (by omega) hh h (oc_yopn c2 s3 (by omega) hh h ⟨rfl, oc_in (oc_F_opn c2 s3 (by omega) en h F)⟩)
        · exact oc_xopn_d c2 z s3 hj j3 (oc_yopn_d c2 z s3 hj j3 ⟨rfl, N⟩)
theorem i_vc_destroy {k : Nat} {u : SX} {v : SY} (I : i_Rel k u v) (hk : k + 5 ≤ 2561) (v1 : Int32) : wpX_destroy (fun r u' => wpY_destroy (fun r' v' => r' = r ∧ i_Rel (k + 5) u' v') v v1) u v1 := by
  refine oc_el (P := fun u v => wpX_destroy (fun r u' => wpY_destroy (fun r' v' => r' = r ∧ i_Rel (k + 5) u' v') v v1) u v1) ?_ I
  intro ks hc ro ky cl rl cp rp jo uw gc gb wc cs cb nc lb ys yf yl yb yt L mm F0
  have F := oc_Fup (k2 := k + 5) (by omega) F0
  have N := oc_in (ks := ks) (ro := ro) F
  rcases oc_arg v1 (n := 2) (by omega) with h | ⟨c, c2, rfl⟩
  · exact oc_xdes_a h (oc_ydes_a h ⟨rfl, N⟩)
  · by_cases z : hc c = 0
    · exact oc_xdes_b c2 z (oc_ydes_b c2 z ⟨rfl, N⟩)
    · obtain ⟨H, HB, HY, HX, HW, HU, HK⟩ := F
      have hg := oc_gds HW
      have hL := oc_len36 hg (fun s d hs hd => (HU s d hs hd).1)
      obtain ⟨ys', yf', yl', yb', yt', h1, h2⟩ := oc_ydes (hc := hc) (ro := ro) (jo := jo) (gc := gc) (lb := lb) c2 z HY hg hL
      refine oc_xdes c2 z (fun q hq => (HX q hq).1) (h2 _ ⟨?_, oc_in (oc_F_des c2 H HB HX HW (fun s d hs hd => ⟨(HU s d hs hd).1, fun _ => (HU s d hs hd).2⟩) (fun e e2 _ => HK e e2) h1)⟩)
      have e := oc_sum (c := c) L hg
      rw [pk_sub (by omega)]
      exact congrArg nI (by omega)
end
section
/-! ===== a new cell ===== -/
theorem oc_and0 : (0 : Int32) &&& 255 = 0 := by decide
section
variable {ks : Int32} {hc ro ky cl rl cp rp jo uw gc gb wc cs cb : Nat → Int32}
variable {nc : Int32} {lb ys yf yl yb yt : Nat → Int32} {k : Nat} {L : List oc_Cell} {mm : Nat → Nat} {c : Nat} {x y : oc_Cell}
theorem oc_W_put (HW : oc_W mm jo L) (gy : oc_gd y ∧ jo (oc_s y) = nI (oc_j y) ∧ oc_j y < mm (oc_s y / 3)) : oc_W mm jo (L ++ [y]) := by
  intro z hz
  rcases List.mem_append.mp hz with h | h
  · exact HW z h
  · rw [List.mem_singleton.mp h]; exact gy
theorem oc_U_put {s d n : Nat} (HU : oc_U jo uw L) (hs : oc_s y = s) (hd : oc_d y = d) (s6 : s < 6) (d2 : d < 2) (hn : oc_n s d L = n) (hu : n < 3) : oc_U jo (upd uw (s * 2 + d) (nI (n + 1))) (L ++ [y]) := by
  intro e f e6 f2
  obtain ⟨h1, h2⟩ := HU e f e6 f2
  by_cases z : e = s ∧ f = d
  · obtain ⟨z1, z2⟩ := z
    subst z1 z2
    rw [oc_n_put ⟨hs, hd⟩, hn, pk_us]
    exact ⟨by omega, fun _ => rfl⟩
  · rw [oc_n_put_n (fun w => z ⟨by rw [← w.1]; exact hs, by rw [← w.2]; exact hd⟩), pk_un (by omega)]
    exact ⟨h1, h2⟩
theorem oc_bz_z {a p a' p' : Nat → Int32} {b l j : Nat} (xl : oc_l x = l) (xj : oc_j x = j) (hlj : l ≤ j) (j3 : j < 3) (ha : ∀ i, l ≤ i → i ≤ j → a' (b + i) = a (b + i) + 1) (ha' : ∀ i, ¬ (l ≤ i ∧ i ≤ j) → a' (b + i) = a (b + i)) (hp : p' (b + j) = p (b + j) + 1) (hp' : ∀ i, i ≠ j → p' (b + i) = p (b + i)) : ∀ h, h < 6 → oc_z a' p' b h = oc_bz (oc_z a p b) x h := by
  intro h h6
  by_cases z : h < 3
  · rw [oc_z_lo z]
    by_cases w : l ≤ h ∧ h ≤ j
    · rw [oc_bz_t (oc_tch_t.mpr (by omega)), oc_z_lo z, ha h w.1 w.2]
    · rw [oc_bz_n (oc_tch_f.mpr (by omega)), oc_z_lo z, ha' h w]
  · obtain ⟨i, rfl⟩ : ∃ i, h = 3 + i := ⟨h - 3, by omega⟩
    rw [oc_z_hi]
    by_cases w : i = j
    · rw [oc_bz_t (oc_tch_t.mpr (by omega)), oc_z_hi, w, hp]
    · rw [oc_bz_n (oc_tch_f.mpr (by omega)), oc_z_hi, hp' i w]
theorem oc_ly_z {a p : Nat → Int32} {K : Nat → Int32} {b l n : Nat} (h : l + n ≤ 3) : oc_ly K (oc_k a b) l n = oc_ly K (oc_z a p b) l n :=
  oc_ly_congr n l (fun i _ _ => ⟨rfl, by rw [oc_z_lo (by omega)]; rfl⟩)
/-! the client sends -/
theorem oc_F_send {s j n m : Nat} {b w : Int32} (c2 : c < 2) (s3 : s < 3) (j3 : j < mm c) (hj : jo (c * 3 + s) = nI j) (hn : (oc_Q (c * 6) L).length = n) (hm : oc_n (c * 3 + s) 0 L = m) (m3 : m < 3) (F : oc_F k L mm hc ky cl rl cp rp jo uw gc gb wc cs cb nc lb ys yf yl yb yt)
    (xs : oc_s x = c * 3 + s) (xd : oc_d x = 0) (xl : oc_l x = 0) (xj : oc_j x = j) (xb : oc_b x = b &&& 255) (xt : oc_t x = 0) (xw : oc_w x = w) (ew : w = oc_pk (b &&& 255) (oc_pad (ky (c * 6 + j)) (cp (c * 6 + j))) ^^^ oc_ly (oc_k ky (c * 6)) (oc_k cl (c * 6)) 0 (j + 1)) : oc_F k (L ++ [x]) mm hc ky (oc_up cl (c * 6) (c * 6 + (j + 1))) rl (upd cp (c * 6 + j) (cp (c * 6 + j) + 1)) rp jo (upd uw ((c * 3 + s) * 2) (nI (m + 1))) gc gb (upd wc (c * 6) (nI (n + 1))) (upd cs (c * 6 * 9 + n) (nI s)) (upd cb (c * 6 * 9 + n) w) (nI (L.length + 1)) lb (upd ys L.length (nI (oc_s x))) (upd yf L.length (nI (1 - oc_d x))) (upd yl L.length (nI (oc_l x))) (upd yb L.length (oc_b x)) (upd yt L.length (oc_t x)) := by
  obtain ⟨H, HB, HY, HX, HW, HU, HK⟩ := F
  have hg := oc_gds HW
  have hU := fun s d hs hd => (HU s d hs hd).1
  have hc3 := (H.1 c c2).1
  have gx : oc_gd x := ⟨by omega, by omega, by omega, by omega, by rw [xb]; exact oc_and_and _, by rw [xt]; decide⟩
  have hq : oc_q x = c * 6 := by unfold oc_q; rw [xs, xd, xl]; omega
  have hn9 : n < 9 := by
    have h := oc_cap8 (s := c * 3 + s) (d := 0) (l := 0) hg hU (by omega) (by omega) (by omega) (by omega)
    rw [show (c * 3 + s) / 3 * 6 + 0 * 3 + 0 = c * 6 from by omega] at h
    omega
  have X := oc_X_put hq hn hn9 (oc_cap9 hg hU) HX
  rw [xw, show oc_s x % 3 = s from by omega] at X
  have U := oc_U_put (d := 0) HU xs xd (by omega) (by omega) hm m3
  refine ⟨H, HB, oc_Y_put HY, X, oc_W_put HW ⟨gx, by rw [xs, xj]; exact hj, by rw [xs, xj, show (c * 3 + s) / 3 = c from by omega]; exact j3⟩, U, ?_⟩
  refine oc_K_f c2 (fun e e2 => (H.1 e e2).1) hg (fun i hi => ⟨(oc_up_out (by omega)).symm, rfl, (pk_un (by omega)).symm, rfl⟩) (fun q hq2 => oc_Q_put_n (by omega)) ?_ HK
  have C : oc_C (oc_k ky (c * 6)) (oc_z rl rp (c * 6)) (oc_z cl cp (c * 6)) (mm c) (oc_Gf c L ++ []) := by
    rw [List.append_nil]; exact (HK c c2).1
  have eG : oc_Gf c (L ++ [x]) = oc_Gf c L ++ x :: [] := by
    unfold oc_Gf
    rw [oc_Q_put_n (by omega), oc_Q_put_n (by omega), oc_Q_put hq, List.append_assoc, List.append_assoc]
  unfold oc_Kf
  rw [eG]
  refine oc_Tins (by omega) hc3 (by omega) (fun y hy => absurd hy List.not_mem_nil) ?_ ?_ C
  · rw [xw, ew]
    unfold oc_enc
    rw [xl, xj, xb, xt, oc_z_hi, Int32.xor_zero, Nat.sub_zero, oc_ly_z (p := cp) (by omega)]
    rfl
  · refine oc_bz_z (l := 0) (j := j) xl xj (by omega) (by omega) (fun i _ h => oc_up_in (by omega) (by omega)) (fun i h => oc_up_out (by omega)) pk_us (fun i h => pk_un (by omega))
/-! a relay replies -/
theorem oc_Gb_ins {j : Nat} (j3 : j < 3) (hq : oc_q x = c * 6 + 3 + j) : ∃ A B, oc_Gb c L = A ++ B ∧ oc_Gb c (L ++ [x]) = A ++ x :: B ∧ ∀ y, y ∈ B → y ∈ L ∧ c * 6 + 3 + j < oc_q y ∧ oc_q y < c * 6 + 6 := by
  have z : j = 0 ∨ j = 1 ∨ j = 2 := by omega
  unfold oc_Gb
  rcases z with rfl | rfl | rfl
  · refine ⟨oc_Q (c * 6 + 3) L, oc_Q (c * 6 + 4) L ++ oc_Q (c * 6 + 5) L, rfl, ?_, fun y hy => ?_⟩
    · rw [oc_Q_put hq, oc_Q_put_n (by omega), oc_Q_put_n (by omega), List.append_assoc]
      rfl
    · rcases List.mem_append.mp hy with h | h
      · have h2 := oc_Q_mem h; exact ⟨h2.1, by omega, by omega⟩
      · have h2 := oc_Q_mem h; exact ⟨h2.1, by omega, by omega⟩
  · refine ⟨oc_Q (c * 6 + 3) L ++ oc_Q (c * 6 + 4) L, oc_Q (c * 6 + 5) L, by rw [List.append_assoc], ?_, fun y hy => ?_⟩
    · rw [oc_Q_put_n (by omega), oc_Q_put hq, oc_Q_put_n (by omega), List.append_assoc, List.append_assoc]
      rfl
    · have h2 := oc_Q_mem hy; exact ⟨h2.1, by omega, by omega⟩
  · refine ⟨oc_Q (c * 6 + 3) L ++ (oc_Q (c * 6 + 4) L ++ oc_Q (c * 6 + 5) L), [], by rw [List.append_nil], ?_, fun y hy => absurd hy List.not_mem_nil⟩
    rw [oc_Q_put_n (by omega), oc_Q_put_n (by omega), oc_Q_put hq, List.append_assoc, List.append_assoc]
theorem oc_F_reply {s j n m : Nat} {b w : Int32} (c2 : c < 2) (s3 : s < 3) (j3 : j < mm c) (hj : jo (c * 3 + s) = nI j) (hn : (oc_Q (c * 6 + 3 + j) L).length = n) (hm : oc_n (c * 3 + s) 1 L = m) (m3 : m < 3) (F : oc_F k L mm hc ky cl rl cp rp jo uw gc gb wc cs cb nc lb ys yf yl yb yt)
    (xs : oc_s x = c * 3 + s) (xd : oc_d x = 1) (xl : oc_l x = j) (xj : oc_j x = j) (xb : oc_b x = b &&& 255) (xt : oc_t x = 0) (xw : oc_w x = w) (ew : w = oc_pk (b &&& 255) (oc_pad (ky (c * 6 + 3 + j)) (rp (c * 6 + 3 + j))) ^^^ oc_str (ky (c * 6 + 3 + j)) (rl (c * 6 + 3 + j))) : oc_F k (L ++ [x]) mm hc ky cl (upd rl (c * 6 + 3 + j) (rl (c * 6 + 3 + j) + 1)) cp (upd rp (c * 6 + 3 + j) (rp (c * 6 + 3 + j) + 1)) jo (upd uw ((c * 3 + s) * 2 + 1) (nI (m + 1))) gc gb (upd wc (c * 6 + 3 + j) (nI (n + 1))) (upd cs ((c * 6 + 3 + j) * 9 + n) (nI s)) (upd cb ((c * 6 + 3 + j) * 9 + n) w) (nI (L.length + 1)) lb (upd ys L.length (nI (oc_s x))) (upd yf L.length (nI (1 - oc_d x))) (upd yl L.length (nI (oc_l x))) (upd yb L.length (oc_b x)) (upd yt L.length (oc_t x)) := by
  obtain ⟨H, HB, HY, HX, HW, HU, HK⟩ := F
  have hg := oc_gds HW
  have hU := fun s d hs hd => (HU s d hs hd).1
  have hc3 := (H.1 c c2).1
  have gx : oc_gd x := ⟨by omega, by omega, by omega, by omega, by rw [xb]; exact oc_and_and _, by rw [xt]; decide⟩
  have hq : oc_q x = c * 6 + 3 + j := by unfold oc_q; rw [xs, xd, xl]; omega
  have hn9 : n < 9 := by
    have h := oc_cap8 (s := c * 3 + s) (d := 1) (l := j) hg hU (by omega) (by omega) (by omega) (by omega)
    rw [show (c * 3 + s) / 3 * 6 + 1 * 3 + j = c * 6 + 3 + j from by omega] at h
    omega
  have X := oc_X_put hq hn hn9 (oc_cap9 hg hU) HX
  rw [xw, show oc_s x % 3 = s from by omega] at X
  have U := oc_U_put (d := 1) HU xs xd (by omega) (by omega) hm m3
  refine ⟨H, HB, oc_Y_put HY, X, oc_W_put HW ⟨gx, by rw [xs, xj]; exact hj, by rw [xs, xj, show (c * 3 + s) / 3 = c from by omega]; exact j3⟩, U, ?_⟩
  refine oc_K_b c2 (fun e e2 => (H.1 e e2).1) hg (fun i hi => ⟨rfl, (pk_un (by omega)).symm, rfl, (pk_un (by omega)).symm⟩) (fun q hq2 => oc_Q_put_n (by omega)) ?_ HK
  obtain ⟨A, B, e1, e2, hB⟩ := oc_Gb_ins (L := L) (j := j) (by omega) hq
  have C : oc_C (oc_k ky (c * 6 + 3)) (oc_z cl cp (c * 6 + 3)) (oc_z rl rp (c * 6 + 3)) (mm c) (A ++ B) := by
    rw [← e1]; exact (HK c c2).2
  unfold oc_Kb
  rw [e2]
  refine oc_Tins (by omega) hc3 (by omega) (fun y hy h hh => ?_) ?_ ?_ C
  · obtain ⟨y1, y2, y3⟩ := hB y hy
    have g := hg y y1
    have g1 := g.1
    have g2 := g.2.1
    have g3 := g.2.2.1
    have g4 := g.2.2.2.1
    unfold oc_q at y2 y3
    rw [oc_tch_t] at hh
    rw [oc_tch_f]
    omega
  · rw [xw, ew]
    unfold oc_enc
    rw [xl, xj, xb, xt, oc_z_hi, Int32.xor_zero, show j + 1 - j = 0 + 1 from by omega, show oc_ly (oc_k ky (c * 6 + 3)) (oc_z rl rp (c * 6 + 3)) j (0 + 1) = oc_str (oc_k ky (c * 6 + 3) j) (oc_z rl rp (c * 6 + 3) j) ^^^ 0 from rfl, Int32.xor_zero, oc_z_lo (by omega)]
    rfl
  · refine oc_bz_z (l := j) (j := j) xl xj (by omega) (by omega) (fun i h1 h2 => ?_) (fun i h => pk_un (by omega)) pk_us (fun i h => pk_un (by omega))
    obtain rfl : i = j := by omega
    exact pk_us
end
/-! ===== send, reply ===== -/
theorem i_vc_send {k : Nat} {u : SX} {v : SY} (I : i_Rel k u v) (hk : k + 5 ≤ 2561) (v1 : Int32) (v2 : Int32) (v3 : Int32) : wpX_send (fun r u' => wpY_send (fun r' v' => r' = r ∧ i_Rel (k + 5) u' v') v v1 v2 v3) u v1 v2 v3 := by
  refine oc_el (P := fun u v => wpX_send (fun r u' => wpY_send (fun r' v' => r' = r ∧ i_Rel (k + 5) u' v') v v1 v2 v3) u v1 v2 v3) ?_ I
  intro ks hc ro ky cl rl cp rp jo uw gc gb wc cs cb nc lb ys yf yl yb yt L mm F0
  have F := oc_Fup (k2 := k + 5) (by omega) F0
  have N := oc_in (ks := ks) (ro := ro) F
  have Y : ∀ (r : Int32), (∀ pr : Int32 → SY → Prop, pr r (nc, hc, ro, jo, gc, lb, ys, yf, yl, yb, yt) → wpY_start pr (nc, hc, ro, jo, gc, lb, ys, yf, yl, yb, yt) v1 v2 v3 1) → wpY_send (fun r' v' => r' = r ∧ i_Rel (k + 5) (ks, hc, ro, ky, cl, rl, cp, rp, jo, uw, gc, gb, wc, cs, cb) v') (nc, hc, ro, jo, gc, lb, ys, yf, yl, yb, yt) v1 v2 v3 := by
    intro r h
    simp only [wpY_send]
    exact h _ ⟨rfl, N⟩
  have no : ∀ (r : Int32), ¬ r = 0 → (∀ post : Int32 → Prop, post r → wpX_refusal post (ks, hc, ro, ky, cl, rl, cp, rp, jo, uw, gc, gb, wc, cs, cb) v1 v2 0) → (∀ pr : Int32 → SY → Prop, pr r (nc, hc, ro, jo, gc, lb, ys, yf, yl, yb, yt) → wpY_start pr (nc, hc, ro, jo, gc, lb, ys, yf, yl, yb, yt) v1 v2 v3 1) → wpX_send (fun r u' => wpY_send (fun r' v' => r' = r ∧ i_Rel (k + 5) u' v') (nc, hc, ro, jo, gc, lb, ys, yf, yl, yb, yt) v1 v2 v3) (ks, hc, ro, ky, cl, rl, cp, rp, jo, uw, gc, gb, wc, cs, cb) v1 v2 v3 := by
    intro r h0 h1 h2
    simp only [wpX_send]
    exact h1 _ (br_f h0 (Y r h2))
  obtain ⟨H, HB, HY, HX, HW, HU, HK⟩ := id F
  have hg := oc_gds HW
  have hU := fun s d hs hd => (HU s d hs hd).1
  have hL := oc_len36 hg hU
  rcases oc_arg v1 (n := 2) (by omega) with h | ⟨c, c2, rfl⟩
  · exact no (-1) (by decide) (fun _ p => oc_xref_a h p) (fun _ p => oc_yst_a h p)
  · by_cases z : hc c = 0
    · exact no (-5) (by decide) (fun _ p => oc_xref_b c2 z p) (fun _ p => oc_yst_b c2 z p)
    · rcases oc_arg v2 (n := 3) (by omega) with h | ⟨s, s3, rfl⟩
      · exact no (-3) (by decide) (fun _ p => oc_xref_c c2 z h p) (fun _ p => oc_yst_c c2 z (fun _ q => oc_yio_c c2 z h q) p)
      · rcases oc_jo (s := c * 3 + s) H (by omega) with h | ⟨j, j3, jm, hj, hj1⟩
        · exact no (-3) (by decide) (fun _ p => oc_xref_d c2 z s3 h p) (fun _ p => oc_yst_c c2 z (fun _ q => oc_yio_d c2 z s3 h q) p)
        · obtain ⟨u1, u2⟩ := HU (c * 3 + s) 0 (by omega) (by omega)
          by_cases f : oc_n (c * 3 + s) 0 L = 3
          · exact no (-6) (by decide) (fun _ p => oc_xref_e (d := 0) c2 z s3 (by omega) hj j3 (u2 hj1) (by omega) (by omega) p) (fun _ p => oc_yst_e (d := 0) c2 s3 (by omega) z hj j3 HY hg hL f p)
          · have f3 : oc_n (c * 3 + s) 0 L < 3 := by omega
            rw [show (c * 3 + s) / 3 = c from by omega] at jm
            have hc3 := (H.1 c c2).1
            have hn9 : (oc_Q (c * 6) L).length < 9 := by
              have h := oc_cap8 (s := c * 3 + s) (d := 0) (l := 0) hg hU (by omega) (by omega) (by omega) f3
              rw [show (c * 3 + s) / 3 * 6 + 0 * 3 + 0 = c * 6 from by omega] at h
              exact h
            refine oc_xsend c2 s3 j3 hn9 f3 z hj (HX (c * 6) (by omega)).1 (u2 hj1) ?_
            simp only [wpY_send]
            refine oc_yst (d := 0) (x := (c * 3 + s, 0, 0, j, v3 &&& 255, 0, _)) c2 s3 (by omega) z hj j3 HY hg (oc_len35 hg hU (by omega) (by omega) f3) f3 ⟨by show c * 3 + s < 6; omega, by show 0 < 2; omega, Nat.zero_le _, j3, oc_and_and _, oc_and0⟩ rfl rfl rfl rfl rfl ⟨?_, oc_in (oc_F_send c2 s3 jm hj rfl rfl f3 F rfl rfl rfl rfl rfl rfl rfl rfl)⟩
            exact congrArg nI (oc_n_put ⟨rfl, rfl⟩)
theorem i_vc_reply {k : Nat} {u : SX} {v : SY} (I : i_Rel k u v) (hk : k + 5 ≤ 2561) (v1 : Int32) (v2 : Int32) (v3 : Int32) : wpX_reply (fun r u' => wpY_reply (fun r' v' => r' = r ∧ i_Rel (k + 5) u' v') v v1 v2 v3) u v1 v2 v3 := by
  refine oc_el (P := fun u v => wpX_reply (fun r u' => wpY_reply (fun r' v' => r' = r ∧ i_Rel (k + 5) u' v') v v1 v2 v3) u v1 v2 v3) ?_ I
  intro ks hc ro ky cl rl cp rp jo uw gc gb wc cs cb nc lb ys yf yl yb yt L mm F0
  have F := oc_Fup (k2 := k + 5) (by omega) F0
  have N := oc_in (ks := ks) (ro := ro) F
  have Y : ∀ (r : Int32), (∀ pr : Int32 → SY → Prop, pr r (nc, hc, ro, jo, gc, lb, ys, yf, yl, yb, yt) → wpY_start pr (nc, hc, ro, jo, gc, lb, ys, yf, yl, yb, yt) v1 v2 v3 0) → wpY_reply (fun r' v' => r' = r ∧ i_Rel (k + 5) (ks, hc, ro, ky, cl, rl, cp, rp, jo, uw, gc, gb, wc, cs, cb) v') (nc, hc, ro, jo, gc, lb, ys, yf, yl, yb, yt) v1 v2 v3 := by
    intro r h
    simp only [wpY_reply]
    exact h _ ⟨rfl, N⟩
  have no : ∀ (r : Int32), ¬ r = 0 → (∀ post : Int32 → Prop, post r → wpX_refusal post (ks, hc, ro, ky, cl, rl, cp, rp, jo, uw, gc, gb, wc, cs, cb) v1 v2 1) → (∀ pr : Int32 → SY → Prop, pr r (nc, hc, ro, jo, gc, lb, ys, yf, yl, yb, yt) → wpY_start pr (nc, hc, ro, jo, gc, lb, ys, yf, yl, yb, yt) v1 v2 v3 0) → wpX_reply (fun r u' => wpY_reply (fun r' v' => r' = r ∧ i_Rel (k + 5) u' v') (nc, hc, ro, jo, gc, lb, ys, yf, yl, yb, yt) v1 v2 v3) (ks, hc, ro, ky, cl, rl, cp, rp, jo, uw, gc, gb, wc, cs, cb) v1 v2 v3 := by
    intro r h0 h1 h2
    simp only [wpX_reply]
    exact h1 _ (br_f h0 (Y r h2))
  obtain ⟨H, HB, HY, HX, HW, HU, HK⟩ := id F
  have hg := oc_gds HW
  have hU := fun s d hs hd => (HU s d hs hd).1
  have hL := oc_len36 hg hU
  rcases oc_arg v1 (n := 2) (by omega) with h | ⟨c, c2, rfl⟩
  · exact no (-1) (by decide) (fun _ p => oc_xref_a h p) (fun _ p => oc_yst_a h p)
  · by_cases z : hc c = 0
    · exact no (-5) (by decide) (fun _ p => oc_xref_b c2 z p) (fun _ p => oc_yst_b c2 z p)
    · rcases oc_arg v2 (n := 3) (by omega) with h | ⟨s, s3, rfl⟩
      · exact no (-3) (by decide) (fun _ p => oc_xref_c c2 z h p) (fun _ p => oc_yst_c c2 z (fun _ q => oc_yio_c c2 z h q) p)
      · rcases oc_jo (s := c * 3 + s) H (by omega) with h | ⟨j, j3, jm, hj, hj1⟩
        · exact no (-3) (by decide) (fun _ p => oc_xref_d c2 z s3 h p) (fun _ p => oc_yst_c c2 z (fun _ q => oc_yio_d c2 z s3 h q) p)
        · obtain ⟨u1, u2⟩ := HU (c * 3 + s) 1 (by omega) (by omega)
          by_cases f : oc_n (c * 3 + s) 1 L = 3
          · exact no (-6) (by decide) (fun _ p => oc_xref_e (d := 1) c2 z s3 (by omega) hj j3 (u2 hj1) (by omega) (by omega) p) (fun _ p => oc_yst_e (d := 1) c2 s3 (by omega) z hj j3 HY hg hL f p)
          · have f3 : oc_n (c * 3 + s) 1 L < 3 := by omega
            rw [show (c * 3 + s) / 3 = c from by omega] at jm
            have hc3 := (H.1 c c2).1
            have hn9 : (oc_Q (c * 6 + 3 + j) L).length < 9 := by
              have h := oc_cap8 (s := c * 3 + s) (d := 1) (l := j) hg hU (by omega) (by omega) j3 f3
              rw [show (c * 3 + s) / 3 * 6 + 1 * 3 + j = c * 6 + 3 + j from by omega] at h
              exact h
            refine oc_xreply c2 s3 j3 hn9 f3 z hj (HX (c * 6 + 3 + j) (by omega)).1 (u2 hj1) ?_
            simp only [wpY_reply]
            refine oc_yst (d := 1) (x := (c * 3 + s, 1, j, j, v3 &&& 255, 0, _)) c2 s3 (by omega) z hj j3 HY hg (oc_len35 hg hU (by omega) (by omega) f3) f3 ⟨by show c * 3 + s < 6; omega, by show 1 < 2; omega, Nat.le_refl _, j3, oc_and_and _, oc_and0⟩ rfl rfl rfl rfl rfl ⟨?_, oc_in (oc_F_reply c2 s3 jm hj rfl rfl f3 F rfl rfl rfl rfl rfl rfl rfl rfl)⟩
            exact congrArg nI (oc_n_put ⟨rfl, rfl⟩)
end
section
/-! ===== a cell taken, moved, turned round: the lists ===== -/
section
variable {A B : List oc_Cell} {x y : oc_Cell} {c l : Nat}
theorem oc_Gf_arr (l3 : l < 3) (hA : ∀ z, z ∈ A → oc_q z ≠ c * 6 + l) : ∃ P R, (∀ w, oc_q w = c * 6 + l → oc_Gf c (A ++ w :: B) = P ++ w :: R) ∧ oc_Gf c (A ++ B) = P ++ R ∧ ∀ z, z ∈ P → z ∈ A ++ B ∧ c * 6 + l < oc_q z ∧ oc_q z < c * 6 + 3 := by
  have z : l = 0 ∨ l = 1 ∨ l = 2 := by omega
  unfold oc_Gf
  rcases z with rfl | rfl | rfl
  · refine ⟨oc_Q (c * 6 + 2) (A ++ B) ++ oc_Q (c * 6 + 1) (A ++ B), oc_Q (c * 6) (A ++ B), fun w hw => ?_, by rw [List.append_assoc], fun z hz => ?_⟩
    · rw [oc_Q_keep (by omega), oc_Q_keep (by omega), oc_Q_take (q := c * 6) hw hA, List.append_assoc]
    · rcases List.mem_append.mp hz with h | h
      · have h2 := oc_Q_mem h; exact ⟨h2.1, by omega, by omega⟩
      · have h2 := oc_Q_mem h; exact ⟨h2.1, by omega, by omega⟩
  · refine ⟨oc_Q (c * 6 + 2) (A ++ B), oc_Q (c * 6 + 1) (A ++ B) ++ oc_Q (c * 6) (A ++ B), fun w hw => ?_, rfl, fun z hz => ?_⟩
    · rw [oc_Q_keep (by omega), oc_Q_take hw hA, oc_Q_keep (by omega)]
      rfl
    · have h2 := oc_Q_mem hz; exact ⟨h2.1, by omega, by omega⟩
  · refine ⟨[], oc_Q (c * 6 + 2) (A ++ B) ++ (oc_Q (c * 6 + 1) (A ++ B) ++ oc_Q (c * 6) (A ++ B)), fun w hw => ?_, rfl, fun z hz => absurd hz List.not_mem_nil⟩
    rw [oc_Q_take hw hA, oc_Q_keep (by omega), oc_Q_keep (by omega)]
    rfl
theorem oc_Gf_mv (l2 : l < 2) (hx : oc_q x = c * 6 + l) (hA : ∀ z, z ∈ A → oc_q z ≠ c * 6 + l) (hy : oc_q y = c * 6 + (l + 1)) : ∃ P R, oc_Gf c (A ++ x :: B) = P ++ x :: R ∧ oc_Gf c ((A ++ B) ++ [y]) = P ++ y :: R ∧ ∀ z, z ∈ P → z ∈ A ++ B ∧ c * 6 + l < oc_q z ∧ oc_q z < c * 6 + 3 := by
  have z : l = 0 ∨ l = 1 := by omega
  unfold oc_Gf
  rcases z with rfl | rfl
  · refine ⟨oc_Q (c * 6 + 2) (A ++ B) ++ oc_Q (c * 6 + 1) (A ++ B), oc_Q (c * 6) (A ++ B), ?_, ?_, fun z hz => ?_⟩
    · rw [oc_Q_keep (by omega), oc_Q_keep (by omega), oc_Q_take (q := c * 6) hx hA, List.append_assoc]
    · rw [oc_Q_put_n (by omega), oc_Q_put (q := c * 6 + 1) hy, oc_Q_put_n (by omega), List.append_assoc, List.append_assoc]
      rfl
    · rcases List.mem_append.mp hz with h | h
      · have h2 := oc_Q_mem h; exact ⟨h2.1, by omega, by omega⟩
      · have h2 := oc_Q_mem h; exact ⟨h2.1, by omega, by omega⟩
  · refine ⟨oc_Q (c * 6 + 2) (A ++ B), oc_Q (c * 6 + 1) (A ++ B) ++ oc_Q (c * 6) (A ++ B), ?_, ?_, fun z hz => ?_⟩
    · rw [oc_Q_keep (by omega), oc_Q_take hx hA, oc_Q_keep (by omega)]
      rfl
    · rw [oc_Q_put (q := c * 6 + 2) hy, oc_Q_put_n (by omega), oc_Q_put_n (by omega), List.append_assoc]
      rfl
    · have h2 := oc_Q_mem hz; exact ⟨h2.1, by omega, by omega⟩
theorem oc_Gb_arr (l3 : l < 3) (hA : ∀ z, z ∈ A → oc_q z ≠ c * 6 + 3 + l) : ∃ P R, (∀ w, oc_q w = c * 6 + 3 + l → oc_Gb c (A ++ w :: B) = P ++ w :: R) ∧ oc_Gb c (A ++ B) = P ++ R ∧ (l = 0 → P = []) := by
  have z : l = 0 ∨ l = 1 ∨ l = 2 := by omega
  unfold oc_Gb
  rcases z with rfl | rfl | rfl
  · refine ⟨[], oc_Q (c * 6 + 3) (A ++ B) ++ (oc_Q (c * 6 + 4) (A ++ B) ++ oc_Q (c * 6 + 5) (A ++ B)), fun w hw => ?_, rfl, fun _ => rfl⟩
    rw [oc_Q_take (q := c * 6 + 3) hw hA, oc_Q_keep (by omega), oc_Q_keep (by omega)]
    rfl
  · refine ⟨oc_Q (c * 6 + 3) (A ++ B), oc_Q (c * 6 + 4) (A ++ B) ++ oc_Q (c * 6 + 5) (A ++ B), fun w hw => ?_, rfl, fun z => by omega⟩
    rw [oc_Q_keep (by omega), oc_Q_take (q := c * 6 + 4) hw hA, oc_Q_keep (by omega)]
    rfl
  · refine ⟨oc_Q (c * 6 + 3) (A ++ B) ++ oc_Q (c * 6 + 4) (A ++ B), oc_Q (c * 6 + 5) (A ++ B), fun w hw => ?_, by rw [List.append_assoc], fun z => by omega⟩
    rw [oc_Q_keep (by omega), oc_Q_keep (by omega), oc_Q_take (q := c * 6 + 5) hw hA, List.append_assoc]
theorem oc_Gb_mv (l2 : l < 2) (hx : oc_q x = c * 6 + 3 + (l + 1)) (hA : ∀ z, z ∈ A → oc_q z ≠ c * 6 + 3 + (l + 1)) (hy : oc_q y = c * 6 + 3 + l) : ∃ P R, oc_Gb c (A ++ x :: B) = P ++ x :: R ∧ oc_Gb c ((A ++ B) ++ [y]) = P ++ y :: R ∧ ∀ z, z ∈ R → z ∈ A ++ B ∧ c * 6 + 3 + l < oc_q z ∧ oc_q z < c * 6 + 6 := by
  have z : l = 0 ∨ l = 1 := by omega
  unfold oc_Gb
  rcases z with rfl | rfl
  · refine ⟨oc_Q (c * 6 + 3) (A ++ B), oc_Q (c * 6 + 4) (A ++ B) ++ oc_Q (c * 6 + 5) (A ++ B), ?_, ?_, fun z hz => ?_⟩
    · rw [oc_Q_keep (by omega), oc_Q_take (q := c * 6 + 4) hx hA, oc_Q_keep (by omega)]
      rfl
    · rw [oc_Q_put (q := c * 6 + 3) hy, oc_Q_put_n (by omega), oc_Q_put_n (by omega), List.append_assoc]
      rfl
    · rcases List.mem_append.mp hz with h | h
      · have h2 := oc_Q_mem h; exact ⟨h2.1, by omega, by omega⟩
      · have h2 := oc_Q_mem h; exact ⟨h2.1, by omega, by omega⟩
  · refine ⟨oc_Q (c * 6 + 3) (A ++ B) ++ oc_Q (c * 6 + 4) (A ++ B), oc_Q (c * 6 + 5) (A ++ B), ?_, ?_, fun z hz => ?_⟩
    · rw [oc_Q_keep (by omega), oc_Q_keep (by omega), oc_Q_take (q := c * 6 + 5) hx hA, List.append_assoc]
    · rw [oc_Q_put_n (by omega), oc_Q_put (q := c * 6 + 4) hy, oc_Q_put_n (by omega), List.append_assoc, List.append_assoc]
      rfl
    · have h2 := oc_Q_mem hz; exact ⟨h2.1, by omega, by omega⟩
theorem oc_n_le {s d : Nat} : oc_n s d (A ++ B) ≤ oc_n s d (A ++ x :: B) := by
  by_cases z : oc_s x = s ∧ oc_d x = d
  · rw [oc_n_take z]; omega
  · rw [oc_n_keep z]; omega
theorem oc_n_mv {s d : Nat} (hs : oc_s y = oc_s x) (hd : oc_d y = oc_d x) : oc_n s d ((A ++ B) ++ [y]) = oc_n s d (A ++ x :: B) := by
  by_cases z : oc_s x = s ∧ oc_d x = d
  · rw [oc_n_take z, oc_n_put ⟨by rw [hs]; exact z.1, by rw [hd]; exact z.2⟩]
  · rw [oc_n_keep z, oc_n_put_n (by rw [hs, hd]; exact z)]
theorem oc_n_ch {s d : Nat} (hs : oc_s y = oc_s x) (hd : oc_d y = oc_d x) : oc_n s d (A ++ y :: B) = oc_n s d (A ++ x :: B) := by
  by_cases z : oc_s x = s ∧ oc_d x = d
  · rw [oc_n_take z, oc_n_take ⟨by rw [hs]; exact z.1, by rw [hd]; exact z.2⟩]
  · rw [oc_n_keep z, oc_n_keep (by rw [hs, hd]; exact z)]
theorem oc_Q_le {q : Nat} : (oc_Q q (A ++ B)).length ≤ (oc_Q q (A ++ x :: B)).length := by
  rw [oc_Q_app, oc_Q_app, List.length_append, List.length_append]
  by_cases z : oc_q x = q
  · rw [oc_Q_y z, List.length_cons]; omega
  · rw [oc_Q_n z]; omega
end
section
variable {A B : List oc_Cell} {x y : oc_Cell} {mm : Nat → Nat} {jo uw gc gb lb : Nat → Int32} {k : Nat}
theorem oc_W_take (HW : oc_W mm jo (A ++ x :: B)) : oc_W mm jo (A ++ B) := fun z hz => HW z (oc_mem_mid hz)
theorem oc_U_take {n : Nat} (gx : oc_gd x) (HU : oc_U jo uw (A ++ x :: B)) (hn : oc_n (oc_s x) (oc_d x) (A ++ B) = n) : oc_U jo (upd uw (oc_s x * 2 + oc_d x) (nI n)) (A ++ B) := by
  intro s d hs hd
  obtain ⟨h1, h2⟩ := HU s d hs hd
  have g2 := gx.2.1
  by_cases z : oc_s x = s ∧ oc_d x = d
  · obtain ⟨z1, z2⟩ := z
    subst z1 z2
    rw [pk_us, hn]
    have h3 := oc_n_take (A := A) (B := B) (x := x) ⟨rfl, rfl⟩
    exact ⟨by omega, fun _ => rfl⟩
  · rw [oc_n_keep z] at h1 h2
    rw [pk_un (by omega)]
    exact ⟨h1, h2⟩
theorem oc_U_mv (hs : oc_s y = oc_s x) (hd : oc_d y = oc_d x) (HU : oc_U jo uw (A ++ x :: B)) : oc_U jo uw ((A ++ B) ++ [y]) := by
  intro s d h1 h2
  rw [oc_n_mv hs hd]
  exact HU s d h1 h2
theorem oc_U_ch (hs : oc_s y = oc_s x) (hd : oc_d y = oc_d x) (HU : oc_U jo uw (A ++ x :: B)) : oc_U jo uw (A ++ y :: B) := by
  intro s d h1 h2
  rw [oc_n_ch hs hd]
  exact HU s d h1 h2
/-- a byte is got -/
theorem oc_B_get {w g : Nat} {b : Int32} (w12 : w < 12) (hg : gc w = nI g) (hg2 : g ≤ k) (hk : k < 2 ^ 30) (HB : oc_B k gc gb lb) : oc_B (k + 1) (upd gc w (nI (g + 1))) (upd gb (w * 8 + g % 8) b) (upd (oc_gs lb w 0) (w * 8) b) := by
  intro v v12
  obtain ⟨g', h1, h2, h3⟩ := HB v v12
  by_cases z : v = w
  · subst z
    have e : g' = g := (nI_eq (by omega) (by omega)).mp (by rw [← h2, hg])
    subst e
    refine ⟨g' + 1, by omega, by rw [pk_us], fun i i8 ig => ?_⟩
    by_cases y : i = 0
    · subst y
      rw [show (g' + 1 - 1 - 0) % 8 = g' % 8 from by omega, pk_us, Nat.add_zero, pk_us]
    · rw [pk_un (by omega), pk_un (by omega), oc_gs_in (by omega)]
      have h4 := h3 (i - 1) (by omega) (by omega)
      rw [show g' - 1 - (i - 1) = g' + 1 - 1 - i from by omega, show v * 8 + (i - 1) = v * 8 + i - 1 from by omega] at h4
      exact h4
  · refine ⟨g', by omega, by rw [pk_un z]; exact h2, fun i i8 ig => ?_⟩
    rw [pk_un (by omega), pk_un (by omega), oc_gs_out (by omega)]
    exact h3 i i8 ig
end
end
section
/-! ===== a cell moves: the relation ===== -/
section
variable {ks : Int32} {hc ro ky cl rl cp rp jo uw gc gb wc cs cb : Nat → Int32}
variable {nc : Int32} {lb ys yf yl yb yt : Nat → Int32} {k : Nat} {A B : List oc_Cell} {x y : oc_Cell} {mm : Nat → Nat} {c : Nat}
/-! facts on the cell in hand -/
theorem oc_qf (hx : oc_s x / 3 = c) (hd : oc_d x = 0) : oc_q x = c * 6 + oc_l x := by unfold oc_q; rw [hx, hd]; omega
theorem oc_qb (hx : oc_s x / 3 = c) (hd : oc_d x = 1) : oc_q x = c * 6 + 3 + oc_l x := by unfold oc_q; rw [hx, hd]
theorem oc_hg0 (HW : oc_W mm jo (A ++ x :: B)) : ∀ z, z ∈ A ++ B → oc_gd z := fun z hz => (HW z (oc_mem_mid hz)).1
theorem oc_hU0 (HU : oc_U jo uw (A ++ x :: B)) : ∀ s d, s < 6 → d < 2 → oc_n s d (A ++ B) ≤ 3 := fun s d hs hd => Nat.le_trans oc_n_le (HU s d hs hd).1
theorem oc_n0 (gx : oc_gd x) (HU : oc_U jo uw (A ++ x :: B)) : oc_n (oc_s x) (oc_d x) (A ++ B) < 3 := by
  have h := (HU (oc_s x) (oc_d x) gx.1 gx.2.1).1
  rw [oc_n_take ⟨rfl, rfl⟩] at h
  omega
/-- the cell is put into the next queue: the component's layout -/
theorem oc_X_mv {p q : Nat} (p12 : p < 12) (hx : oc_q x = p) (hA : ∀ z, z ∈ A → oc_q z ≠ p) (hy : oc_q y = q) (hq : oc_q y = oc_s x / 3 * 6 + oc_d x * 3 + oc_l y) (l3 : oc_l y < 3) (HX : oc_X wc cs cb (A ++ x :: B)) (HW : oc_W mm jo (A ++ x :: B)) (HU : oc_U jo uw (A ++ x :: B)) : (oc_Q q (A ++ B)).length < 9 ∧ oc_X (upd (upd wc p (nI (oc_Q p (A ++ B)).length)) q (nI ((oc_Q q (A ++ B)).length + 1))) (upd (oc_sh cs (p * 9) (p * 9 + (oc_Q p (A ++ B)).length)) (q * 9 + (oc_Q q (A ++ B)).length) (nI (oc_s y % 3))) (upd (oc_sh cb (p * 9) (p * 9 + (oc_Q p (A ++ B)).length)) (q * 9 + (oc_Q q (A ++ B)).length) (oc_w y)) ((A ++ B) ++ [y]) := by
  have gx := (HW x oc_mem_self).1
  have h9 : (oc_Q q (A ++ B)).length < 9 := by
    have h := oc_cap8 (s := oc_s x) (d := oc_d x) (l := oc_l y) (oc_hg0 HW) (oc_hU0 HU) gx.1 gx.2.1 l3 (oc_n0 gx HU)
    rw [← hq, hy] at h
    exact h
  refine ⟨h9, oc_X_put hy rfl h9 (oc_cap9 (oc_hg0 HW) (oc_hU0 HU)) (oc_X_drop p12 hx hA rfl (oc_cap9 (oc_gds HW) (fun s d hs hd => (HU s d hs hd).1)) HX)⟩
/-! forward, on to the next link -/
theorem oc_F_fm {w : Int32} (c2 : c < 2) (xc : oc_s x / 3 = c) (xd : oc_d x = 0) (hlj : oc_l x < oc_j x) (hA : ∀ z, z ∈ A → oc_q z ≠ c * 6 + oc_l x) (F : oc_F k (A ++ x :: B) mm hc ky cl rl cp rp jo uw gc gb wc cs cb nc lb ys yf yl yb yt)
    (e1 : oc_s y = oc_s x) (e2 : oc_d y = oc_d x) (e3 : oc_l y = oc_l x + 1) (e4 : oc_j y = oc_j x) (e5 : oc_b y = oc_b x) (e6 : oc_t y = oc_t x) (e7 : oc_w y = w) (ew : w = oc_w x ^^^ oc_str (ky (c * 6 + oc_l x)) (rl (c * 6 + oc_l x))) : oc_F k ((A ++ B) ++ [y]) mm hc ky cl (upd rl (c * 6 + oc_l x) (rl (c * 6 + oc_l x) + 1)) cp rp jo uw gc gb (upd (upd wc (c * 6 + oc_l x) (nI (oc_Q (c * 6 + oc_l x) (A ++ B)).length)) (c * 6 + (oc_l x + 1)) (nI ((oc_Q (c * 6 + (oc_l x + 1)) (A ++ B)).length + 1))) (upd (oc_sh cs ((c * 6 + oc_l x) * 9) ((c * 6 + oc_l x) * 9 + (oc_Q (c * 6 + oc_l x) (A ++ B)).length)) ((c * 6 + (oc_l x + 1)) * 9 + (oc_Q (c * 6 + (oc_l x + 1)) (A ++ B)).length) (nI (oc_s x % 3))) (upd (oc_sh cb ((c * 6 + oc_l x) * 9) ((c * 6 + oc_l x) * 9 + (oc_Q (c * 6 + oc_l x) (A ++ B)).length)) ((c * 6 + (oc_l x + 1)) * 9 + (oc_Q (c * 6 + (oc_l x + 1)) (A ++ B)).length) w) (nI ((A ++ B).length + 1)) lb (upd (oc_sh ys A.length (A ++ B).length) (A ++ B).length (nI (oc_s y))) (upd (oc_sh yf A.length (A ++ B).length) (A ++ B).length (nI (1 - oc_d y))) (upd (oc_sh yl A.length (A ++ B).length) (A ++ B).length (nI (oc_l y))) (upd (oc_sh yb A.length (A ++ B).length) (A ++ B).length (oc_b y)) (upd (oc_sh yt A.length (A ++ B).length) (A ++ B).length (oc_t y)) := by
  obtain ⟨H, HB, HY, HX, HW, HU, HK⟩ := F
  obtain ⟨gx, jx, jm⟩ := HW x oc_mem_self
  obtain ⟨g1, g2, g3, g4, g5, g6⟩ := gx
  have hq := oc_qf xc xd
  have hy : oc_q y = c * 6 + (oc_l x + 1) := by unfold oc_q; rw [e1, e2, e3, xc, xd]; omega
  have X := (oc_X_mv (by omega) hq hA hy (by unfold oc_q; rw [e1, e2]) (by omega) HX HW HU).2
  rw [e1, e7] at X
  have gy : oc_gd y := ⟨by omega, by omega, by omega, by omega, by rw [e5]; exact g5, by rw [e6]; exact g6⟩
  refine ⟨H, HB, oc_Y_put (oc_Y_take HY), X, oc_W_put (oc_W_take HW) ⟨gy, by rw [e1, e4]; exact jx, by rw [e1, e4]; exact jm⟩, oc_U_mv e1 e2 HU, ?_⟩
  refine oc_K_f c2 (fun e e2 => (H.1 e e2).1) (oc_gds HW) (fun i hi => ⟨rfl, (pk_un (by omega)).symm, rfl, rfl⟩) (fun q hq2 => by rw [oc_Q_put_n (by omega), oc_Q_keep (by omega)]) ?_ HK
  obtain ⟨P, R, G1, G2, hP⟩ := oc_Gf_mv (B := B) (l := oc_l x) (by omega) hq hA hy
  have C := (HK c c2).1
  unfold oc_Kf at C ⊢
  rw [G1] at C
  rw [G2]
  refine oc_Tfwd rfl hlj (by omega) (fun z hz => ?_) e3 e4 e5 e6 ?_ ?_ ?_ C
  · obtain ⟨z1, z2, z3⟩ := hP z hz
    obtain ⟨q1, q2, q3, q4, _⟩ := oc_hg0 HW z z1
    unfold oc_q at z2 z3
    omega
  · rw [e7, ew, oc_z_lo (by omega)]
    rfl
  · rw [oc_z_lo (by omega), oc_z_lo (by omega), pk_us]
  · intro h hh
    unfold oc_z
    by_cases z : h < 3
    · rw [if_pos z, if_pos z, pk_un (by omega)]
    · rw [if_neg z, if_neg z]
/-! forward, at its end: the chain and the bits -/
theorem oc_K_fa (c2 : c < 2) (xc : oc_s x / 3 = c) (xd : oc_d x = 0) (hlj : oc_j x = oc_l x) (hA : ∀ z, z ∈ A → oc_q z ≠ c * 6 + oc_l x) (F : oc_F k (A ++ x :: B) mm hc ky cl rl cp rp jo uw gc gb wc cs cb nc lb ys yf yl yb yt) : oc_K mm ky cl (upd rl (c * 6 + oc_l x) (rl (c * 6 + oc_l x) + 1)) cp (upd rp (c * 6 + oc_l x) (rp (c * 6 + oc_l x) + 1)) (A ++ B) ∧ oc_w x ^^^ oc_str (ky (c * 6 + oc_l x)) (rl (c * 6 + oc_l x)) = oc_pk (oc_b x) (oc_pad (ky (c * 6 + oc_l x)) (rp (c * 6 + oc_l x))) ^^^ oc_t x := by
  obtain ⟨H, HB, HY, HX, HW, HU, HK⟩ := F
  obtain ⟨gx, jx, jm⟩ := HW x oc_mem_self
  obtain ⟨g1, g2, g3, g4, g5, g6⟩ := gx
  have hq := oc_qf xc xd
  obtain ⟨P, R, G1, G2, hP⟩ := oc_Gf_arr (A := A) (B := B) (c := c) (l := oc_l x) (by omega) hA
  have C := (HK c c2).1
  unfold oc_Kf at C
  rw [G1 x hq] at C
  have T := oc_Tfarr (Z' := oc_z (upd rl (c * 6 + oc_l x) (rl (c * 6 + oc_l x) + 1)) (upd rp (c * 6 + oc_l x) (rp (c * 6 + oc_l x) + 1)) (c * 6)) rfl hlj (by omega) (fun z hz => by
    obtain ⟨z1, z2, z3⟩ := hP z hz
    obtain ⟨q1, q2, q3, q4, _⟩ := oc_hg0 HW z z1
    unfold oc_q at z2 z3
    omega) (fun h hh => by
    rcases hh with hh | hh
    · rw [hh, oc_z_lo (by omega), oc_z_lo (by omega), pk_us]
    · rw [hh, oc_z_hi, oc_z_hi, pk_us]) (fun h h1 h2 => by
    unfold oc_z
    by_cases z : h < 3
    · rw [if_pos z, if_pos z, pk_un (by omega)]
    · rw [if_neg z, if_neg z, pk_un (by omega)]) C
  obtain ⟨T1, T2⟩ := T
  rw [oc_z_lo (by omega), oc_z_hi] at T2
  refine ⟨?_, T2⟩
  refine oc_K_f c2 (fun e e2 => (H.1 e e2).1) (oc_gds HW) (fun i hi => ⟨rfl, (pk_un (by omega)).symm, rfl, (pk_un (by omega)).symm⟩) (fun q hq2 => by rw [oc_Q_keep (by omega)]) ?_ HK
  unfold oc_Kf
  rw [G2]
  exact T1
/-! backward, on to the next link -/
theorem oc_F_bm {l : Nat} {w : Int32} (c2 : c < 2) (xc : oc_s x / 3 = c) (xd : oc_d x = 1) (xl : oc_l x = l + 1) (hA : ∀ z, z ∈ A → oc_q z ≠ c * 6 + 3 + oc_l x) (F : oc_F k (A ++ x :: B) mm hc ky cl rl cp rp jo uw gc gb wc cs cb nc lb ys yf yl yb yt)
    (e1 : oc_s y = oc_s x) (e2 : oc_d y = oc_d x) (e3 : oc_l y = l) (e4 : oc_j y = oc_j x) (e5 : oc_b y = oc_b x) (e6 : oc_t y = oc_t x) (e7 : oc_w y = w) (ew : w = oc_w x ^^^ oc_str (ky (c * 6 + 3 + l)) (rl (c * 6 + 3 + l))) : oc_F k ((A ++ B) ++ [y]) mm hc ky cl (upd rl (c * 6 + 3 + l) (rl (c * 6 + 3 + l) + 1)) cp rp jo uw gc gb (upd (upd wc (c * 6 + 3 + oc_l x) (nI (oc_Q (c * 6 + 3 + oc_l x) (A ++ B)).length)) (c * 6 + 3 + l) (nI ((oc_Q (c * 6 + 3 + l) (A ++ B)).length + 1))) (upd (oc_sh cs ((c * 6 + 3 + oc_l x) * 9) ((c * 6 + 3 + oc_l x) * 9 + (oc_Q (c * 6 + 3 + oc_l x) (A ++ B)).length)) ((c * 6 + 3 + l) * 9 + (oc_Q (c * 6 + 3 + l) (A ++ B)).length) (nI (oc_s x % 3))) (upd (oc_sh cb ((c * 6 + 3 + oc_l x) * 9) ((c * 6 + 3 + oc_l x) * 9 + (oc_Q (c * 6 + 3 + oc_l x) (A ++ B)).length)) ((c * 6 + 3 + l) * 9 + (oc_Q (c * 6 + 3 + l) (A ++ B)).length) w) (nI ((A ++ B).length + 1)) lb (upd (oc_sh ys A.length (A ++ B).length) (A ++ B).length (nI (oc_s y))) (upd (oc_sh yf A.length (A ++ B).length) (A ++ B).length (nI (1 - oc_d y))) (upd (oc_sh yl A.length (A ++ B).length) (A ++ B).length (nI (oc_l y))) (upd (oc_sh yb A.length (A ++ B).length) (A ++ B).length (oc_b y)) (upd (oc_sh yt A.length (A ++ B).length) (A ++ B).length (oc_t y)) := by
  obtain ⟨H, HB, HY, HX, HW, HU, HK⟩ := F
  obtain ⟨gx, jx, jm⟩ := HW x oc_mem_self
  obtain ⟨g1, g2, g3, g4, g5, g6⟩ := gx
  have hq := oc_qb xc xd
  have hy : oc_q y = c * 6 + 3 + l := by unfold oc_q; rw [e1, e2, e3, xc, xd]
  have X := (oc_X_mv (by omega) hq hA hy (by unfold oc_q; rw [e1, e2]) (by omega) HX HW HU).2
  rw [e1, e7] at X
  have gy : oc_gd y := ⟨by omega, by omega, by omega, by omega, by rw [e5]; exact g5, by rw [e6]; exact g6⟩
  refine ⟨H, HB, oc_Y_put (oc_Y_take HY), X, oc_W_put (oc_W_take HW) ⟨gy, by rw [e1, e4]; exact jx, by rw [e1, e4]; exact jm⟩, oc_U_mv e1 e2 HU, ?_⟩
  refine oc_K_b c2 (fun e e2 => (H.1 e e2).1) (oc_gds HW) (fun i hi => ⟨rfl, (pk_un (by omega)).symm, rfl, rfl⟩) (fun q hq2 => by rw [oc_Q_put_n (by omega), oc_Q_keep (by omega)]) ?_ HK
  obtain ⟨P, R, G1, G2, hR⟩ := oc_Gb_mv (B := B) (l := l) (by omega) (by rw [hq, xl]) (by rw [← xl]; exact hA) hy
  have C := (HK c c2).2
  unfold oc_Kb at C ⊢
  rw [G1] at C
  rw [G2]
  rw [xc] at jm
  refine oc_Tbmv xl (by omega) jm (H.1 c c2).1 (fun z hz => ?_) e3 e4 e5 e6 ?_ ?_ ?_ C
  · obtain ⟨z1, z2, z3⟩ := hR z hz
    obtain ⟨q1, q2, q3, q4, _⟩ := oc_hg0 HW z z1
    unfold oc_q at z2 z3
    omega
  · rw [e7, ew, oc_z_lo (by omega)]
    rfl
  · rw [oc_z_lo (by omega), oc_z_lo (by omega), pk_us]
  · intro h hh
    unfold oc_z
    by_cases z : h < 3
    · rw [if_pos z, if_pos z, pk_un (by omega)]
    · rw [if_neg z, if_neg z]
/-! backward, at the client: the chain and the bits -/
theorem oc_K_ba (c2 : c < 2) (xc : oc_s x / 3 = c) (xd : oc_d x = 1) (xl : oc_l x = 0) (hA : ∀ z, z ∈ A → oc_q z ≠ c * 6 + 3) (F : oc_F k (A ++ x :: B) mm hc ky cl rl cp rp jo uw gc gb wc cs cb nc lb ys yf yl yb yt) : oc_K mm ky (oc_up cl (c * 6 + 3) (c * 6 + 3 + (oc_j x + 1))) rl (upd cp (c * 6 + 3 + oc_j x) (cp (c * 6 + 3 + oc_j x) + 1)) rp (A ++ B) ∧ oc_w x ^^^ oc_ly (oc_k ky (c * 6 + 3)) (oc_k cl (c * 6 + 3)) 0 (oc_j x + 1) = oc_pk (oc_b x) (oc_pad (ky (c * 6 + 3 + oc_j x)) (cp (c * 6 + 3 + oc_j x))) ^^^ oc_t x := by
  obtain ⟨H, HB, HY, HX, HW, HU, HK⟩ := F
  obtain ⟨gx, jx, jm⟩ := HW x oc_mem_self
  obtain ⟨g1, g2, g3, g4, g5, g6⟩ := gx
  have hq := oc_qb xc xd
  rw [xl] at hq
  obtain ⟨P, R, G1, G2, hP⟩ := oc_Gb_arr (A := A) (B := B) (c := c) (l := 0) (by omega) hA
  rw [hP rfl] at G1 G2
  have C := (HK c c2).2
  unfold oc_Kb at C
  rw [G1 x hq] at C
  have hm := (H.1 c c2).1
  have hR : ∀ z, z ∈ R → oc_l z ≤ oc_j z ∧ oc_j z < 3 := by
    intro z hz
    have hz2 : z ∈ oc_Gb c (A ++ B) := by rw [G2]; exact hz
    have g := oc_hg0 HW z (oc_Gb_mem (oc_hg0 HW) hz2).1
    exact ⟨g.2.2.1, g.2.2.2.1⟩
  have T := oc_Tbarr (x := x) (Z' := oc_z (oc_up cl (c * 6 + 3) (c * 6 + 3 + (oc_j x + 1))) (upd cp (c * 6 + 3 + oc_j x) (cp (c * 6 + 3 + oc_j x) + 1)) (c * 6 + 3)) hm hR xl (fun h h6 => (oc_bz_z (l := 0) (j := oc_j x) xl rfl (by omega) (by omega) (fun i _ h => oc_up_in (by omega) (by omega)) (fun i h => oc_up_out (by omega)) pk_us (fun i h => pk_un (by omega)) h h6).symm) C
  obtain ⟨T1, T2⟩ := T
  rw [← oc_ly_z (by omega), oc_z_hi] at T2
  refine ⟨?_, T2⟩
  refine oc_K_b c2 (fun e e2 => (H.1 e e2).1) (oc_gds HW) (fun i hi => ⟨(oc_up_out (by omega)).symm, rfl, (pk_un (by omega)).symm, rfl⟩) (fun q hq2 => by rw [oc_Q_keep (by omega)]) ?_ HK
  unfold oc_Kb
  rw [G2]
  exact T1
/-! at its end: got -/
theorem oc_F_got {p g n : Nat} {cl' rl' cp' rp' : Nat → Int32} (hk : k < 2 ^ 30) (p12 : p < 12) (hp : oc_q x = p) (hA : ∀ z, z ∈ A → oc_q z ≠ p) (hg : gc (oc_s x * 2 + oc_d x) = nI g) (hgk : g ≤ k) (hn : oc_n (oc_s x) (oc_d x) (A ++ B) = n) (F : oc_F k (A ++ x :: B) mm hc ky cl rl cp rp jo uw gc gb wc cs cb nc lb ys yf yl yb yt) (K : oc_K mm ky cl' rl' cp' rp' (A ++ B)) : oc_F (k + 1) (A ++ B) mm hc ky cl' rl' cp' rp' jo (upd uw (oc_s x * 2 + oc_d x) (nI n)) (upd gc (oc_s x * 2 + oc_d x) (nI (g + 1))) (upd gb ((oc_s x * 2 + oc_d x) * 8 + g % 8) (oc_b x)) (upd wc p (nI (oc_Q p (A ++ B)).length)) (oc_sh cs (p * 9) (p * 9 + (oc_Q p (A ++ B)).length)) (oc_sh cb (p * 9) (p * 9 + (oc_Q p (A ++ B)).length)) (nI (A ++ B).length) (upd (oc_gs lb (oc_s x * 2 + oc_d x) 0) ((oc_s x * 2 + oc_d x) * 8) (oc_b x)) (oc_sh ys A.length (A ++ B).length) (oc_sh yf A.length (A ++ B).length) (oc_sh yl A.length (A ++ B).length) (oc_sh yb A.length (A ++ B).length) (oc_sh yt A.length (A ++ B).length) := by
  obtain ⟨H, HB, HY, HX, HW, HU, HK⟩ := F
  obtain ⟨gx, jx, jm⟩ := HW x oc_mem_self
  have g1 := gx.1
  have g2 := gx.2.1
  exact ⟨H, oc_B_get (by omega) hg hgk hk HB, oc_Y_take HY, oc_X_drop p12 hp hA rfl (oc_cap9 (oc_gds HW) (fun s d hs hd => (HU s d hs hd).1)) HX, oc_W_take HW, oc_U_take gx HU hn, K⟩
/-! at its end, turned round: destroyed -/
theorem oc_F_bad {p : Nat} {cl' rl' cp' rp' : Nat → Int32} {nc' : Int32} {ys' yf' yl' yb' yt' : Nat → Int32} (c2 : c < 2) (p12 : p < 12) (xc : oc_s x / 3 = c) (hp : oc_q x = p) (hA : ∀ z, z ∈ A → oc_q z ≠ p) (F : oc_F k (A ++ x :: B) mm hc ky cl rl cp rp jo uw gc gb wc cs cb nc lb ys yf yl yb yt) (K : oc_K mm ky cl' rl' cp' rp' (A ++ B)) (HY' : oc_Y nc' ys' yf' yl' yb' yt' (oc_rm c (A ++ B))) : oc_F k (oc_rm c (A ++ B)) (oc_um mm c 0) (upd hc c 0) ky cl' rl' cp' rp' (oc_zr jo (c * 3) (c * 3 + 3) (-1)) uw gc gb (oc_zr (upd wc p (nI (oc_Q p (A ++ B)).length)) (c * 6) (c * 6 + 6) 0) (oc_sh cs (p * 9) (p * 9 + (oc_Q p (A ++ B)).length)) (oc_sh cb (p * 9) (p * 9 + (oc_Q p (A ++ B)).length)) nc' lb ys' yf' yl' yb' yt' := by
  obtain ⟨H, HB, HY, HX, HW, HU, HK⟩ := F
  refine oc_F_des c2 H HB (oc_X_drop p12 hp hA rfl (oc_cap9 (oc_gds HW) (fun s d hs hd => (HU s d hs hd).1)) HX) (oc_W_take HW) (fun s d hs hd => ⟨oc_hU0 HU s d hs hd, fun h1 h2 => ?_⟩) (fun e e2 _ => K e e2) HY'
  have h := (HU s d hs hd).2 h2
  rw [oc_n_keep (fun w => h1 (by rw [← w.1]; exact xc))] at h
  exact h
end
end
section
/-! ===== move ===== -/
section
variable {ks : Int32} {hc ro ky cl rl cp rp jo uw gc gb wc cs cb : Nat → Int32}
variable {nc : Int32} {lb ys yf yl yb yt : Nat → Int32} {k : Nat} {A B : List oc_Cell} {x y : oc_Cell} {mm : Nat → Nat} {c : Nat}
theorem oc_xbw_m2 {pr : Int32 → SX → Prop} {c l l' s n : Nat} {w : Int32} (hl' : l' = l + 1) (c2 : c < 2) (hl : l < 2) (hn : n < 9) (hw : wc (c * 6 + 3 + l) = nI n)
    (p : pr 0 (ks, hc, ro, ky, cl, upd rl (c * 6 + 3 + l) (rl (c * 6 + 3 + l) + 1), cp, rp, jo, uw, gc, gb, upd wc (c * 6 + 3 + l) (nI (n + 1)), upd cs ((c * 6 + 3 + l) * 9 + n) (nI s), upd cb ((c * 6 + 3 + l) * 9 + n) (w ^^^ oc_str (ky (c * 6 + 3 + l)) (rl (c * 6 + 3 + l))))) : wpX_moveBackward pr (ks, hc, ro, ky, cl, rl, cp, rp, jo, uw, gc, gb, wc, cs, cb) (nI c) (nI l') (nI s) w := by
  subst hl'
  exact oc_xbw_m c2 hl hn hw p
theorem oc_xbw_a2 {pr : Int32 → SX → Prop} {c l s j : Nat} {w : Int32} (hl : l = 0) (c2 : c < 2) (hs : s < 3) (hj3 : j < 3) (hj : jo (c * 3 + s) = nI j)
    (p : ∀ pr' : Int32 → SX → Prop, (∀ r u, pr r u → pr' r u) → wpX_arrive pr' (ks, hc, ro, ky, oc_up cl (c * 6 + 3) (c * 6 + 3 + (j + 1)), rl, upd cp (c * 6 + 3 + j) (cp (c * 6 + 3 + j) + 1), rp, jo, uw, gc, gb, wc, cs, cb) (nI c) (nI s) (nI 1) (w ^^^ oc_ly (oc_k ky (c * 6 + 3)) (oc_k cl (c * 6 + 3)) 0 (j + 1)) (oc_pad (ky (c * 6 + 3 + j)) (cp (c * 6 + 3 + j)))) : wpX_moveBackward pr (ks, hc, ro, ky, cl, rl, cp, rp, jo, uw, gc, gb, wc, cs, cb) (nI c) (nI l) (nI s) w := by
  subst hl
  exact oc_xbw_a c2 hs hj3 hj p
theorem oc_mv_f (c2 : c < 2) (z : ¬ hc c = 0) (xc : oc_s x / 3 = c) (xd : oc_d x = 0) (hA : ∀ z, z ∈ A → oc_q z ≠ c * 6 + oc_l x) (hk : k + 5 ≤ 2561) (F : oc_F k (A ++ x :: B) mm hc ky cl rl cp rp jo uw gc gb wc cs cb nc lb ys yf yl yb yt) : wpX_move (fun r u' => wpY_move (fun r' v' => r' = r ∧ i_Rel (k + 5) u' v') (nc, hc, ro, jo, gc, lb, ys, yf, yl, yb, yt) (nI c) (nI (oc_l x)) (nI (1 - 0))) (ks, hc, ro, ky, cl, rl, cp, rp, jo, uw, gc, gb, wc, cs, cb) (nI c) (nI (oc_l x)) (nI (1 - 0)) := by
  obtain ⟨H, HB, HY, HX, HW, HU, HK⟩ := id F
  obtain ⟨gx, jx, jm⟩ := HW x oc_mem_self
  obtain ⟨g1, g2, g3, g4, g5, g6⟩ := id gx
  have hg := oc_gds HW
  have hU := fun s d hs hd => (HU s d hs hd).1
  have hL := oc_len36 hg hU
  have hq := oc_qf xc xd
  have es : c * 3 + oc_s x % 3 = oc_s x := by omega
  have p12 : c * 6 + oc_l x < 12 := by omega
  obtain ⟨hw, hi⟩ := HX (c * 6 + oc_l x) p12
  have h9 := oc_cap9 hg hU (c * 6 + oc_l x) p12
  rw [oc_Q_take hq hA] at hw hi h9
  rw [List.length_cons] at hw h9
  obtain ⟨hs0, hb0⟩ := hi 0 x rfl
  have hj : jo (c * 3 + oc_s x % 3) = nI (oc_j x) := by rw [es]; exact jx
  have hpx : oc_pY (nI c) (nI (oc_l x)) (nI (1 - 0)) x := (oc_pq gx c2 (by omega) (by omega)).mpr (by rw [hq]; omega)
  have hpA : ∀ y, y ∈ A → ¬ oc_pY (nI c) (nI (oc_l x)) (nI (1 - 0)) y := fun y hy w => hA y hy (by
    have h := (oc_pq (hg y (List.mem_append.mpr (Or.inl hy))) c2 (by omega) (by omega)).mp w
    omega)
  refine oc_xmv_f c2 (by omega) z (by omega) hw hs0 hb0 (fun pr' hp => ?_)
  by_cases hlj : oc_l x = oc_j x
  · obtain ⟨K, hbits⟩ := oc_K_fa c2 xc xd hlj.symm hA F
    by_cases ht : oc_t x = 0
    · obtain ⟨g, gk, eg, _⟩ := HB (oc_s x * 2 + 0) (by omega)
      have eu : uw ((c * 3 + oc_s x % 3) * 2 + 0) = nI (oc_n (oc_s x) 0 (A ++ B) + 1) := by
        rw [es, (HU (oc_s x) 0 g1 (by omega)).2 (by rw [jx]; exact oc_nm1 g4), oc_n_take ⟨rfl, xd⟩]
      refine oc_xfw_a c2 (by omega) g4 hlj.symm hj (fun pr'' hp' => oc_xarr_g (d := 0) c2 (by omega) (by omega) g5 ht hbits eu (by rw [es]; exact eg) (by omega) (hp' _ _ (hp _ _ ?_)))
      rw [es]
      refine oc_ymv (d := 0) c2 (by omega) z HY hg hL hpx hpA jx (fun w => by omega) (fun _ => oc_y83_g (d := 0) HY hL (by omega) g1 ht ⟨rfl, ?_⟩)
      rw [eg, nI_1]
      have G := oc_F_got (g := g) (by omega) p12 hq hA (by rw [xd]; exact eg) gk rfl F K
      rw [xd] at G
      exact oc_in (oc_Fup (by omega) G)
    · have HX0 := oc_X_drop p12 hq hA rfl (oc_cap9 hg hU) HX
      obtain ⟨ys', yf', yl', yb', yt', h1, h2⟩ := oc_y83_b (hc := hc) (ro := ro) (jo := jo) (gc := gc) (lb := lb) (d := 0) c2 z HY hg hL ht
      refine oc_xfw_a c2 (by omega) g4 hlj.symm hj (fun pr'' hp' => oc_xarr_b c2 z (fun q hq => (HX0 q hq).1) g5 g6 ht hbits (hp' _ _ (hp _ _ ?_)))
      exact oc_ymv (d := 0) c2 (by omega) z HY hg hL hpx hpA jx (fun w => by omega) (fun _ => h2 _ ⟨rfl, oc_in (oc_Fup (by omega) (oc_F_bad c2 p12 xc hq hA F K h1))⟩)
  · have e9 : (oc_Q (c * 6 + (oc_l x + 1)) (A ++ B)).length < 9 := by
      have h := oc_cap8 (s := oc_s x) (d := oc_d x) (l := oc_l x + 1) (oc_hg0 HW) (oc_hU0 HU) g1 g2 (by omega) (oc_n0 gx HU)
      rw [xc, xd, show c * 6 + 0 * 3 + (oc_l x + 1) = c * 6 + (oc_l x + 1) from by omega] at h
      exact h
    have ew : upd wc (c * 6 + oc_l x) (nI (oc_Q (c * 6 + oc_l x) (A ++ B)).length) (c * 6 + (oc_l x + 1)) = nI (oc_Q (c * 6 + (oc_l x + 1)) (A ++ B)).length := by
      rw [pk_un (by omega), (HX (c * 6 + (oc_l x + 1)) (by omega)).1, oc_Q_keep (by omega)]
    refine oc_xfw_m c2 (by omega) g4 (by omega) e9 hj ew (hp _ _ ?_)
    exact oc_ymv (d := 0) c2 (by omega) z HY hg hL hpx hpA jx (fun _ => oc_y83_m (d := 0) (y := (oc_s x, 0, oc_l x + 1, oc_j x, oc_b x, oc_t x, oc_w x ^^^ oc_str (ky (c * 6 + oc_l x)) (rl (c * 6 + oc_l x)))) HY hL (by omega) rfl (fun _ => rfl) (fun h => by omega) rfl rfl rfl ⟨rfl, oc_in (oc_Fup (by omega) (oc_F_fm c2 xc xd (by omega) hA F rfl xd.symm rfl rfl rfl rfl rfl rfl))⟩) (fun w => by omega)
theorem oc_mv_b (c2 : c < 2) (z : ¬ hc c = 0) (xc : oc_s x / 3 = c) (xd : oc_d x = 1) (hA : ∀ z, z ∈ A → oc_q z ≠ c * 6 + 3 + oc_l x) (hk : k + 5 ≤ 2561) (F : oc_F k (A ++ x :: B) mm hc ky cl rl cp rp jo uw gc gb wc cs cb nc lb ys yf yl yb yt) : wpX_move (fun r u' => wpY_move (fun r' v' => r' = r ∧ i_Rel (k + 5) u' v') (nc, hc, ro, jo, gc, lb, ys, yf, yl, yb, yt) (nI c) (nI (oc_l x)) (nI (1 - 1))) (ks, hc, ro, ky, cl, rl, cp, rp, jo, uw, gc, gb, wc, cs, cb) (nI c) (nI (oc_l x)) (nI (1 - 1)) := by
  obtain ⟨H, HB, HY, HX, HW, HU, HK⟩ := id F
  obtain ⟨gx, jx, jm⟩ := HW x oc_mem_self
  obtain ⟨g1, g2, g3, g4, g5, g6⟩ := id gx
  have hg := oc_gds HW
  have hU := fun s d hs hd => (HU s d hs hd).1
  have hL := oc_len36 hg hU
  have hq := oc_qb xc xd
  have es : c * 3 + oc_s x % 3 = oc_s x := by omega
  have p12 : c * 6 + 3 + oc_l x < 12 := by omega
  obtain ⟨hw, hi⟩ := HX (c * 6 + 3 + oc_l x) p12
  have h9 := oc_cap9 hg hU (c * 6 + 3 + oc_l x) p12
  rw [oc_Q_take hq hA] at hw hi h9
  rw [List.length_cons] at hw h9
  obtain ⟨hs0, hb0⟩ := hi 0 x rfl
  have hj : jo (c * 3 + oc_s x % 3) = nI (oc_j x) := by rw [es]; exact jx
  have hpx : oc_pY (nI c) (nI (oc_l x)) (nI (1 - 1)) x := (oc_pq gx c2 (by omega) (by omega)).mpr (by rw [hq])
  have hpA : ∀ y, y ∈ A → ¬ oc_pY (nI c) (nI (oc_l x)) (nI (1 - 1)) y := fun y hy w => hA y hy (by
    have h := (oc_pq (hg y (List.mem_append.mpr (Or.inl hy))) c2 (by omega) (by omega)).mp w
    omega)
  refine oc_xmv_b2 c2 (by omega) z (by omega) hw hs0 hb0 (fun pr' hp => ?_)
  by_cases hl : oc_l x = 0
  · have hA0 : ∀ z, z ∈ A → oc_q z ≠ c * 6 + 3 := fun z hz => by have := hA z hz; omega
    have hq0 : oc_q x = c * 6 + 3 := by omega
    obtain ⟨K, hbits⟩ := oc_K_ba c2 xc xd hl hA0 F
    by_cases ht : oc_t x = 0
    · obtain ⟨g, gk, eg, _⟩ := HB (oc_s x * 2 + 1) (by omega)
      have eu : uw ((c * 3 + oc_s x % 3) * 2 + 1) = nI (oc_n (oc_s x) 1 (A ++ B) + 1) := by
        rw [es, (HU (oc_s x) 1 g1 (by omega)).2 (by rw [jx]; exact oc_nm1 g4), oc_n_take ⟨rfl, xd⟩]
      refine oc_xbw_a2 hl c2 (by omega) g4 hj (fun pr'' hp' => oc_xarr_g (d := 1) c2 (by omega) (by omega) g5 ht hbits eu (by rw [es]; exact eg) (by omega) (hp' _ _ (hp _ _ ?_)))
      rw [es]
      refine oc_ymv (d := 1) c2 (by omega) z HY hg hL hpx hpA jx (fun w => by omega) (fun _ => oc_y83_g (d := 1) HY hL (by omega) g1 ht ⟨rfl, ?_⟩)
      rw [eg, nI_1]
      have G := oc_F_got (g := g) (by omega) p12 hq hA (by rw [xd]; exact eg) gk rfl F K
      rw [xd] at G
      exact oc_in (oc_Fup (by omega) G)
    · have HX0 := oc_X_drop p12 hq hA rfl (oc_cap9 hg hU) HX
      obtain ⟨ys', yf', yl', yb', yt', h1, h2⟩ := oc_y83_b (hc := hc) (ro := ro) (jo := jo) (gc := gc) (lb := lb) (d := 1) c2 z HY hg hL ht
      refine oc_xbw_a2 hl c2 (by omega) g4 hj (fun pr'' hp' => oc_xarr_b c2 z (fun q hq => (HX0 q hq).1) g5 g6 ht hbits (hp' _ _ (hp _ _ ?_)))
      exact oc_ymv (d := 1) c2 (by omega) z HY hg hL hpx hpA jx (fun w => by omega) (fun _ => h2 _ ⟨rfl, oc_in (oc_Fup (by omega) (oc_F_bad c2 p12 xc hq hA F K h1))⟩)
  · obtain ⟨l, xl⟩ : ∃ l, oc_l x = l + 1 := ⟨oc_l x - 1, by omega⟩
    have e9 : (oc_Q (c * 6 + 3 + l) (A ++ B)).length < 9 := by
      have h := oc_cap8 (s := oc_s x) (d := oc_d x) (l := l) (oc_hg0 HW) (oc_hU0 HU) g1 g2 (by omega) (oc_n0 gx HU)
      rw [xc, xd, show c * 6 + 1 * 3 + l = c * 6 + 3 + l from by omega] at h
      exact h
    have ew : upd wc (c * 6 + 3 + oc_l x) (nI (oc_Q (c * 6 + 3 + oc_l x) (A ++ B)).length) (c * 6 + 3 + l) = nI (oc_Q (c * 6 + 3 + l) (A ++ B)).length := by
      rw [pk_un (by omega), (HX (c * 6 + 3 + l) (by omega)).1, oc_Q_keep (by omega)]
    refine oc_xbw_m2 xl c2 (by omega) e9 ew (hp _ _ ?_)
    exact oc_ymv (d := 1) c2 (by omega) z HY hg hL hpx hpA jx (fun _ => oc_y83_m (d := 1) (y := (oc_s x, 1, l, oc_j x, oc_b x, oc_t x, oc_w x ^^^ oc_str (ky (c * 6 + 3 + l)) (rl (c * 6 + 3 + l)))) HY hL (by omega) rfl (fun h => by omega) (fun _ => xl) rfl rfl rfl ⟨rfl, oc_in (oc_Fup (by omega) (oc_F_bm c2 xc xd xl hA F rfl xd.symm rfl rfl rfl rfl rfl rfl))⟩) (fun w => by omega)
end
theorem i_vc_move {k : Nat} {u : SX} {v : SY} (I : i_Rel k u v) (hk : k + 5 ≤ 2561) (v1 : Int32) (v2 : Int32) (v3 : Int32) : wpX_move (fun r u' => wpY_move (fun r' v' => r' = r ∧ i_Rel (k + 5) u' v') v v1 v2 (lw_bz v3)) u v1 v2 (lw_bz v3) := by
  refine oc_el (P := fun u v => wpX_move (fun r u' => wpY_move (fun r' v' => r' = r ∧ i_Rel (k + 5) u' v') v v1 v2 (lw_bz v3)) u v1 v2 (lw_bz v3)) ?_ I
  intro ks hc ro ky cl rl cp rp jo uw gc gb wc cs cb nc lb ys yf yl yb yt L mm F
  have N := oc_in (ks := ks) (ro := ro) (oc_Fup (k2 := k + 5) (by omega) F)
  obtain ⟨H, HB, HY, HX, HW, HU, HK⟩ := id F
  have hg := oc_gds HW
  have hL := oc_len36 hg (fun s d hs hd => (HU s d hs hd).1)
  obtain ⟨d, d2, ed⟩ := oc_dirE v3
  rw [ed]
  rcases oc_arg v1 (n := 2) (by omega) with h | ⟨c, c2, rfl⟩
  · exact oc_xmv_a h (oc_ymv_a h ⟨rfl, N⟩)
  · by_cases z : hc c = 0
    · exact oc_xmv_b c2 z (oc_ymv_b c2 z ⟨rfl, N⟩)
    · rcases oc_arg v2 (n := 3) (by omega) with h | ⟨l, l3, rfl⟩
      · exact oc_xmv_c c2 z h (oc_ymv_n c2 z HY hg hL (fun x hx => oc_pn (hg x hx) (Or.inr h)) ⟨rfl, N⟩)
      · rcases oc_first (fun x => oc_q x = c * 6 + d * 3 + l) L with h | ⟨A, x, B, eL, hx, hA⟩
        · refine oc_xmv_d c2 d2 l3 z ?_ (oc_ymv_n c2 z HY hg hL (fun x hx w => h x hx ((oc_pq (hg x hx) c2 d2 l3).mp w)) ⟨rfl, N⟩)
          rw [(HX _ (by omega)).1, oc_Q_none L h]
          rfl
        · subst eL
          obtain ⟨g1, g2, g3, g4, _⟩ := hg x oc_mem_self
          have xc : oc_s x / 3 = c := by unfold oc_q at hx; omega
          have xd : oc_d x = d := by unfold oc_q at hx; omega
          have xl : oc_l x = l := by unfold oc_q at hx; omega
          subst xl
          have zd : d = 0 ∨ d = 1 := by omega
          rcases zd with rfl | rfl
          · exact oc_mv_f c2 z xc xd (fun y hy => by have := hA y hy; omega) hk F
          · exact oc_mv_b c2 z xc xd (fun y hy => by have := hA y hy; omega) hk F
end
section
/-! ===== tamper ===== -/
section
variable {ks : Int32} {hc ro ky cl rl cp rp jo uw gc gb wc cs cb : Nat → Int32}
variable {nc : Int32} {lb ys yf yl yb yt : Nat → Int32} {k : Nat} {A B : List oc_Cell} {x y : oc_Cell} {mm : Nat → Nat} {c : Nat}
theorem oc_get_ch {z : oc_Cell} {i : Nat} (e : (A ++ y :: B)[i]? = some z) : (i = A.length ∧ z = y) ∨ (i ≠ A.length ∧ (A ++ x :: B)[i]? = some z) := by
  by_cases h : i = A.length
  · subst h
    rw [oc_get_mid] at e
    exact Or.inl ⟨rfl, (Option.some.inj e).symm⟩
  · refine Or.inr ⟨h, ?_⟩
    by_cases h2 : i < A.length
    · rw [List.getElem?_append_left h2] at e ⊢
      exact e
    · rw [List.getElem?_append_right (by omega), show i - A.length = (i - A.length - 1) + 1 from by omega, List.getElem?_cons_succ] at e ⊢
      exact e
theorem oc_F_tam {d l : Nat} {t : Int32} (c2 : c < 2) (d2 : d < 2) (l3 : l < 3) (hx : oc_q x = c * 6 + d * 3 + l) (hA : ∀ z, z ∈ A → oc_q z ≠ c * 6 + d * 3 + l) (ht : (oc_t x ^^^ t) &&& 255 = oc_t x ^^^ t) (F : oc_F k (A ++ x :: B) mm hc ky cl rl cp rp jo uw gc gb wc cs cb nc lb ys yf yl yb yt)
    (e1 : oc_s y = oc_s x) (e2 : oc_d y = oc_d x) (e3 : oc_l y = oc_l x) (e4 : oc_j y = oc_j x) (e5 : oc_b y = oc_b x) (e6 : oc_t y = oc_t x ^^^ t) (e7 : oc_w y = oc_w x ^^^ t) : oc_F k (A ++ y :: B) mm hc ky cl rl cp rp jo uw gc gb wc cs (upd cb ((c * 6 + d * 3 + l) * 9) (oc_w x ^^^ t)) nc lb ys yf yl yb (upd yt A.length (oc_t x ^^^ t)) := by
  obtain ⟨H, HB, HY, HX, HW, HU, HK⟩ := F
  obtain ⟨gx, jx, jm⟩ := HW x oc_mem_self
  obtain ⟨g1, g2, g3, g4, g5, g6⟩ := id gx
  have hg := oc_gds HW
  have h9 := oc_cap9 hg (fun s d hs hd => (HU s d hs hd).1)
  have hy : oc_q y = c * 6 + d * 3 + l := by rw [← hx]; unfold oc_q; rw [e1, e2, e3]
  have gy : oc_gd y := ⟨by omega, by omega, by omega, by omega, by rw [e5]; exact g5, by rw [e6]; exact ht⟩
  refine ⟨H, HB, ⟨?_, fun i z e => ?_⟩, fun q q12 => ?_, fun z hz => ?_, oc_U_ch e1 e2 HU, ?_⟩
  · rw [HY.1, List.length_append, List.length_append, List.length_cons, List.length_cons]
  · rcases oc_get_ch (x := x) e with ⟨h1, h2⟩ | ⟨h1, h2⟩
    · subst h1 h2
      obtain ⟨a1, a2, a3, a4, a5⟩ := HY.2 A.length x oc_get_mid
      rw [pk_us, e1, e2, e3, e5, e6]
      exact ⟨a1, a2, a3, a4, rfl⟩
    · rw [pk_un h1]
      exact HY.2 i z h2
  · obtain ⟨h1, h2⟩ := HX q q12
    have h8 := h9 q q12
    by_cases e : q = c * 6 + d * 3 + l
    · subst e
      rw [oc_Q_take hx hA] at h1 h2 h8
      rw [oc_Q_take hy hA]
      refine ⟨h1, fun i z e => ?_⟩
      by_cases i0 : i = 0
      · subst i0
        have ez : y = z := Option.some.inj e
        subst ez
        obtain ⟨b1, b2⟩ := h2 0 x rfl
        rw [Nat.add_zero, pk_us, e1, e7]
        exact ⟨b1, rfl⟩
      · rw [pk_un (by omega)]
        obtain ⟨i', rfl⟩ : ∃ i', i = i' + 1 := ⟨i - 1, by omega⟩
        exact h2 (i' + 1) z e
    · rw [oc_Q_keep (by omega)] at h1 h2 h8
      rw [oc_Q_keep (by omega)]
      refine ⟨h1, fun i z e => ?_⟩
      have hi := oc_get_lt e
      rw [pk_un (by omega)]
      exact h2 i z e
  · rcases List.mem_append.mp hz with h | h
    · exact HW z (List.mem_append.mpr (Or.inl h))
    · rcases List.mem_cons.mp h with h2 | h2
      · subst h2
        rw [e1, e4]
        exact ⟨gy, jx, jm⟩
      · exact HW z (List.mem_append.mpr (Or.inr (List.mem_cons_of_mem _ h2)))
  · have keep : ∀ q, q ≠ c * 6 + d * 3 + l → oc_Q q (A ++ y :: B) = oc_Q q (A ++ x :: B) := by
      intro q hq
      rw [oc_Q_keep (by omega), oc_Q_keep (by omega)]
    have zd : d = 0 ∨ d = 1 := by omega
    rcases zd with rfl | rfl
    · refine oc_K_f c2 (fun e e2 => (H.1 e e2).1) hg (fun _ _ => ⟨rfl, rfl, rfl, rfl⟩) (fun q hq => keep q (by omega)) ?_ HK
      obtain ⟨P, R, G1, _, _⟩ := oc_Gf_arr (A := A) (B := B) (c := c) (l := l) l3 (fun z hz => by have := hA z hz; omega)
      have C := (HK c c2).1
      unfold oc_Kf at C ⊢
      rw [G1 x (by omega)] at C
      rw [G1 y (by omega)]
      exact oc_Ttam e3 e4 e5 e6 e7 C
    · refine oc_K_b c2 (fun e e2 => (H.1 e e2).1) hg (fun _ _ => ⟨rfl, rfl, rfl, rfl⟩) (fun q hq => keep q (by omega)) ?_ HK
      obtain ⟨P, R, G1, _, _⟩ := oc_Gb_arr (A := A) (B := B) (c := c) (l := l) l3 (fun z hz => by have := hA z hz; omega)
      have C := (HK c c2).2
      unfold oc_Kb at C ⊢
      rw [G1 x (by omega)] at C
      rw [G1 y (by omega)]
      exact oc_Ttam e3 e4 e5 e6 e7 C
end
theorem i_vc_tamper {k : Nat} {u : SX} {v : SY} (I : i_Rel k u v) (hk : k + 5 ≤ 2561) (v1 : Int32) (v2 : Int32) (v3 : Int32) (v4 : Int32) : wpX_tamper (fun r u' => wpY_tamper (fun r' v' => r' = r ∧ i_Rel (k + 5) u' v') v v1 v2 (lw_bz v3) v4) u v1 v2 (lw_bz v3) v4 := by
  refine oc_el (P := fun u v => wpX_tamper (fun r u' => wpY_tamper (fun r' v' => r' = r ∧ i_Rel (k + 5) u' v') v v1 v2 (lw_bz v3) v4) u v1 v2 (lw_bz v3) v4) ?_ I
  intro ks hc ro ky cl rl cp rp jo uw gc gb wc cs cb nc lb ys yf yl yb yt L mm F0
  have F := oc_Fup (k2 := k + 5) (by omega) F0
  have N := oc_in (ks := ks) (ro := ro) F
  obtain ⟨H, HB, HY, HX, HW, HU, HK⟩ := id F
  have hg := oc_gds HW
  have hL := oc_len36 hg (fun s d hs hd => (HU s d hs hd).1)
  obtain ⟨d, d2, ed⟩ := oc_dirE v3
  rw [ed]
  rcases oc_arg v1 (n := 2) (by omega) with h | ⟨c, c2, rfl⟩
  · exact oc_xtm_a h (oc_ytm_a h ⟨rfl, N⟩)
  · by_cases z : hc c = 0
    · exact oc_xtm_b c2 z (oc_ytm_b c2 z ⟨rfl, N⟩)
    · rcases oc_arg v2 (n := 3) (by omega) with h | ⟨l, l3, rfl⟩
      · exact oc_xtm_c c2 z h (oc_ytm_n c2 z HY hg hL (fun x hx => oc_pn (hg x hx) (Or.inr h)) ⟨rfl, N⟩)
      · rcases oc_first (fun x => oc_q x = c * 6 + d * 3 + l) L with h | ⟨A, x, B, eL, hx, hA⟩
        · refine oc_xtm_d c2 d2 l3 z ?_ (oc_ytm_n c2 z HY hg hL (fun x hx w => h x hx ((oc_pq (hg x hx) c2 d2 l3).mp w)) ⟨rfl, N⟩)
          rw [(HX _ (by omega)).1, oc_Q_none L h]
          rfl
        · subst eL
          have gx := hg x oc_mem_self
          have p12 : c * 6 + d * 3 + l < 12 := by omega
          obtain ⟨hw, hi⟩ := HX (c * 6 + d * 3 + l) p12
          have h9 := oc_cap9 hg (fun s d hs hd => (HU s d hs hd).1) (c * 6 + d * 3 + l) p12
          rw [oc_Q_take hx hA] at hw hi h9
          rw [List.length_cons] at hw h9
          have hb0 : cb ((c * 6 + d * 3 + l) * 9) = oc_w x := (hi 0 x rfl).2
          refine oc_xtm c2 d2 l3 z (by omega) hw ?_
          rw [hb0]
          refine oc_ytm c2 z HY hg hL ((oc_pq gx c2 d2 l3).mpr hx) (fun y hy w => hA y hy ((oc_pq (hg y (List.mem_append.mpr (Or.inl hy))) c2 d2 l3).mp w)) ⟨rfl, ?_⟩
          exact oc_in (oc_F_tam (y := (oc_s x, oc_d x, oc_l x, oc_j x, oc_b x, oc_t x ^^^ (v4 &&& 255), oc_w x ^^^ (v4 &&& 255))) c2 d2 l3 hx hA (oc_xor_and gx.2.2.2.2.2) F rfl rfl rfl rfl rfl rfl rfl)
end
