section
/-! rows of the kit (kit/rows), pasted -/
theorem pk_us {f : Nat → Int32} {k : Nat} {x : Int32} : upd f k x k = x := if_pos rfl
theorem pk_un {f : Nat → Int32} {k j : Nat} {x : Int32} (h : j ≠ k) : upd f k x j = f j := if_neg h
theorem pk_sub {a b : Nat} (h : b ≤ a) : nI a - nI b = nI (a - b) := by
  obtain ⟨c, rfl⟩ : ∃ c, a = c + b := ⟨a - b, by omega⟩
  rw [← nI_add, Int32.add_sub_cancel, Nat.add_sub_cancel]
theorem pk_m1 (n : Nat) : nI (n + 1) + (-1) = nI n := by
  rw [← nI_1, Int32.add_assoc, show (1 : Int32) + (-1) = 0 from rfl, Int32.add_zero]
theorem pk_mul (a b : Nat) : nI a * nI b = nI (a * b) := (Int32.ofNat_mul a b).symm
theorem pk_div {a d : Nat} (ha : a < 2 ^ 31) (h0 : 0 < d) (hd : d < 2 ^ 31) : nI a / nI d = nI (a / d) := by
  apply Int32.toInt_inj.mp
  rw [lg_idiv_nonneg (by rw [nI_toInt ha]; omega) (by rw [nI_toInt hd]; omega), nI_toInt ha, nI_toInt hd, nI_toInt (Nat.lt_of_le_of_lt (Nat.div_le_self a d) ha)]
  first | rfl | exact (Int.natCast_ediv _ _).symm
theorem pk_rem {a d : Nat} (ha : a < 2 ^ 31) (h0 : 0 < d) (hd : d < 2 ^ 31) : nI a - nI a / nI d * nI d = nI (a % d) := by
  rw [pk_div ha h0 hd, pk_mul, pk_sub (Nat.div_mul_le_self a d)]
  exact congrArg nI (by have := Nat.div_add_mod' a d; omega)
theorem pk_sub_toInt {a b : Nat} (ha : a < 2 ^ 30) (hb : b < 2 ^ 30) : (nI a - nI b).toInt = (a : Int) - b := by
  rw [Int32.toInt_sub, nI_toInt (by omega), nI_toInt (by omega)]
  exact Int.bmod_eq_of_le (by omega) (by omega)
theorem pk_sneg {a b : Nat} (hb : b < 2 ^ 30) (h : a < b) : nI a - nI b < 0 := by
  rw [Int32.lt_iff_toInt_lt, pk_sub_toInt (by omega) hb, show (0 : Int32).toInt = 0 from by decide]
  omega
theorem pk_ix (x : Int32) {n : Nat} (hn : n < 2 ^ 31) : x < 0 ∨ nI n ≤ x ∨ ∃ j : Nat, j < n ∧ x = nI j := by
  by_cases h : x < 0
  · exact Or.inl h
  · obtain ⟨j, hj, rfl⟩ := nI_of h
    by_cases h2 : j < n
    · exact Or.inr (Or.inr ⟨j, h2, rfl⟩)
    · exact Or.inr (Or.inl (nI_le (by omega) hj))
theorem pk_le {x y : Int32} {A B : Prop} (a b : Nat) (f : a ≤ b → A) (g : b < a → B) (hx : x = nI a := by rfl) (hy : y = nI b := by rfl) (ha : a < 2 ^ 31 := by omega) (hb : b < 2 ^ 31 := by omega) : (x ≤ y → A) ∧ (¬ x ≤ y → B) := by
  subst hx hy
  rw [nI_leI ha hb]
  exact ⟨f, fun z => g (by omega)⟩
theorem pk_lt {x y : Int32} {A B : Prop} (a b : Nat) (f : a < b → A) (g : b ≤ a → B) (hx : x = nI a := by rfl) (hy : y = nI b := by rfl) (ha : a < 2 ^ 31 := by omega) (hb : b < 2 ^ 31 := by omega) : (x < y → A) ∧ (¬ x < y → B) := by
  subst hx hy
  rw [nI_ltI ha hb]
  exact ⟨f, fun z => g (by omega)⟩
theorem pk_eq {x y : Int32} {A B : Prop} (a b : Nat) (f : a = b → A) (g : a ≠ b → B) (hx : x = nI a := by rfl) (hy : y = nI b := by rfl) (ha : a < 2 ^ 31 := by omega) (hb : b < 2 ^ 31 := by omega) : (x = y → A) ∧ (¬ x = y → B) := by
  subst hx hy
  rw [nI_eq ha hb]
  exact ⟨f, g⟩
theorem pk_in {x : Int32} (n N : Nat) (h : n < N) (hx : x = nI n := by rfl) (hN : N < 2 ^ 31 := by omega) : vp_in x N := by
  subst hx
  exact vp_in_nI h hN
theorem pk_cl {x : Int32} (n : Nat) (hx : x = nI n := by rfl) (h : n < 2 ^ 31 := by omega) : x.toNatClampNeg = n := by
  subst hx
  exact nI_clamp h
theorem pk_tn {n : Nat} (h : n < 2 ^ 32) : (nI n).toBitVec.toNat = n := Nat.mod_eq_of_lt h
theorem pk_and (x : Int32) {m : Int32} (k : Nat) (hm : m.toBitVec.toNat = 2 ^ k - 1) : x &&& m = nI (x.toBitVec.toNat % 2 ^ k) := by
  apply Int32.toBitVec_inj.mp
  apply BitVec.eq_of_toNat_eq
  rw [Int32.toBitVec_and, BitVec.toNat_and, hm, Nat.and_two_pow_sub_one_eq_mod]
  show _ = (BitVec.ofNat 32 _).toNat
  rw [BitVec.toNat_ofNat]
  exact (Nat.mod_eq_of_lt (Nat.lt_of_le_of_lt (Nat.mod_le _ _) x.toBitVec.isLt)).symm
theorem pk_andN {n : Nat} (h : n < 2 ^ 32) {m : Int32} (k : Nat) (hm : m.toBitVec.toNat = 2 ^ k - 1) : nI n &&& m = nI (n % 2 ^ k) := by
  rw [pk_and _ k hm, pk_tn h]
theorem pk_andE (x : Int32) {m : Int32} (k : Nat) (hm : m.toBitVec.toNat = 2 ^ k - 1) : ∃ j : Nat, j < 2 ^ k ∧ x &&& m = nI j := ⟨_, Nat.mod_lt _ (Nat.two_pow_pos k), pk_and x k hm⟩
theorem pk_andIn (x : Int32) {m : Int32} (k : Nat) (hm : m.toBitVec.toNat = 2 ^ k - 1) (hk : k ≤ 30) : vp_in (x &&& m) (2 ^ k) := by
  obtain ⟨j, hj, e⟩ := pk_andE x k hm
  rw [e]
  exact vp_in_nI hj (Nat.lt_of_le_of_lt (Nat.pow_le_pow_right (by decide) hk) (by decide))
theorem pk_shl (a s : Int32) (k : Nat) (hs : (s.toBitVec.smod 32).toNat = k) : (a <<< s).toBitVec.toNat = a.toBitVec.toNat * 2 ^ k % 2 ^ 32 := by
  show (a.toBitVec <<< (s.toBitVec.smod 32).toNat).toNat = _
  rw [hs, BitVec.toNat_shiftLeft, Nat.shiftLeft_eq]
theorem pk_shlN {n : Nat} (s : Int32) (k : Nat) (hs : (s.toBitVec.smod 32).toNat = k) (h : n * 2 ^ k < 2 ^ 32) : nI n <<< s = nI (n * 2 ^ k) := by
  apply Int32.toBitVec_inj.mp
  apply BitVec.eq_of_toNat_eq
  have hn : n < 2 ^ 32 := Nat.lt_of_le_of_lt (Nat.le_mul_of_pos_right n (Nat.two_pow_pos k)) h
  rw [pk_shl _ _ k hs, pk_tn hn, pk_tn h, Nat.mod_eq_of_lt h]
theorem pk_shr (a s : Int32) (k : Nat) (hs : (s.toBitVec.smod 32).toNat = k) : (a >>> s).toInt = a.toInt >>> k := by
  show (a.toBitVec.sshiftRight (s.toBitVec.smod 32).toNat).toInt = _
  rw [hs, BitVec.toInt_sshiftRight]
  rfl
theorem pk_shrN {n : Nat} (h : n < 2 ^ 31) (s : Int32) (k : Nat) (hs : (s.toBitVec.smod 32).toNat = k) : nI n >>> s = nI (n / 2 ^ k) := by
  apply Int32.toInt_inj.mp
  have h2 : n / 2 ^ k ≤ n := Nat.div_le_self _ _
  rw [pk_shr _ _ k hs, nI_toInt h, nI_toInt (by omega), Int.shiftRight_eq_div_pow]
  rfl
/-! ===== Int32 by its bits: bt x i ===== -/
def bt (x : Int32) (i : Nat) : Bool := x.toBitVec.getLsbD i
theorem b_ext {x y : Int32} (h : ∀ i, i < 32 → bt x i = bt y i) : x = y := Int32.toBitVec_inj.mp (BitVec.eq_of_getLsbD_eq (fun i hi => h i hi))
theorem b_or (x y : Int32) (i : Nat) : bt (x ||| y) i = (bt x i || bt y i) := by unfold bt; rw [Int32.toBitVec_or, BitVec.getLsbD_or]
theorem b_and (x y : Int32) (i : Nat) : bt (x &&& y) i = (bt x i && bt y i) := by unfold bt; rw [Int32.toBitVec_and, BitVec.getLsbD_and]
theorem b_xor (x y : Int32) (i : Nat) : bt (x ^^^ y) i = (bt x i ^^ bt y i) := by unfold bt; rw [Int32.toBitVec_xor, BitVec.getLsbD_xor]
theorem b_big {x : Int32} {i : Nat} (h : 32 ≤ i) : bt x i = false := BitVec.getLsbD_of_ge _ _ h
theorem b_255 (i : Nat) : bt 255 i = decide (i < 8) := by
  rcases Nat.lt_or_ge i 32 with h | h
  · exact (by decide +kernel : ∀ i, i < 32 → bt 255 i = decide (i < 8)) i h
  · rw [b_big h, decide_eq_false (by omega)]
theorem b_65535 (i : Nat) : bt 65535 i = decide (i < 16) := by
  rcases Nat.lt_or_ge i 32 with h | h
  · exact (by decide +kernel : ∀ i, i < 32 → bt 65535 i = decide (i < 16)) i h
  · rw [b_big h, decide_eq_false (by omega)]
theorem b_m1 : ∀ i, i < 32 → bt (-1) i = true := by decide +kernel
theorem b_0 (i : Nat) : bt 0 i = false := BitVec.getLsbD_zero
theorem s_l : ∀ n, n < 32 → ((nI n &&& 31).toBitVec.smod 32).toNat = n := by decide +kernel
theorem s_u : ∀ n, n < 32 → (((nI n).toUInt32 &&& Int32.toUInt32 31).toBitVec % 32).toNat = n := by decide +kernel
theorem b_shl (n : Nat) (hn : n < 32) (x : Int32) {i : Nat} (hi : i < 32) : bt (x <<< (nI n &&& 31)) i = (decide (n ≤ i) && bt x (i - n)) := by
  unfold bt
  rw [Int32.toBitVec_shiftLeft]
  show (x.toBitVec <<< ((nI n &&& 31).toBitVec.smod 32).toNat).getLsbD i = _
  rw [s_l n hn, BitVec.getLsbD_shiftLeft]
  rcases Nat.lt_or_ge i n with h | h
  · simp [h, Nat.not_le.mpr h]
  · simp [hi, h, Nat.not_lt.mpr h]
theorem b_ushr (n : Nat) (hn : n < 32) (x : Int32) (i : Nat) : bt ((x.toUInt32 >>> ((nI n).toUInt32 &&& Int32.toUInt32 31)).toInt32) i = bt x (n + i) := by
  show (x.toUInt32 >>> ((nI n).toUInt32 &&& Int32.toUInt32 31)).toBitVec.getLsbD i = x.toUInt32.toBitVec.getLsbD (n + i)
  rw [UInt32.toBitVec_shiftRight]
  show (x.toUInt32.toBitVec >>> (((nI n).toUInt32 &&& Int32.toUInt32 31).toBitVec % 32).toNat).getLsbD i = _
  rw [s_u n hn, BitVec.getLsbD_ushiftRight]
theorem b_sshr (n : Nat) (hn : n < 32) (x : Int32) {i : Nat} (hi : i < 32) : bt (x >>> (nI n &&& 31)) i = if n + i < 32 then bt x (n + i) else bt x 31 := by
  unfold bt
  rw [Int32.toBitVec_shiftRight]
  show (x.toBitVec.sshiftRight ((nI n &&& 31).toBitVec.smod 32).toNat).getLsbD i = _
  rw [s_l n hn, BitVec.getLsbD_sshiftRight, BitVec.msb_eq_getLsbD_last]
  simp [hi]
theorem b_shl8 (x : Int32) {i : Nat} (hi : i < 32) : bt (x <<< ((8 : Int32) &&& 31)) i = (decide (8 ≤ i) && bt x (i - 8)) := b_shl 8 (by omega) x hi
theorem b_shl16 (x : Int32) {i : Nat} (hi : i < 32) : bt (x <<< ((16 : Int32) &&& 31)) i = (decide (16 ≤ i) && bt x (i - 16)) := b_shl 16 (by omega) x hi
theorem b_shl24 (x : Int32) {i : Nat} (hi : i < 32) : bt (x <<< ((24 : Int32) &&& 31)) i = (decide (24 ≤ i) && bt x (i - 24)) := b_shl 24 (by omega) x hi
theorem b_sshr8 (x : Int32) {i : Nat} (hi : i < 32) : bt (x >>> ((8 : Int32) &&& 31)) i = if 8 + i < 32 then bt x (8 + i) else bt x 31 := b_sshr 8 (by omega) x hi
end
section
/-! cells: fields, packing -/
def sv_op (w : Int32) : Int32 := w &&& 255
def sv_ra (w : Int32) : Int32 := (w >>> ((8 : Int32) &&& 31)) &&& 7
def sv_rb (w : Int32) : Int32 := (w >>> ((12 : Int32) &&& 31)) &&& 7
def sv_mm (w : Int32) : Int32 := w >>> ((16 : Int32) &&& 31)
def sv_pk (o a b m : Int32) : Int32 := (((o &&& 255) ||| ((a &&& 7) <<< ((8 : Int32) &&& 31))) ||| ((b &&& 7) <<< ((12 : Int32) &&& 31))) ||| (m <<< ((16 : Int32) &&& 31))
theorem sv_b7 (i : Nat) : bt 7 i = decide (i < 3) := by
  rcases Nat.lt_or_ge i 32 with h | h
  · exact (by decide +kernel : ∀ i, i < 32 → bt 7 i = decide (i < 3)) i h
  · rw [b_big h, decide_eq_false (by omega)]
theorem sv_shl12 (x : Int32) {i : Nat} (hi : i < 32) : bt (x <<< ((12 : Int32) &&& 31)) i = (decide (12 ≤ i) && bt x (i - 12)) := b_shl 12 (by omega) x hi
theorem sv_sshr12 (x : Int32) {i : Nat} (hi : i < 32) : bt (x >>> ((12 : Int32) &&& 31)) i = if 12 + i < 32 then bt x (12 + i) else bt x 31 := b_sshr 12 (by omega) x hi
theorem sv_sshr16 (x : Int32) {i : Nat} (hi : i < 32) : bt (x >>> ((16 : Int32) &&& 31)) i = if 16 + i < 32 then bt x (16 + i) else bt x 31 := b_sshr 16 (by omega) x hi
/-- one bit of a packed cell -/
theorem sv_pk_bit (o a b m : Int32) {i : Nat} (hi : i < 32) : bt (sv_pk o a b m) i =
    ((((bt o i && decide (i < 8)) || (decide (8 ≤ i) && (bt a (i - 8) && decide (i - 8 < 3)))) || (decide (12 ≤ i) && (bt b (i - 12) && decide (i - 12 < 3)))) || (decide (16 ≤ i) && bt m (i - 16))) := by
  unfold sv_pk
  rw [b_or, b_or, b_or, b_and, b_255, b_shl8 _ hi, sv_shl12 _ hi, b_shl16 _ hi, b_and, b_and, sv_b7, sv_b7]
theorem sv_pk_op (o a b m : Int32) : sv_op (sv_pk o a b m) = o &&& 255 := by
  refine b_ext fun i hi => ?_
  unfold sv_op
  rw [b_and, b_and, sv_pk_bit _ _ _ _ hi, b_255]
  by_cases h : i < 8
  · have h8 : ¬ 8 ≤ i := by omega
    have h12 : ¬ 12 ≤ i := by omega
    have h16 : ¬ 16 ≤ i := by omega
    simp [h, h8, h12, h16]
  · simp [h]
theorem sv_pk_ra (o a b m : Int32) : sv_ra (sv_pk o a b m) = a &&& 7 := by
  refine b_ext fun i hi => ?_
  unfold sv_ra
  rw [b_and, b_and, sv_b7, b_sshr8 _ hi]
  by_cases h : i < 3
  · have h1 : 8 + i < 32 := by omega
    have h2 : ¬ 8 + i < 8 := by omega
    have h3 : 8 ≤ 8 + i := by omega
    have h4 : ¬ 12 ≤ 8 + i := by omega
    have h5 : ¬ 16 ≤ 8 + i := by omega
    have h6 : 8 + i - 8 = i := by omega
    rw [if_pos h1, sv_pk_bit _ _ _ _ h1, h6, decide_eq_true h, decide_eq_false h2, decide_eq_true h3, decide_eq_false h4, decide_eq_false h5]
    simp
  · simp [h]
theorem sv_pk_rb (o a b m : Int32) : sv_rb (sv_pk o a b m) = b &&& 7 := by
  refine b_ext fun i hi => ?_
  unfold sv_rb
  rw [b_and, b_and, sv_b7, sv_sshr12 _ hi]
  by_cases h : i < 3
  · have h1 : 12 + i < 32 := by omega
    have h2 : ¬ 12 + i < 8 := by omega
    have h3 : ¬ 12 + i - 8 < 3 := by omega
    have h4 : 12 ≤ 12 + i := by omega
    have h5 : ¬ 16 ≤ 12 + i := by omega
    have h6 : 12 + i - 12 = i := by omega
    rw [if_pos h1, sv_pk_bit _ _ _ _ h1, h6, decide_eq_true h, decide_eq_false h2, decide_eq_false h3, decide_eq_true h4, decide_eq_false h5]
    simp
  · simp [h]
theorem sv_pk_mm (o a b m : Int32) : sv_mm (sv_pk o a b m) = sv_mm (m <<< ((16 : Int32) &&& 31)) := by
  refine b_ext fun i hi => ?_
  unfold sv_mm
  rw [sv_sshr16 _ hi, sv_sshr16 _ hi]
  have key : ∀ k, 16 ≤ k → k < 32 → bt (sv_pk o a b m) k = bt (m <<< ((16 : Int32) &&& 31)) k := by
    intro k h1 h2
    have g2 : ¬ k < 8 := by omega
    have g3 : ¬ k - 8 < 3 := by omega
    have g4 : ¬ k - 12 < 3 := by omega
    rw [sv_pk_bit _ _ _ _ h2, b_shl16 _ h2, decide_eq_false g2, decide_eq_false g3, decide_eq_false g4, decide_eq_true h1]
    simp
  by_cases h : 16 + i < 32
  · rw [if_pos h, if_pos h, key _ (by omega) h]
  · rw [if_neg h, if_neg h, key 31 (by omega) (by omega)]
theorem sv_mmN {t : Nat} (h : t < 32768) : sv_mm (nI t <<< ((16 : Int32) &&& 31)) = nI t := by
  unfold sv_mm
  rw [pk_shlN _ 16 (by decide) (by omega), pk_shrN (by omega) _ 16 (by decide)]
  exact congrArg nI (by omega)
theorem sv_mm_m1 : sv_mm ((-1 : Int32) <<< ((16 : Int32) &&& 31)) = -1 := by decide +kernel
theorem sv_a255 {o : Nat} (h : o < 256) : nI o &&& 255 = nI o := by
  rw [pk_andN (by omega) 8 (by decide)]
  exact congrArg nI (by omega)
theorem sv_a7 {o : Nat} (h : o < 8) : nI o &&& 7 = nI o := by
  rw [pk_andN (by omega) 3 (by decide)]
  exact congrArg nI (by omega)
/-- a packed cell, read again -/
def sv_De (w : Int32) (o a b : Nat) (m : Int32) : Prop := sv_op w = nI o ∧ sv_ra w = nI a ∧ sv_rb w = nI b ∧ sv_mm w = m
theorem sv_dec {o a b : Nat} {m : Int32} (ho : o < 256) (ha : a < 8) (hb : b < 8) (hm : sv_mm (m <<< ((16 : Int32) &&& 31)) = m) : sv_De (sv_pk (nI o) (nI a) (nI b) m) o a b m :=
  ⟨by rw [sv_pk_op, sv_a255 ho], by rw [sv_pk_ra, sv_a7 ha], by rw [sv_pk_rb, sv_a7 hb], by rw [sv_pk_mm, hm]⟩
theorem sv_10 : ¬ (1 : Int32) = 0 := by decide
theorem sv_in7 (x : Int32) : vp_in (x &&& 7) 8 := pk_andIn x 3 (by decide) (by decide)
theorem sv_raE (w : Int32) : ∃ a, a < 8 ∧ sv_ra w = nI a := pk_andE _ 3 (by decide)
theorem sv_rbE (w : Int32) : ∃ a, a < 8 ∧ sv_rb w = nI a := pk_andE _ 3 (by decide)
theorem sv_opE (w : Int32) : ∃ a, a < 256 ∧ sv_op w = nI a := pk_andE _ 8 (by decide)
/-! the guest region -/
def sv_gk (G : Int32) : Prop := G = 4 ∨ G = 8 ∨ G = 16 ∨ G = 32
theorem sv_fe4 : ∀ j, j < 4 → (nI j ||| 4 = 4 + nI j) ∧ ¬ (4 + nI j) < 4 ∧ (4 + nI j) < 2 * 4 ∧ ¬ (4 + nI j) < (0 : Int32) := by decide +kernel
theorem sv_fe8 : ∀ j, j < 8 → (nI j ||| 8 = 8 + nI j) ∧ ¬ (8 + nI j) < 8 ∧ (8 + nI j) < 2 * 8 ∧ ¬ (8 + nI j) < (0 : Int32) := by decide +kernel
theorem sv_fe16 : ∀ j, j < 16 → (nI j ||| 16 = 16 + nI j) ∧ ¬ (16 + nI j) < 16 ∧ (16 + nI j) < 2 * 16 ∧ ¬ (16 + nI j) < (0 : Int32) := by decide +kernel
theorem sv_fe32 : ∀ j, j < 32 → (nI j ||| 32 = 32 + nI j) ∧ ¬ (32 + nI j) < 32 ∧ (32 + nI j) < 2 * 32 ∧ ¬ (32 + nI j) < (0 : Int32) := by decide +kernel
theorem sv_fen {G : Int32} (h : sv_gk G) (x : Int32) : ((x &&& (G - 1)) ||| G = G + (x &&& (G - 1))) ∧ ¬ (G + (x &&& (G - 1))) < G ∧ (G + (x &&& (G - 1))) < 2 * G ∧ ¬ (G + (x &&& (G - 1))) < 0 := by
  rcases h with rfl | rfl | rfl | rfl
  · obtain ⟨j, hj, e⟩ := pk_andE x (m := 4 - 1) 2 (by decide)
    rw [e]; exact sv_fe4 j hj
  · obtain ⟨j, hj, e⟩ := pk_andE x (m := 8 - 1) 3 (by decide)
    rw [e]; exact sv_fe8 j hj
  · obtain ⟨j, hj, e⟩ := pk_andE x (m := 16 - 1) 4 (by decide)
    rw [e]; exact sv_fe16 j hj
  · obtain ⟨j, hj, e⟩ := pk_andE x (m := 32 - 1) 5 (by decide)
    rw [e]; exact sv_fe32 j hj
theorem sv_g2 {G : Int32} (h : sv_gk G) : (2 * G).toInt ≤ 64 := by
  rcases h with rfl | rfl | rfl | rfl <;> decide
theorem sv_gmm {G : Int32} (h : sv_gk G) : sv_mm (G <<< ((16 : Int32) &&& 31)) = G ∧ sv_mm ((G - 1) <<< ((16 : Int32) &&& 31)) = G - 1 ∧ ¬ (G - 1) < 0 ∧ ¬ G ≤ G - 1 := by
  rcases h with rfl | rfl | rfl | rfl <;> decide +kernel
/-- an index that is within the machine's memory -/
theorem sv_in64 {G y : Int32} (h : sv_gk G) (h0 : ¬ y < 0) (h1 : y < 2 * G) : vp_in y 64 := by
  have hg := sv_g2 h
  have z : (0 : Int32).toInt = 0 := by decide
  rw [Int32.lt_iff_toInt_lt] at h0 h1
  exact vp_in_iff.mpr ⟨by omega, by omega⟩
theorem sv_65 (x : Int32) : 6 ≤ x ↔ 5 < x := by
  have h6 : (6 : Int32).toInt = 6 := by decide
  have h5 : (5 : Int32).toInt = 5 := by decide
  rw [Int32.le_iff_toInt_le, Int32.lt_iff_toInt_lt, h6, h5]; omega
theorem sv_87 (x : Int32) : 8 ≤ x ↔ 7 < x := by
  have h6 : (8 : Int32).toInt = 8 := by decide
  have h5 : (7 : Int32).toInt = 7 := by decide
  rw [Int32.le_iff_toInt_le, Int32.lt_iff_toInt_lt, h6, h5]; omega
/-- an int between 0 and a number -/
theorem sv_ofr {x : Int32} {n : Nat} (hn : n < 2 ^ 31) (h0 : ¬ x < 0) (h1 : ¬ nI n ≤ x) : ∃ j : Nat, j < n ∧ x = nI j := by
  rcases pk_ix x hn with h | h | h
  · exact absurd h h0
  · exact absurd h h1
  · exact h
/-! arrays filled from below -/
def sv_fl (f : Nat → Int32) (v : Int32) (k : Nat) : Nat → Int32 := fun j => if j < k then v else f j
theorem sv_fl0 (f : Nat → Int32) (v : Int32) : sv_fl f v 0 = f := by
  funext j; exact if_neg (by omega)
theorem sv_fls (f : Nat → Int32) (v : Int32) (k : Nat) : upd (sv_fl f v k) k v = sv_fl f v (k + 1) := by
  funext j
  unfold upd sv_fl
  by_cases h : j = k
  · rw [if_pos h, if_pos (by omega)]
  · rw [if_neg h]
    by_cases h2 : j < k
    · rw [if_pos h2, if_pos (by omega)]
    · rw [if_neg h2, if_neg (by omega)]
theorem sv_fl_lo {f : Nat → Int32} {v : Int32} {k j : Nat} (h : j < k) : sv_fl f v k j = v := if_pos h
theorem sv_fl_hi {f : Nat → Int32} {v : Int32} {k j : Nat} (h : k ≤ j) : sv_fl f v k j = f j := if_neg (by omega)
def sv_cp (f g : Nat → Int32) (k : Nat) : Nat → Int32 := fun j => if j < k then g j else f j
theorem sv_cp0 (f g : Nat → Int32) : sv_cp f g 0 = f := by
  funext j; exact if_neg (by omega)
theorem sv_cps (f g : Nat → Int32) (k : Nat) : upd (sv_cp f g k) k (g k) = sv_cp f g (k + 1) := by
  funext j
  unfold upd sv_cp
  by_cases h : j = k
  · rw [if_pos h, if_pos (by omega), h]
  · rw [if_neg h]
    by_cases h2 : j < k
    · rw [if_pos h2, if_pos (by omega)]
    · rw [if_neg h2, if_neg (by omega)]
end
section
section XS
variable {G LC N CU LD JD OU PC ST ES SR : Int32} {lO lA lB lI lb im cd sa la lt mk ds cs ce rg : Nat → Int32}
/-! the component's small helpers -/
theorem sx_wc {post : Int32 → Prop} {a b : Int32} (h1 : ¬ a < 0 → ¬ b ≤ a → post 1) (h0 : (a < 0 ∨ b ≤ a) → post 0) : wpX_within post (G, LC, N, CU, LD, JD, OU, PC, ST, ES, SR, lO, lA, lB, lI, lb, im, cd, sa, la, lt, mk, ds, cs, ce, rg) a b :=
  br_c (fun z => h0 (Or.inl z)) (fun z => br_c (fun y => h0 (Or.inr y)) (fun y => h1 z y))
theorem sx_wi {post : Int32 → Prop} {a b : Int32} (h0 : ¬ a < 0) (h1 : ¬ b ≤ a) (h : post 1) : wpX_within post (G, LC, N, CU, LD, JD, OU, PC, ST, ES, SR, lO, lA, lB, lI, lb, im, cd, sa, la, lt, mk, ds, cs, ce, rg) a b :=
  br_f h0 (br_f h1 h)
theorem sx_wo {post : Int32 → Prop} {a b : Int32} (h0 : a < 0 ∨ b ≤ a) (h : post 0) : wpX_within post (G, LC, N, CU, LD, JD, OU, PC, ST, ES, SR, lO, lA, lB, lI, lb, im, cd, sa, la, lt, mk, ds, cs, ce, rg) a b :=
  sx_wc (fun y z => h0.elim (fun w => absurd w y) (fun w => absurd w z)) (fun _ => h)
theorem sx_wn {post : Int32 → Prop} {p n : Nat} (hp : p < n) (hn : n < 2 ^ 31) (h : post 1) : wpX_within post (G, LC, N, CU, LD, JD, OU, PC, ST, ES, SR, lO, lA, lB, lI, lb, im, cd, sa, la, lt, mk, ds, cs, ce, rg) (nI p) (nI n) :=
  br_f (nI_pos (by omega)) (br_f (nI_ge hp hn) h)
def sv_cl (v lo hi : Int32) : Int32 := if lo ≤ v then (if v ≤ hi then v else hi) else lo
theorem sx_clamp {post : Int32 → Prop} {v lo hi : Int32} (h : post (sv_cl v lo hi)) : wpX_clamp post (G, LC, N, CU, LD, JD, OU, PC, ST, ES, SR, lO, lA, lB, lI, lb, im, cd, sa, la, lt, mk, ds, cs, ce, rg) v lo hi := by
  unfold sv_cl at h
  refine br_c (fun z => br_c (fun y => ?_) (fun y => ?_)) (fun z => ?_)
  · rwa [if_pos z, if_pos y] at h
  · rwa [if_pos z, if_neg y] at h
  · rwa [if_neg z] at h
def sv_src (o : Int32) : Prop := o = 0 ∨ (¬ o < 2 ∧ o ≤ 7) ∨ (¬ o < 12 ∧ ¬ 19 < o)
theorem sx_src15 {post : Int32 → Prop} {o : Int32} (h1 : sv_src o → post 1) (h0 : ¬ sv_src o → post 0) (z : ¬ o = 0) (y : ¬ (¬ o < 2 ∧ o ≤ 7)) : wX_isSourceOp_15 post o G LC N CU LD JD OU PC ST ES SR lO lA lB lI lb im cd sa la lt mk ds cs ce rg := by
  refine br_c (fun w => h0 ?_) (fun w => br_c (fun v => h0 ?_) (fun v => h1 (Or.inr (Or.inr ⟨w, v⟩))))
  · exact fun q => q.elim z (fun q => q.elim y (fun q => q.1 w))
  · exact fun q => q.elim z (fun q => q.elim y (fun q => q.2 v))
theorem sx_src {post : Int32 → Prop} {o : Int32} (h1 : sv_src o → post 1) (h0 : ¬ sv_src o → post 0) : wpX_isSourceOp post (G, LC, N, CU, LD, JD, OU, PC, ST, ES, SR, lO, lA, lB, lI, lb, im, cd, sa, la, lt, mk, ds, cs, ce, rg) o :=
  br_c (fun z => h1 (Or.inl z)) (fun z => br_c (fun y => sx_src15 h1 h0 z (fun q => q.1 y)) (fun y => br_c (fun w => h1 (Or.inr (Or.inl ⟨y, w⟩))) (fun w => sx_src15 h1 h0 z (fun q => w q.2))))
def sv_dir (o : Int32) : Prop := ¬ o < 14 ∧ ¬ 16 < o
theorem sx_dir {post : Int32 → Prop} {o : Int32} (h1 : sv_dir o → post 1) (h0 : ¬ sv_dir o → post 0) : wpX_isDirect post (G, LC, N, CU, LD, JD, OU, PC, ST, ES, SR, lO, lA, lB, lI, lb, im, cd, sa, la, lt, mk, ds, cs, ce, rg) o :=
  br_c (fun z => h0 (fun q => q.1 z)) (fun z => br_c (fun y => h0 (fun q => q.2 y)) (fun y => h1 ⟨z, y⟩))
theorem sx_wrt1 {post : Int32 → Prop} {o : Int32} (c1 : ¬ o < 2) (c2 : ¬ 12 < o) (h : post 1) : wpX_isWriter post (G, LC, N, CU, LD, JD, OU, PC, ST, ES, SR, lO, lA, lB, lI, lb, im, cd, sa, la, lt, mk, ds, cs, ce, rg) o := br_f c1 (br_f c2 h)
theorem sx_wrt0 {post : Int32 → Prop} {o : Int32} (c : o < 2 ∨ 12 < o) (h : post 0) : wpX_isWriter post (G, LC, N, CU, LD, JD, OU, PC, ST, ES, SR, lO, lA, lB, lI, lb, im, cd, sa, la, lt, mk, ds, cs, ce, rg) o :=
  br_c (fun _ => h) (fun z => br_c (fun _ => h) (fun y => c.elim (fun q => absurd q z) (fun q => absurd q y)))
theorem sx_bun {post : Int32 → Prop} {v : Int32} (h1 : v &&& (-125) = 0 → post 1) (h0 : ¬ v &&& (-125) = 0 → post 0) : wpX_isBundleAddress post (G, LC, N, CU, LD, JD, OU, PC, ST, ES, SR, lO, lA, lB, lI, lb, im, cd, sa, la, lt, mk, ds, cs, ce, rg) v := br_c h1 h0
theorem sx_end1 {post : Int32 → Prop} (c : ST = 3 ∨ ST = 4) (h : post 1) : wpX_hasEnded post (G, LC, N, CU, LD, JD, OU, PC, ST, ES, SR, lO, lA, lB, lI, lb, im, cd, sa, la, lt, mk, ds, cs, ce, rg) :=
  br_c (fun _ => h) (fun z => br_c (fun _ => h) (fun y => c.elim (fun q => absurd q z) (fun q => absurd q y)))
theorem sx_end0 {post : Int32 → Prop} (c3 : ¬ ST = 3) (c4 : ¬ ST = 4) (h : post 0) : wpX_hasEnded post (G, LC, N, CU, LD, JD, OU, PC, ST, ES, SR, lO, lA, lB, lI, lb, im, cd, sa, la, lt, mk, ds, cs, ce, rg) := br_f c3 (br_f c4 h)
theorem sx_here {post : Int32 → Prop} {p : Nat} (hp : p < 128) (h : post (lt p)) : wpX_lineHere post (G, LC, N, CU, LD, JD, OU, nI p, ST, ES, SR, lO, lA, lB, lI, lb, im, cd, sa, la, lt, mk, ds, cs, ce, rg) := by
  have e : (nI p).toNatClampNeg = p := nI_clamp (by omega)
  unfold wpX_lineHere
  refine sx_wn (n := 128) hp (by omega) (br_f sv_10 (And.intro (vp_in_nI hp (by omega)) ?_))
  rw [e]; exact h
def sv_ft (c : Nat → Int32) (p : Nat) : Int32 := if p < 128 then c p else 0
theorem sv_ftp {c : Nat → Int32} {p : Nat} {w : Int32} (hp : p < 128) (h : c p = w) : sv_ft c p = w := by unfold sv_ft; rw [if_pos hp, h]
theorem sx_fetch {post : Int32 → Prop} {p : Nat} {w x : Int32} (hx : x = nI p) (hp : p < 2 ^ 31) (hw : sv_ft cd p = w) (h : post w) : wpX_fetch post (G, LC, N, CU, LD, JD, OU, PC, ST, ES, SR, lO, lA, lB, lI, lb, im, cd, sa, la, lt, mk, ds, cs, ce, rg) x := by
  subst hx
  unfold wpX_fetch
  by_cases q : p < 128
  · have e : (nI p).toNatClampNeg = p := nI_clamp hp
    unfold sv_ft at hw
    rw [if_pos q] at hw
    refine sx_wn (n := 128) q (by omega) (br_f sv_10 (And.intro (vp_in_nI q (by omega)) ?_))
    rw [e, hw]; exact h
  · unfold sv_ft at hw
    rw [if_neg q] at hw
    exact sx_wo (Or.inr (nI_le (a := 128) (by omega) hp)) (br_t rfl (hw ▸ h))
def sv_me (G : Int32) (ce : Nat → Int32) (y : Int32) : Int32 := if y < 0 then 0 else if y < 2 * G then ce y.toNatClampNeg else 0
theorem sx_mem {post : Int32 → Prop} {y : Int32} (hG : sv_gk G) (h : post (sv_me G ce y)) : wpX_mem post (G, LC, N, CU, LD, JD, OU, PC, ST, ES, SR, lO, lA, lB, lI, lb, im, cd, sa, la, lt, mk, ds, cs, ce, rg) y := by
  unfold sv_me at h
  unfold wpX_mem
  by_cases h0 : y < 0
  · rw [if_pos h0] at h
    exact sx_wo (Or.inl h0) (br_t rfl h)
  · rw [if_neg h0] at h
    by_cases h1 : y < 2 * G
    · rw [if_pos h1] at h
      exact sx_wi h0 (Int32.not_le.mpr h1) (br_f sv_10 (And.intro (sv_in64 hG h0 h1) h))
    · rw [if_neg h1] at h
      exact sx_wo (Or.inr (Int32.not_lt.mp h1)) (br_t rfl h)
/-! loops that fill an array -/
theorem sx_unset {post : SX → Prop} (h : post (G, LC, N, CU, LD, JD, OU, PC, ST, ES, SR, lO, lA, lB, lI, sv_fl lb (-1) 8, im, cd, sa, la, lt, mk, ds, cs, ce, rg)) : wpX_unsetLabels post (G, LC, N, CU, LD, JD, OU, PC, ST, ES, SR, lO, lA, lB, lI, lb, im, cd, sa, la, lt, mk, ds, cs, ce, rg) := by
  have key : ∀ d k n, k + d = 8 → d < n → wX_unsetLabels_2 post G LC N CU LD JD OU PC ST ES SR n (nI k) lO lA lB lI (sv_fl lb (-1) k) im cd sa la lt mk ds cs ce rg := by
    intro d
    induction d with
    | zero =>
      intro k n e hn
      obtain ⟨n, rfl⟩ : ∃ m, n = m + 1 := ⟨n - 1, by omega⟩
      obtain rfl : k = 8 := by omega
      exact br_t (by decide) h
    | succ d ih =>
      intro k n e hn
      obtain ⟨n, rfl⟩ : ∃ m, n = m + 1 := ⟨n - 1, by omega⟩
      have ek : (nI k).toNatClampNeg = k := nI_clamp (by omega)
      exact br_f (nI_ge (b := 8) (by omega) (by decide)) (And.intro (vp_in_nI (by omega) (by omega)) (nm_r (e' := sv_fl lb (-1) (k + 1)) (by rw [ek, sv_fls]) (nm_r (nI_1 k) (ih (k + 1) n (by omega) (by omega)))))
  have h2 := key 8 0 9 rfl (by omega)
  rw [sv_fl0] at h2
  exact Exists.intro 9 h2
theorem sx_clear11 {post : SX → Prop} (h : post (G, LC, N, 0, LD, JD, OU, PC, 0, ES, SR, lO, lA, lB, lI, lb, sv_fl im 0 128, cd, sa, la, lt, mk, ds, cs, ce, rg)) : ∃ n, wX_clear_11 post G LC N CU LD JD OU PC ST ES SR n 0 lO lA lB lI lb im cd sa la lt mk ds cs ce rg := by
  have key : ∀ d k n, k + d = 128 → d < n → wX_clear_11 post G LC N CU LD JD OU PC ST ES SR n (nI k) lO lA lB lI lb (sv_fl im 0 k) cd sa la lt mk ds cs ce rg := by
    intro d
    induction d with
    | zero =>
      intro k n e hn
      obtain ⟨n, rfl⟩ : ∃ m, n = m + 1 := ⟨n - 1, by omega⟩
      obtain rfl : k = 128 := by omega
      exact br_t (by decide) h
    | succ d ih =>
      intro k n e hn
      obtain ⟨n, rfl⟩ : ∃ m, n = m + 1 := ⟨n - 1, by omega⟩
      have ek : (nI k).toNatClampNeg = k := nI_clamp (by omega)
      exact br_f (nI_ge (b := 128) (by omega) (by decide)) (And.intro (vp_in_nI (by omega) (by omega)) (nm_r (e' := sv_fl im 0 (k + 1)) (by rw [ek, sv_fls]) (nm_r (nI_1 k) (ih (k + 1) n (by omega) (by omega)))))
  have h2 := key 128 0 129 rfl (by omega)
  rw [sv_fl0] at h2
  exact Exists.intro 129 h2
theorem sx_copy {post : SX → Prop} (h : post (G, LC, N, CU, LD, JD, OU, PC, ST, ES, SR, lO, lA, lB, lI, lb, im, sv_cp cd im 128, sa, la, lt, mk, ds, cs, ce, rg)) : wpX_copyImage post (G, LC, N, CU, LD, JD, OU, PC, ST, ES, SR, lO, lA, lB, lI, lb, im, cd, sa, la, lt, mk, ds, cs, ce, rg) := by
  have key : ∀ d k n, k + d = 128 → d < n → wX_copyImage_2 post G LC N CU LD JD OU PC ST ES SR n (nI k) lO lA lB lI lb im (sv_cp cd im k) sa la lt mk ds cs ce rg := by
    intro d
    induction d with
    | zero =>
      intro k n e hn
      obtain ⟨n, rfl⟩ : ∃ m, n = m + 1 := ⟨n - 1, by omega⟩
      obtain rfl : k = 128 := by omega
      exact br_t (by decide) h
    | succ d ih =>
      intro k n e hn
      obtain ⟨n, rfl⟩ : ∃ m, n = m + 1 := ⟨n - 1, by omega⟩
      have ek : (nI k).toNatClampNeg = k := nI_clamp (by omega)
      have v : vp_in (nI k) 128 := vp_in_nI (by omega) (by omega)
      exact br_f (nI_ge (b := 128) (by omega) (by decide)) (And.intro v (And.intro v (nm_r (e' := sv_cp cd im (k + 1)) (by rw [ek, sv_cps]) (nm_r (nI_1 k) (ih (k + 1) n (by omega) (by omega))))))
  have h2 := key 128 0 129 rfl (by omega)
  rw [sv_cp0] at h2
  exact Exists.intro 129 h2
theorem sx_reset {post : SX → Prop} (h : post (G, LC, N, CU, LD, JD, OU, PC, 1, 0, 0, lO, lA, lB, lI, lb, im, cd, sa, la, lt, mk, ds, cs, ce, upd (sv_fl rg 0 7) 7 G)) : wpX_resetMachine post (G, LC, N, CU, LD, JD, OU, PC, ST, ES, SR, lO, lA, lB, lI, lb, im, cd, sa, la, lt, mk, ds, cs, ce, rg) := by
  have key : ∀ d k n, k + d = 7 → d < n → wX_resetMachine_2 post G LC N CU LD JD OU PC ST ES SR n (nI k) lO lA lB lI lb im cd sa la lt mk ds cs ce (sv_fl rg 0 k) := by
    intro d
    induction d with
    | zero =>
      intro k n e hn
      obtain ⟨n, rfl⟩ : ∃ m, n = m + 1 := ⟨n - 1, by omega⟩
      obtain rfl : k = 7 := by omega
      exact br_t (by decide) (nm_e h)
    | succ d ih =>
      intro k n e hn
      obtain ⟨n, rfl⟩ : ∃ m, n = m + 1 := ⟨n - 1, by omega⟩
      have ek : (nI k).toNatClampNeg = k := nI_clamp (by omega)
      exact br_f (nI_ge (b := 7) (by omega) (by decide)) (And.intro (vp_in_nI (by omega) (by omega)) (nm_r (e' := sv_fl rg 0 (k + 1)) (by rw [ek, sv_fls]) (nm_r (nI_1 k) (ih (k + 1) n (by omega) (by omega)))))
  have h2 := key 7 0 8 rfl (by omega)
  rw [sv_fl0] at h2
  exact Exists.intro 8 h2
theorem sx_lay2 {post : SX → Prop} (h : ∃ n, wX_layOut_27 post G LC N CU LD JD OU PC ST ES SR n 32 0 lO lA lB lI lb im cd sa la (sv_fl lt (-1) 128) mk ds cs ce rg) : wpX_layOut post (G, LC, N, CU, LD, JD, OU, PC, ST, ES, SR, lO, lA, lB, lI, lb, im, cd, sa, la, lt, mk, ds, cs, ce, rg) := by
  have key : ∀ d k n, k + d = 128 → d < n → wX_layOut_2 post G LC N CU LD JD OU PC ST ES SR n (nI k) lO lA lB lI lb im cd sa la (sv_fl lt (-1) k) mk ds cs ce rg := by
    intro d
    induction d with
    | zero =>
      intro k n e hn
      obtain ⟨n, rfl⟩ : ∃ m, n = m + 1 := ⟨n - 1, by omega⟩
      obtain rfl : k = 128 := by omega
      exact br_t (by decide) h
    | succ d ih =>
      intro k n e hn
      obtain ⟨n, rfl⟩ : ∃ m, n = m + 1 := ⟨n - 1, by omega⟩
      have ek : (nI k).toNatClampNeg = k := nI_clamp (by omega)
      exact br_f (nI_ge (b := 128) (by omega) (by decide)) (And.intro (vp_in_nI (by omega) (by omega)) (nm_r (e' := sv_fl lt (-1) (k + 1)) (by rw [ek, sv_fls]) (nm_r (nI_1 k) (ih (k + 1) n (by omega) (by omega)))))
  have h2 := key 128 0 129 rfl (by omega)
  rw [sv_fl0] at h2
  exact Exists.intro 129 h2
end XS
end
section
/-! the verdict, apart from any program: starts, writers, what is known of a register, faults -/
def sv_bi (b : Bool) : Int32 := cond b 1 0
def sv_st (c : Nat → Int32) : Nat → Bool
  | 0 => true
  | p + 1 => decide ((p + 1) % 4 = 0) || !(sv_st c p) || !(decide (sv_op (c p) = 2))
def sv_ww (w : Int32) : Bool := !(decide (sv_op w < 2)) && !(decide (12 < sv_op w))
def sv_wr (c : Nat → Int32) (x : Int32) (p : Nat) : Bool := sv_st c p && (sv_ww (c p) && decide (sv_ra (c p) = x))
def sv_ba (v : Int32) : Bool := decide (v &&& (-125) = 0)
def sv_ma (G w : Int32) : Bool := decide (sv_op w = 9) && (!(decide (sv_mm w < 0)) && !(decide (G ≤ sv_mm w)))
def sv_mk (c : Nat → Int32) (G x : Int32) (s : Nat) : Nat → Bool
  | 0 => false
  | j + 1 => if sv_wr c x (s + j) = true then sv_ma G (c (s + j)) else sv_mk c G x s j
def sv_ds (c : Nat → Int32) (G x : Int32) (s : Nat) : Nat → Bool
  | 0 => decide (x = 7)
  | j + 1 => if sv_wr c x (s + j) = true then (decide (sv_op (c (s + j)) = 10) && (decide (sv_mm (c (s + j)) = G) && sv_mk c G x s j)) else sv_ds c G x s j
def sv_cs (c : Nat → Int32) (x : Int32) (s : Nat) : Nat → Bool
  | 0 => false
  | j + 1 => if sv_wr c x (s + j) = true then (decide (sv_op (c (s + j)) = 9) && sv_ba (sv_mm (c (s + j)))) else sv_cs c x s j
def sv_lz (w : Int32) (p : Nat) : Prop := ¬ (p + (if sv_op w = 2 then 2 else 1)) / 4 = p / 4
def sv_of (w : Int32) (p : Nat) : Prop := sv_lz w p ∧ ¬ sv_op w = 0 ∧ ¬ sv_op w = 14 ∧ ¬ sv_op w = 17
theorem sv_lzD (w : Int32) (p : Nat) : sv_lz w p ∨ ¬ sv_lz w p := Classical.em _
def sv_F7 (w : Int32) (p : Nat) : Prop := sv_of w p ∧ 124 ≤ p
def sv_F6 (c : Nat → Int32) (G : Int32) (p : Nat) : Prop := (¬ sv_op (c p) < 14 ∧ sv_ds c G 7 (p / 4 * 4) (p % 4) = false) ∨ (sv_of (c p) p ∧ sv_ds c G 7 (p / 4 * 4) (p % 4 + 1) = false)
def sv_F5 (c : Nat → Int32) (G : Int32) (p : Nat) : Prop := sv_op (c p) = 13 ∧ sv_ds c G (sv_ra (c p)) (p / 4 * 4) (p % 4) = false
def sv_F4 (c : Nat → Int32) (p : Nat) : Prop := sv_op (c p) = 17 ∧ sv_cs c (sv_ra (c p)) (p / 4 * 4) (p % 4) = false
def sv_F3 (w : Int32) : Prop := sv_dir (sv_op w) ∧ sv_ba (sv_mm w) = false
def sv_F2 (w : Int32) (p : Nat) : Prop := sv_op w = 2 ∧ p % 4 = 3
noncomputable def sv_if (P : Prop) (a b : Int32) : Int32 := @ite Int32 P (Classical.propDecidable P) a b
theorem sv_ift {P : Prop} {a b : Int32} (h : P) : sv_if P a b = a := by unfold sv_if; rw [if_pos h]
theorem sv_iff {P : Prop} {a b : Int32} (h : ¬ P) : sv_if P a b = b := by unfold sv_if; rw [if_neg h]
noncomputable def sv_f7 (c : Nat → Int32) (p : Nat) : Int32 := sv_if (sv_F7 (c p) p) 7 0
noncomputable def sv_f6 (c : Nat → Int32) (G : Int32) (p : Nat) : Int32 := sv_if (sv_F6 c G p) 6 (sv_f7 c p)
noncomputable def sv_f5 (c : Nat → Int32) (G : Int32) (p : Nat) : Int32 := sv_if (sv_F5 c G p) 5 (sv_f6 c G p)
noncomputable def sv_f4 (c : Nat → Int32) (G : Int32) (p : Nat) : Int32 := sv_if (sv_F4 c p) 4 (sv_f5 c G p)
noncomputable def sv_f3 (c : Nat → Int32) (G : Int32) (p : Nat) : Int32 := sv_if (sv_F3 (c p)) 3 (sv_f4 c G p)
noncomputable def sv_f2 (c : Nat → Int32) (G : Int32) (p : Nat) : Int32 := sv_if (sv_F2 (c p) p) 2 (sv_f3 c G p)
noncomputable def sv_fa (c : Nat → Int32) (G : Int32) (p : Nat) : Int32 := sv_if (¬ sv_op (c p) ≤ 17) 1 (sv_f2 c G p)
/-- the verdict from cell 128 - d on -/
noncomputable def sv_vd (c : Nat → Int32) (G : Int32) : Nat → Int32
  | 0 => -1
  | d + 1 => sv_if (sv_st c (127 - d) = true ∧ ¬ sv_fa c G (127 - d) = 0) (8 * nI (127 - d) + sv_fa c G (127 - d)) (sv_vd c G d)
theorem sv_n0 : vp_nar .boolean 0 = 0 := rfl
theorem sv_n1 : vp_nar .boolean 1 = 1 := rfl
theorem sv_bi0 {b : Bool} (h : b = false) : sv_bi b = 0 := by rw [h]; rfl
theorem sv_bi1 {b : Bool} (h : b = true) : sv_bi b = 1 := by rw [h]; rfl
theorem sv_bz {b : Bool} : sv_bi b = 0 ↔ b = false := by cases b <;> decide
/-- the component's flags at cell s + j -/
def sv_ag (c : Nat → Int32) (G : Int32) (s j : Nat) (mk ds cs : Nat → Int32) : Prop :=
  ∀ x, x < 8 → mk x = sv_bi (sv_mk c G (nI x) s j) ∧ ds x = sv_bi (sv_ds c G (nI x) s j) ∧ cs x = sv_bi (sv_cs c (nI x) s j)
theorem sv_pj (p : Nat) : p / 4 * 4 + p % 4 = p := by omega
/-- no writer: the flags stay -/
theorem sv_ag_n {c : Nat → Int32} {G : Int32} {s j : Nat} {mk ds cs : Nat → Int32} (h : sv_ag c G s j mk ds cs) (hw : sv_st c (s + j) = true → sv_ww (c (s + j)) = false) : sv_ag c G s (j + 1) mk ds cs := by
  intro x hx
  have hn : ¬ sv_wr c (nI x) (s + j) = true := by
    unfold sv_wr
    intro z
    rw [Bool.and_eq_true, Bool.and_eq_true] at z
    rw [hw z.1] at z
    exact absurd z.2.1 (by decide)
  obtain ⟨h1, h2, h3⟩ := h x hx
  refine ⟨?_, ?_, ?_⟩
  · rw [h1, sv_mk, if_neg hn]
  · rw [h2, sv_ds, if_neg hn]
  · rw [h3, sv_cs, if_neg hn]
/-- a writer -/
theorem sv_ag_w {c : Nat → Int32} {G : Int32} {s j a : Nat} {mk ds cs : Nat → Int32} (h : sv_ag c G s j mk ds cs) (hs : sv_st c (s + j) = true) (hw : sv_ww (c (s + j)) = true) (ha : a < 8) (ea : sv_ra (c (s + j)) = nI a) :
    sv_ag c G s (j + 1) (upd mk a (sv_bi (sv_ma G (c (s + j))))) (upd ds a (sv_bi (decide (sv_op (c (s + j)) = 10) && (decide (sv_mm (c (s + j)) = G) && sv_mk c G (nI a) s j)))) (upd cs a (sv_bi (decide (sv_op (c (s + j)) = 9) && sv_ba (sv_mm (c (s + j)))))) := by
  intro x hx
  by_cases e : x = a
  · subst e
    have hy : sv_wr c (nI x) (s + j) = true := by
      unfold sv_wr
      rw [hs, hw, decide_eq_true ea]; rfl
    rw [pk_us, pk_us, pk_us]
    refine ⟨?_, ?_, ?_⟩
    · rw [sv_mk, if_pos hy]
    · rw [sv_ds, if_pos hy]
    · rw [sv_cs, if_pos hy]
  · have hn : ¬ sv_wr c (nI x) (s + j) = true := by
      unfold sv_wr
      intro z
      rw [Bool.and_eq_true, Bool.and_eq_true, decide_eq_true_eq, ea, nI_eq (by omega) (by omega)] at z
      exact e z.2.2.symm
    obtain ⟨h1, h2, h3⟩ := h x hx
    rw [pk_un e, pk_un e, pk_un e]
    refine ⟨?_, ?_, ?_⟩
    · rw [h1, sv_mk, if_neg hn]
    · rw [h2, sv_ds, if_neg hn]
    · rw [h3, sv_cs, if_neg hn]
section XV
variable {G LC N CU LD JD OU PC ST ES SR : Int32} {lO lA lB lI lb im cd sa la lt mk ds cs ce rg : Nat → Int32}
theorem sx_marks {post : SX → Prop} {c : Nat → Int32} (hc : ∀ q, q < 128 → cd q = c q) (h : ∀ sa' : Nat → Int32, (∀ q, q < 128 → sa' q = sv_bi (sv_st c q)) → post (G, LC, N, CU, LD, JD, OU, PC, ST, ES, SR, lO, lA, lB, lI, lb, im, cd, sa', la, lt, mk, ds, cs, ce, rg)) : wpX_markStarts post (G, LC, N, CU, LD, JD, OU, PC, ST, ES, SR, lO, lA, lB, lI, lb, im, cd, sa, la, lt, mk, ds, cs, ce, rg) := by
  have key : ∀ d k n, k + d = 128 → d < n → ∀ sa1 : Nat → Int32, (∀ q, q < k → sa1 q = sv_bi (sv_st c q)) → wX_markStarts_2 post G LC N CU LD JD OU PC ST ES SR n (nI k) lO lA lB lI lb im cd sa1 la lt mk ds cs ce rg := by
    intro d
    induction d with
    | zero =>
      intro k n e hn sa1 h1
      obtain ⟨n, rfl⟩ : ∃ m, n = m + 1 := ⟨n - 1, by omega⟩
      obtain rfl : k = 128 := by omega
      exact br_t (by decide) (h sa1 h1)
    | succ d ih =>
      intro k n e hn sa1 h1
      obtain ⟨n, rfl⟩ : ∃ m, n = m + 1 := ⟨n - 1, by omega⟩
      have ek : (nI k).toNatClampNeg = k := nI_clamp (by omega)
      have v : vp_in (nI k) 128 := vp_in_nI (by omega) (by omega)
      have a3 : nI k &&& 3 = nI (k % 4) := pk_andN (by omega) 2 (by decide)
      have go : ∀ b : Bool, sv_st c k = b → wX_markStarts_2 post G LC N CU LD JD OU PC ST ES SR n (nI (k + 1)) lO lA lB lI lb im cd (upd sa1 k (sv_bi b)) la lt mk ds cs ce rg := by
        intro b hb
        refine ih (k + 1) n (by omega) (by omega) _ (lt_s (fun q hq => ?_) ?_)
        · rw [pk_un (by omega)]; exact h1 q hq
        · rw [pk_us, hb]
      refine br_f (nI_ge (b := 128) (by omega) (by decide)) ?_
      by_cases m0 : k % 4 = 0
      · refine br_t (by rw [a3, m0]; rfl) (And.intro v (nm_r (e' := upd sa1 k (sv_bi true)) (by rw [ek]; rfl) (nm_r (nI_1 k) (go true ?_))))
        cases k with
        | zero => rfl
        | succ k => rw [sv_st, decide_eq_true m0]; rfl
      · obtain ⟨k, rfl⟩ : ∃ k', k = k' + 1 := ⟨k - 1, by omega⟩
        have e1 : nI (k + 1) - 1 = nI k := nI_pred k
        have ek1 : (nI (k + 1) - 1).toNatClampNeg = k := by rw [e1]; exact nI_clamp (by omega)
        have v1 : vp_in (nI (k + 1) - 1) 128 := by rw [e1]; exact vp_in_nI (by omega) (by omega)
        refine br_f (by rw [a3]; exact nI_ne0 (by omega) (by omega)) (And.intro v1 ?_)
        by_cases s0 : sv_st c k = false
        · refine br_t (by rw [ek1, h1 k (by omega), s0]; rfl) (And.intro v (nm_r (e' := upd sa1 (k + 1) (sv_bi true)) (by rw [ek]; rfl) (nm_r (nI_1 (k + 1)) (go true ?_))))
          rw [sv_st, s0, decide_eq_false m0]; rfl
        · have s1 : sv_st c k = true := by cases hh : sv_st c k <;> simp_all
          refine br_f (by rw [ek1, h1 k (by omega), s1]; decide) (And.intro v1 ?_)
          by_cases o2 : sv_op (c k) = 2
          · refine br_t (by rw [ek1, hc k (by omega)]; exact o2) (And.intro v (nm_r (e' := upd sa1 (k + 1) (sv_bi false)) (by rw [ek]; rfl) (nm_r (nI_1 (k + 1)) (go false ?_))))
            rw [sv_st, s1, decide_eq_false m0, decide_eq_true o2]; rfl
          · refine br_f (by rw [ek1, hc k (by omega)]; exact o2) (And.intro v (nm_r (e' := upd sa1 (k + 1) (sv_bi true)) (by rw [ek]; rfl) (nm_r (nI_1 (k + 1)) (go true ?_))))
            rw [sv_st, s1, decide_eq_false m0, decide_eq_false o2]; rfl
  exact Exists.intro 129 (key 128 0 129 rfl (by omega) sa (fun q hq => absurd hq (by omega)))
theorem sx_enter {post : SX → Prop} {c : Nat → Int32} {G' : Int32} {s : Nat} (h : ∀ mk' ds' cs' : Nat → Int32, sv_ag c G' s 0 mk' ds' cs' → post (G, LC, N, CU, LD, JD, OU, PC, ST, ES, SR, lO, lA, lB, lI, lb, im, cd, sa, la, lt, mk', ds', cs', ce, rg)) : wpX_enterBundle post (G, LC, N, CU, LD, JD, OU, PC, ST, ES, SR, lO, lA, lB, lI, lb, im, cd, sa, la, lt, mk, ds, cs, ce, rg) := by
  have key : ∀ d k n, k + d = 8 → d < n → ∀ m1 d1 c1 : Nat → Int32, (∀ x, x < k → m1 x = sv_bi (sv_mk c G' (nI x) s 0) ∧ d1 x = sv_bi (sv_ds c G' (nI x) s 0) ∧ c1 x = sv_bi (sv_cs c (nI x) s 0)) → wX_enterBundle_2 post G LC N CU LD JD OU PC ST ES SR n (nI k) lO lA lB lI lb im cd sa la lt m1 d1 c1 ce rg := by
    intro d
    induction d with
    | zero =>
      intro k n e hn m1 d1 c1 h1
      obtain ⟨n, rfl⟩ : ∃ m, n = m + 1 := ⟨n - 1, by omega⟩
      obtain rfl : k = 8 := by omega
      exact br_t (by decide) (h m1 d1 c1 h1)
    | succ d ih =>
      intro k n e hn m1 d1 c1 h1
      obtain ⟨n, rfl⟩ : ∃ m, n = m + 1 := ⟨n - 1, by omega⟩
      have ek : (nI k).toNatClampNeg = k := nI_clamp (by omega)
      have v : vp_in (nI k) 8 := vp_in_nI (by omega) (by omega)
      have go : ∀ b : Bool, decide (nI k = 7) = b → wX_enterBundle_2 post G LC N CU LD JD OU PC ST ES SR n (nI (k + 1)) lO lA lB lI lb im cd sa la lt (upd m1 k 0) (upd d1 k (sv_bi b)) (upd c1 k 0) ce rg := by
        intro b hb
        refine ih (k + 1) n (by omega) (by omega) _ _ _ (lt_s (fun q hq => ?_) ?_)
        · rw [pk_un (by omega), pk_un (by omega), pk_un (by omega)]; exact h1 q hq
        · rw [pk_us, pk_us, pk_us]
          exact ⟨rfl, by rw [sv_ds, hb], rfl⟩
      refine br_f (nI_ge (b := 8) (by omega) (by decide)) (And.intro v (nm_r (e' := upd m1 k 0) (by rw [ek]; rfl) (And.intro v (nm_r (e' := upd c1 k 0) (by rw [ek]; rfl) ?_))))
      by_cases e7 : nI k = 7
      · exact br_t e7 (And.intro v (nm_r (e' := upd d1 k (sv_bi true)) (by rw [ek]; rfl) (nm_r (nI_1 k) (go true (decide_eq_true e7)))))
      · exact br_f e7 (And.intro v (nm_r (e' := upd d1 k (sv_bi false)) (by rw [ek]; rfl) (nm_r (nI_1 k) (go false (decide_eq_false e7)))))
  exact Exists.intro 9 (key 8 0 9 rfl (by omega) mk ds cs (fun q hq => absurd hq (by omega)))
theorem sx_n62 {post : SX → Prop} {o m z0 : Int32} {a : Nat} (ha : a < 8) (h : post (G, LC, N, CU, LD, JD, OU, PC, ST, ES, SR, lO, lA, lB, lI, lb, im, cd, sa, la, lt, upd mk a (vp_nar .boolean z0), ds, upd cs a (sv_bi (decide (o = 9) && sv_ba m)), ce, rg)) : wX_noteWrite_62 post o (nI a) m z0 (nI a) G LC N CU LD JD OU PC ST ES SR lO lA lB lI lb im cd sa la lt mk ds cs ce rg := by
  have ea : (nI a).toNatClampNeg = a := nI_clamp (by omega)
  have v : vp_in (nI a) 8 := vp_in_nI ha (by omega)
  refine And.intro v (nm_r (e' := upd mk a (vp_nar .boolean z0)) (by rw [ea]) ?_)
  by_cases h9 : o = 9
  · refine br_t h9 (sx_bun (fun hb => br_f sv_10 (And.intro v (nm_r (e' := upd cs a (sv_bi (decide (o = 9) && sv_ba m))) ?_ h))) (fun hb => br_t rfl (And.intro v (nm_r (e' := upd cs a (sv_bi (decide (o = 9) && sv_ba m))) ?_ h))))
    · rw [ea, decide_eq_true h9, show sv_ba m = true from decide_eq_true hb]; rfl
    · rw [ea, decide_eq_true h9, show sv_ba m = false from decide_eq_false hb]; rfl
  · refine br_f h9 (And.intro v (nm_r (e' := upd cs a (sv_bi (decide (o = 9) && sv_ba m))) ?_ h))
    rw [ea, decide_eq_false h9]; rfl
theorem sx_n33 {post : SX → Prop} {o m z0 : Int32} {a : Nat} (ha : a < 8) (h : post (G, LC, N, CU, LD, JD, OU, PC, ST, ES, SR, lO, lA, lB, lI, lb, im, cd, sa, la, lt, upd mk a (sv_bi (decide (o = 9) && (!(decide (m < 0)) && !(decide (G ≤ m))))), upd ds a (vp_nar .boolean z0), upd cs a (sv_bi (decide (o = 9) && sv_ba m)), ce, rg)) : wX_noteWrite_33 post o (nI a) m z0 (nI a) G LC N CU LD JD OU PC ST ES SR lO lA lB lI lb im cd sa la lt mk ds cs ce rg := by
  have ea : (nI a).toNatClampNeg = a := nI_clamp (by omega)
  have v : vp_in (nI a) 8 := vp_in_nI ha (by omega)
  have go : ∀ z : Int32, vp_nar .boolean z = sv_bi (decide (o = 9) && (!(decide (m < 0)) && !(decide (G ≤ m)))) → wX_noteWrite_62 post o (nI a) m z (nI a) G LC N CU LD JD OU PC ST ES SR lO lA lB lI lb im cd sa la lt mk (upd ds a (vp_nar .boolean z0)) cs ce rg := fun z hz => sx_n62 ha (by rw [hz]; exact h)
  refine And.intro v (nm_r (e' := upd ds a (vp_nar .boolean z0)) (by rw [ea]) ?_)
  by_cases h9 : o = 9
  · refine br_t h9 (sx_wc (fun h0 h1 => br_f sv_10 (go 1 ?_)) (fun h0 => br_t rfl (go 0 ?_)))
    · rw [decide_eq_true h9, decide_eq_false h0, decide_eq_false h1]; rfl
    · rw [decide_eq_true h9]
      rcases h0 with h0 | h0
      · rw [decide_eq_true h0]; rfl
      · rw [decide_eq_true h0]; cases decide (m < 0) <;> rfl
  · exact br_f h9 (go 0 (by rw [decide_eq_false h9]; rfl))
theorem sx_note {post : SX → Prop} {o m : Int32} {a : Nat} {b : Bool} (ha : a < 8) (hb : mk a = sv_bi b) (h : post (G, LC, N, CU, LD, JD, OU, PC, ST, ES, SR, lO, lA, lB, lI, lb, im, cd, sa, la, lt, upd mk a (sv_bi (decide (o = 9) && (!(decide (m < 0)) && !(decide (G ≤ m))))), upd ds a (sv_bi (decide (o = 10) && (decide (m = G) && b))), upd cs a (sv_bi (decide (o = 9) && sv_ba m)), ce, rg)) : wpX_noteWrite post (G, LC, N, CU, LD, JD, OU, PC, ST, ES, SR, lO, lA, lB, lI, lb, im, cd, sa, la, lt, mk, ds, cs, ce, rg) o (nI a) m := by
  have ea : (nI a).toNatClampNeg = a := nI_clamp (by omega)
  have v : vp_in (nI a) 8 := vp_in_nI ha (by omega)
  have go : ∀ z : Int32, vp_nar .boolean z = sv_bi (decide (o = 10) && (decide (m = G) && b)) → wX_noteWrite_33 post o (nI a) m z (nI a) G LC N CU LD JD OU PC ST ES SR lO lA lB lI lb im cd sa la lt mk ds cs ce rg := fun z hz => sx_n33 ha (by rw [hz]; exact h)
  by_cases h1 : o = 10
  · refine br_t h1 ?_
    by_cases h2 : m = G
    · refine br_t h2 (And.intro v ?_)
      cases b with
      | false => exact br_t (by rw [ea, hb]; rfl) (go 0 (by rw [decide_eq_true h1, decide_eq_true h2]; rfl))
      | true => exact br_f (by rw [ea, hb]; decide) (go 1 (by rw [decide_eq_true h1, decide_eq_true h2]; rfl))
    · exact br_f h2 (go 0 (by rw [decide_eq_false h2]; cases decide (o = 10) <;> rfl))
  · exact br_f h1 (go 0 (by rw [decide_eq_false h1]; rfl))
theorem sx_je29 {post : Int32 → Prop} {c : Nat → Int32} {p : Nat} {z : Int32} {b : Bool} (hp : p < 128) (hz : (z = 0 ∧ ¬ sv_lz (c p) p) ∨ (z = 1 ∧ sv_lz (c p) p)) (hb : ds 7 = sv_bi b) (h6 : sv_of (c p) p → b = false → post 6) (h7 : ¬ (sv_of (c p) p ∧ b = false) → post (sv_f7 c p)) : wX_judgeEnd_29 post (nI p) (sv_op (c p)) z G LC N CU LD JD OU PC ST ES SR lO lA lB lI lb im cd sa la lt mk ds cs ce rg := by
  have off : ¬ sv_of (c p) p → post 0 := fun z => by
    have := h7 (fun q => z q.1)
    rwa [sv_f7, sv_iff (fun q => z q.1)] at this
  rcases hz with ⟨rfl, hl⟩ | ⟨rfl, hl⟩
  · exact br_t rfl (off fun q => hl q.1)
  · refine br_f sv_10 (br_c (fun y => off fun q => q.2.1 y) (fun y => br_c (fun x => off fun q => q.2.2.1 x) (fun x => br_c (fun w => off fun q => q.2.2.2 w) (fun w => ?_))))
    cases b with
    | false => exact br_t (by rw [hb]; rfl) (h6 ⟨hl, y, x, w⟩ rfl)
    | true =>
      have h7 := h7 (fun q => absurd q.2 (by decide))
      refine br_f (by rw [hb]; decide) (pk_lt p 124 (fun q => ?_) (fun q => ?_))
      · rwa [sv_f7, sv_iff (fun z => absurd z.2 (by omega))] at h7
      · rwa [sv_f7, sv_ift ⟨⟨hl, y, x, w⟩, q⟩] at h7
theorem sx_jend {post : Int32 → Prop} {c : Nat → Int32} {p : Nat} {b : Bool} (hp : p < 128) (hb : ds 7 = sv_bi b) (h6 : sv_of (c p) p → b = false → post 6) (h7 : ¬ (sv_of (c p) p ∧ b = false) → post (sv_f7 c p)) : wpX_judgeEnd post (G, LC, N, CU, LD, JD, OU, PC, ST, ES, SR, lO, lA, lB, lI, lb, im, cd, sa, la, lt, mk, ds, cs, ce, rg) (nI p) (sv_op (c p)) := by
  have go : ∀ (x : Int32) (q : Nat), x = nI q → q < 200 → (sv_lz (c p) p ↔ ¬ q / 4 = p / 4) → wX_judgeEnd_14 post (nI p) (sv_op (c p)) x G LC N CU LD JD OU PC ST ES SR lO lA lB lI lb im cd sa la lt mk ds cs ce rg := by
    intro x q hx hq hl
    subst hx
    have e1 : nI q >>> ((2 : Int32) &&& 31) = nI (q / 4) := pk_shrN (by omega) _ 2 (by decide)
    have e2 : nI p >>> ((2 : Int32) &&& 31) = nI (p / 4) := pk_shrN (by omega) _ 2 (by decide)
    have e3 : nI q >>> ((2 : Int32) &&& 31) = nI p >>> ((2 : Int32) &&& 31) ↔ q / 4 = p / 4 := by rw [e1, e2]; exact nI_eq (by omega) (by omega)
    by_cases z : q / 4 = p / 4
    · exact br_t (e3.mpr z) (sx_je29 hp (Or.inl ⟨rfl, fun y => hl.mp y z⟩) hb h6 h7)
    · exact br_f (fun y => z (e3.mp y)) (sx_je29 hp (Or.inr ⟨rfl, hl.mpr z⟩) hb h6 h7)
  by_cases o2 : sv_op (c p) = 2
  · exact br_t o2 (go _ (p + 2) (nI_add p 2) (by omega) (by unfold sv_lz; rw [if_pos o2]))
  · exact br_f o2 (go _ (p + 1) (nI_add p 1) (by omega) (by unfold sv_lz; rw [if_neg o2]))
end XV
end
section
section XJ
variable {G LC N CU LD JD OU PC ST ES SR : Int32} {lO lA lB lI lb im cd sa la lt mk ds cs ce rg : Nat → Int32}
variable {post : Int32 → SX → Prop} {c : Nat → Int32} {p : Nat}
theorem sx_j141 (hp : p < 128) (ag : sv_ag c G (p / 4 * 4) (p % 4 + 1) mk ds cs) (hn : ¬ (¬ sv_op (c p) < 14 ∧ sv_ds c G 7 (p / 4 * 4) (p % 4) = false)) (K : post (sv_f6 c G p) (G, LC, N, CU, LD, JD, OU, PC, ST, ES, SR, lO, lA, lB, lI, lb, im, cd, sa, la, lt, mk, ds, cs, ce, rg)) : wX_judge_141 post (nI p) (sv_op (c p)) G LC N CU LD JD OU PC ST ES SR lO lA lB lI lb im cd sa la lt mk ds cs ce rg := by
  unfold wX_judge_141
  refine sx_jend hp (ag 7 (by omega)).2.1 (fun h1 h2 => ?_) (fun h1 => ?_)
  · rwa [sv_f6, sv_ift (P := sv_F6 c G p) (Or.inr ⟨h1, h2⟩)] at K
  · rwa [sv_f6, sv_iff (fun q => q.elim hn h1)] at K
theorem sx_j124 (hp : p < 128) (hs : sv_st c p = true) (ag : sv_ag c G (p / 4 * 4) (p % 4) mk ds cs) (hn : ¬ (¬ sv_op (c p) < 14 ∧ sv_ds c G 7 (p / 4 * 4) (p % 4) = false)) (K : ∀ mk' ds' cs' : Nat → Int32, sv_ag c G (p / 4 * 4) (p % 4 + 1) mk' ds' cs' → post (sv_f6 c G p) (G, LC, N, CU, LD, JD, OU, PC, ST, ES, SR, lO, lA, lB, lI, lb, im, cd, sa, la, lt, mk', ds', cs', ce, rg)) : wX_judge_124 post (nI p) (sv_op (c p)) (sv_ra (c p)) (sv_mm (c p)) G LC N CU LD JD OU PC ST ES SR lO lA lB lI lb im cd sa la lt mk ds cs ce rg := by
  have ep := sv_pj p
  unfold wX_judge_124
  cases hw : sv_ww (c p) with
  | false =>
    have hq : sv_op (c p) < 2 ∨ 12 < sv_op (c p) := by
      unfold sv_ww at hw
      by_cases q : sv_op (c p) < 2
      · exact Or.inl q
      · rw [decide_eq_false q] at hw
        exact Or.inr (by simpa using hw)
    have ag2 := sv_ag_n ag (fun _ => by rw [ep]; exact hw)
    exact sx_wrt0 hq (br_t rfl (sx_j141 hp ag2 hn (K _ _ _ ag2)))
  | true =>
    have hq : ¬ sv_op (c p) < 2 ∧ ¬ 12 < sv_op (c p) := by
      unfold sv_ww at hw
      rw [Bool.and_eq_true] at hw
      exact ⟨by simpa using hw.1, by simpa using hw.2⟩
    obtain ⟨a, ha, ea⟩ := sv_raE (c p)
    have ag2 := sv_ag_w ag (by rw [ep]; exact hs) (by rw [ep]; exact hw) ha (by rw [ep]; exact ea)
    rw [ep] at ag2
    rw [ea]
    exact sx_wrt1 hq.1 hq.2 (br_f sv_10 (sx_note ha (ag a ha).1 (sx_j141 hp ag2 hn (K _ _ _ ag2))))
theorem sx_j105 (hp : p < 128) (hs : sv_st c p = true) (ag : sv_ag c G (p / 4 * 4) (p % 4) mk ds cs) (K : ∀ mk' ds' cs' : Nat → Int32, (sv_f6 c G p = 0 → sv_ag c G (p / 4 * 4) (p % 4 + 1) mk' ds' cs') → post (sv_f6 c G p) (G, LC, N, CU, LD, JD, OU, PC, ST, ES, SR, lO, lA, lB, lI, lb, im, cd, sa, la, lt, mk', ds', cs', ce, rg)) : wX_judge_105 post (nI p) (sv_op (c p)) (sv_ra (c p)) (sv_mm (c p)) G LC N CU LD JD OU PC ST ES SR lO lA lB lI lb im cd sa la lt mk ds cs ce rg := by
  by_cases h14 : sv_op (c p) < 14
  · exact br_t h14 (sx_j124 hp hs ag (fun q => q.1 h14) (fun _ _ _ z => K _ _ _ (fun _ => z)))
  · have e7 : ds 7 = sv_bi (sv_ds c G 7 (p / 4 * 4) (p % 4)) := (ag 7 (by omega)).2.1
    refine br_f h14 ?_
    cases hd : sv_ds c G 7 (p / 4 * 4) (p % 4) with
    | false =>
      have e6 : sv_f6 c G p = 6 := by rw [sv_f6, sv_ift (P := sv_F6 c G p) (Or.inl ⟨h14, hd⟩)]
      have K := K mk ds cs (fun z => absurd (e6.symm.trans z) (by decide))
      rw [e6] at K
      exact br_t (by rw [e7, hd]; rfl) K
    | true => exact br_f (by rw [e7, hd]; decide) (sx_j124 hp hs ag (fun q => absurd (hd.symm.trans q.2) (by decide)) (fun _ _ _ z => K _ _ _ (fun _ => z)))
theorem sx_j87 (hp : p < 128) (hs : sv_st c p = true) (ag : sv_ag c G (p / 4 * 4) (p % 4) mk ds cs) (K : ∀ mk' ds' cs' : Nat → Int32, (sv_f5 c G p = 0 → sv_ag c G (p / 4 * 4) (p % 4 + 1) mk' ds' cs') → post (sv_f5 c G p) (G, LC, N, CU, LD, JD, OU, PC, ST, ES, SR, lO, lA, lB, lI, lb, im, cd, sa, la, lt, mk', ds', cs', ce, rg)) : wX_judge_87 post (nI p) (sv_op (c p)) (sv_ra (c p)) (sv_mm (c p)) G LC N CU LD JD OU PC ST ES SR lO lA lB lI lb im cd sa la lt mk ds cs ce rg := by
  have go : ¬ sv_F5 c G p → wX_judge_105 post (nI p) (sv_op (c p)) (sv_ra (c p)) (sv_mm (c p)) G LC N CU LD JD OU PC ST ES SR lO lA lB lI lb im cd sa la lt mk ds cs ce rg := fun hn => by
    refine sx_j105 hp hs ag (fun a b d z => ?_)
    have K := K a b d
    rw [sv_f5, sv_iff hn] at K
    exact K z
  by_cases h : sv_op (c p) = 13
  · obtain ⟨a, ha, ea⟩ := sv_raE (c p)
    have ec : (sv_ra (c p)).toNatClampNeg = a := by rw [ea]; exact nI_clamp (by omega)
    have e7 : ds a = sv_bi (sv_ds c G (sv_ra (c p)) (p / 4 * 4) (p % 4)) := by rw [ea]; exact (ag a ha).2.1
    refine br_t h (And.intro (sv_in7 _) ?_)
    cases hd : sv_ds c G (sv_ra (c p)) (p / 4 * 4) (p % 4) with
    | false =>
      have e6 : sv_f5 c G p = 5 := by rw [sv_f5, sv_ift ⟨h, hd⟩]
      have K := K mk ds cs (fun z => absurd (e6.symm.trans z) (by decide))
      rw [e6] at K
      exact br_t (by rw [ec, e7, hd]; rfl) K
    | true => exact br_f (by rw [ec, e7, hd]; decide) (go (fun q => absurd (hd.symm.trans q.2) (by decide)))
  · exact br_f h (go (fun q => h q.1))
theorem sx_j69 (hp : p < 128) (hs : sv_st c p = true) (ag : sv_ag c G (p / 4 * 4) (p % 4) mk ds cs) (K : ∀ mk' ds' cs' : Nat → Int32, (sv_f4 c G p = 0 → sv_ag c G (p / 4 * 4) (p % 4 + 1) mk' ds' cs') → post (sv_f4 c G p) (G, LC, N, CU, LD, JD, OU, PC, ST, ES, SR, lO, lA, lB, lI, lb, im, cd, sa, la, lt, mk', ds', cs', ce, rg)) : wX_judge_69 post (nI p) (sv_op (c p)) (sv_ra (c p)) (sv_mm (c p)) G LC N CU LD JD OU PC ST ES SR lO lA lB lI lb im cd sa la lt mk ds cs ce rg := by
  have go : ¬ sv_F4 c p → wX_judge_87 post (nI p) (sv_op (c p)) (sv_ra (c p)) (sv_mm (c p)) G LC N CU LD JD OU PC ST ES SR lO lA lB lI lb im cd sa la lt mk ds cs ce rg := fun hn => by
    refine sx_j87 hp hs ag (fun a b d z => ?_)
    have K := K a b d
    rw [sv_f4, sv_iff hn] at K
    exact K z
  by_cases h : sv_op (c p) = 17
  · obtain ⟨a, ha, ea⟩ := sv_raE (c p)
    have ec : (sv_ra (c p)).toNatClampNeg = a := by rw [ea]; exact nI_clamp (by omega)
    have e7 : cs a = sv_bi (sv_cs c (sv_ra (c p)) (p / 4 * 4) (p % 4)) := by rw [ea]; exact (ag a ha).2.2
    refine br_t h (And.intro (sv_in7 _) ?_)
    cases hd : sv_cs c (sv_ra (c p)) (p / 4 * 4) (p % 4) with
    | false =>
      have e6 : sv_f4 c G p = 4 := by rw [sv_f4, sv_ift ⟨h, hd⟩]
      have K := K mk ds cs (fun z => absurd (e6.symm.trans z) (by decide))
      rw [e6] at K
      exact br_t (by rw [ec, e7, hd]; rfl) K
    | true => exact br_f (by rw [ec, e7, hd]; decide) (go (fun q => absurd (hd.symm.trans q.2) (by decide)))
  · exact br_f h (go (fun q => h q.1))
theorem sx_j50 (hp : p < 128) (hs : sv_st c p = true) (ag : sv_ag c G (p / 4 * 4) (p % 4) mk ds cs) (K : ∀ mk' ds' cs' : Nat → Int32, (sv_f3 c G p = 0 → sv_ag c G (p / 4 * 4) (p % 4 + 1) mk' ds' cs') → post (sv_f3 c G p) (G, LC, N, CU, LD, JD, OU, PC, ST, ES, SR, lO, lA, lB, lI, lb, im, cd, sa, la, lt, mk', ds', cs', ce, rg)) : wX_judge_50 post (nI p) (sv_op (c p)) (sv_ra (c p)) (sv_mm (c p)) G LC N CU LD JD OU PC ST ES SR lO lA lB lI lb im cd sa la lt mk ds cs ce rg := by
  have go : ¬ sv_F3 (c p) → wX_judge_69 post (nI p) (sv_op (c p)) (sv_ra (c p)) (sv_mm (c p)) G LC N CU LD JD OU PC ST ES SR lO lA lB lI lb im cd sa la lt mk ds cs ce rg := fun hn => by
    refine sx_j69 hp hs ag (fun a b d z => ?_)
    have K := K a b d
    rw [sv_f3, sv_iff hn] at K
    exact K z
  unfold wX_judge_50
  refine sx_dir (fun hd => br_f sv_10 (sx_bun (fun hb => br_f sv_10 (go ?_)) (fun hb => br_t rfl ?_))) (fun hd => br_t rfl (go (fun q => hd q.1)))
  · exact fun q => absurd ((show sv_ba (sv_mm (c p)) = true from decide_eq_true hb).symm.trans q.2) (by decide)
  · have e6 : sv_f3 c G p = 3 := by rw [sv_f3, sv_ift ⟨hd, decide_eq_false hb⟩]
    have K := K mk ds cs (fun z => absurd (e6.symm.trans z) (by decide))
    rw [e6] at K
    exact K
theorem sx_judge (hp : p < 128) (hc : cd p = c p) (hs : sv_st c p = true) (ag : sv_ag c G (p / 4 * 4) (p % 4) mk ds cs) (K : ∀ mk' ds' cs' : Nat → Int32, (sv_fa c G p = 0 → sv_ag c G (p / 4 * 4) (p % 4 + 1) mk' ds' cs') → post (sv_fa c G p) (G, LC, N, CU, LD, JD, OU, PC, ST, ES, SR, lO, lA, lB, lI, lb, im, cd, sa, la, lt, mk', ds', cs', ce, rg)) : wpX_judge post (G, LC, N, CU, LD, JD, OU, PC, ST, ES, SR, lO, lA, lB, lI, lb, im, cd, sa, la, lt, mk, ds, cs, ce, rg) (nI p) := by
  have ep : (nI p).toNatClampNeg = p := nI_clamp (by omega)
  have a3 : nI p &&& 3 = nI (p % 4) := pk_andN (by omega) 2 (by decide)
  refine And.intro (vp_in_nI hp (by omega)) (nm_r (e' := c p) (by rw [ep, hc]) (nm_r (e' := sv_op (c p)) rfl (nm_r (e' := sv_ra (c p)) rfl (nm_r (e' := sv_mm (c p)) rfl ?_))))
  by_cases h : sv_op (c p) ≤ 17
  · rw [sv_fa, sv_iff (fun z => z h)] at K
    have go : ¬ sv_F2 (c p) p → wX_judge_50 post (nI p) (sv_op (c p)) (sv_ra (c p)) (sv_mm (c p)) G LC N CU LD JD OU PC ST ES SR lO lA lB lI lb im cd sa la lt mk ds cs ce rg := fun hn => by
      refine sx_j50 hp hs ag (fun a b d z => ?_)
      have K := K a b d
      rw [sv_f2, sv_iff hn] at K
      exact K z
    refine br_t h ?_
    by_cases h2 : sv_op (c p) = 2
    · refine br_t h2 ?_
      by_cases h3 : p % 4 = 3
      · have e6 : sv_f2 c G p = 2 := by rw [sv_f2, sv_ift ⟨h2, h3⟩]
        have K := K mk ds cs (fun z => absurd (e6.symm.trans z) (by decide))
        rw [e6] at K
        exact br_t (by rw [a3, h3]; rfl) K
      · exact br_f (by rw [a3]; exact fun z => h3 ((nI_eq (b := 3) (by omega) (by omega)).mp z)) (go (fun q => h3 q.2))
    · exact br_f h2 (go (fun q => h2 q.1))
  · have e6 : sv_fa c G p = 1 := by rw [sv_fa, sv_ift h]
    have K := K mk ds cs (fun z => absurd (e6.symm.trans z) (by decide))
    rw [e6] at K
    exact br_f h K
theorem sx_verify (hc : ∀ q, q < 128 → cd q = c q) (hs : ∀ q, q < 128 → sa q = sv_bi (sv_st c q)) (K : ∀ mk' ds' cs' : Nat → Int32, post (sv_vd c G 128) (G, LC, N, CU, LD, JD, OU, PC, ST, ES, SR, lO, lA, lB, lI, lb, im, cd, sa, la, lt, mk', ds', cs', ce, rg)) : wpX_verify post (G, LC, N, CU, LD, JD, OU, PC, ST, ES, SR, lO, lA, lB, lI, lb, im, cd, sa, la, lt, mk, ds, cs, ce, rg) := by
  have key : ∀ d k n, k + d = 128 → d < n → (∀ mk' ds' cs' : Nat → Int32, post (sv_vd c G d) (G, LC, N, CU, LD, JD, OU, PC, ST, ES, SR, lO, lA, lB, lI, lb, im, cd, sa, la, lt, mk', ds', cs', ce, rg)) → ∀ m1 d1 c1 : Nat → Int32, (¬ k % 4 = 0 → sv_ag c G (k / 4 * 4) (k % 4) m1 d1 c1) → wX_verify_2 post n (nI k) G LC N CU LD JD OU PC ST ES SR lO lA lB lI lb im cd sa la lt m1 d1 c1 ce rg := by
    intro d
    induction d with
    | zero =>
      intro k n e hn K m1 d1 c1 h1
      obtain ⟨n, rfl⟩ : ∃ m, n = m + 1 := ⟨n - 1, by omega⟩
      obtain rfl : k = 128 := by omega
      exact br_t (by decide) (K m1 d1 c1)
    | succ d ih =>
      intro k n e hn K m1 d1 c1 h1
      obtain ⟨n, rfl⟩ : ∃ m, n = m + 1 := ⟨n - 1, by omega⟩
      have ek : (nI k).toNatClampNeg = k := nI_clamp (by omega)
      have v : vp_in (nI k) 128 := vp_in_nI (by omega) (by omega)
      have a3 : nI k &&& 3 = nI (k % 4) := pk_andN (by omega) 2 (by decide)
      have ek2 : 127 - d = k := by omega
      rw [sv_vd, ek2] at K
      have go : ∀ m1 d1 c1 : Nat → Int32, sv_ag c G (k / 4 * 4) (k % 4) m1 d1 c1 → wX_verify_19 post (wX_verify_2 post n) (nI k) G LC N CU LD JD OU PC ST ES SR lO lA lB lI lb im cd sa la lt m1 d1 c1 ce rg := by
        intro m1 d1 c1 ag
        have nx : ∀ m2 d2 c2 : Nat → Int32, sv_ag c G (k / 4 * 4) (k % 4 + 1) m2 d2 c2 → ¬ (sv_st c k = true ∧ ¬ sv_fa c G k = 0) → wX_verify_2 post n (nI (k + 1)) G LC N CU LD JD OU PC ST ES SR lO lA lB lI lb im cd sa la lt m2 d2 c2 ce rg := by
          intro m2 d2 c2 ag2 hn
          rw [sv_iff hn] at K
          refine ih (k + 1) n (by omega) (by omega) K m2 d2 c2 (fun h4 => ?_)
          have e1 : (k + 1) / 4 * 4 = k / 4 * 4 := by omega
          have e2 : (k + 1) % 4 = k % 4 + 1 := by omega
          rw [e1, e2]; exact ag2
        refine And.intro v ?_
        by_cases s1 : sv_st c k = true
        · refine br_f (by rw [ek, hs k (by omega), s1]; decide) (sx_judge (by omega) (hc k (by omega)) s1 ag (fun m2 d2 c2 z => ?_))
          by_cases f0 : sv_fa c G k = 0
          · exact br_t f0 (nm_r (nI_1 k) (nx m2 d2 c2 (z f0) (fun q => q.2 f0)))
          · rw [sv_ift ⟨s1, f0⟩] at K
            exact br_f f0 (K m2 d2 c2)
        · have s0 : sv_st c k = false := by cases hh : sv_st c k <;> simp_all
          refine br_t (by rw [ek, hs k (by omega), s0]; rfl) (br_t rfl (nm_r (nI_1 k) (nx m1 d1 c1 (sv_ag_n ag (fun z => ?_)) (fun q => s1 q.1))))
          rw [sv_pj] at z
          exact absurd z s1
      refine br_f (nI_ge (b := 128) (by omega) (by decide)) ?_
      by_cases m0 : k % 4 = 0
      · refine br_t (by rw [a3, m0]; rfl) (sx_enter (c := c) (G' := G) (s := k / 4 * 4) (fun m2 d2 c2 z => go m2 d2 c2 ?_))
        rw [m0]; exact z
      · exact br_f (by rw [a3]; exact nI_ne0 (by omega) (by omega)) (go m1 d1 c1 (h1 m0))
  exact Exists.intro 129 (key 128 0 129 rfl (by omega) K mk ds cs (fun z => absurd rfl z))
end XJ
end
section
/-! the reference's verdict -/
theorem sv_m1t (k : Nat) (h : k < 2 ^ 31) : (nI k + (-1)).toInt = (k : Int) - 1 := by
  cases k with
  | zero => rw [nI_0]; decide
  | succ k => rw [pk_m1, nI_toInt (by omega)]; omega
theorem sv_st4 {c : Nat → Int32} {s : Nat} (h : s % 4 = 0) : sv_st c s = true := by
  cases s with
  | zero => rfl
  | succ s => rw [sv_st, decide_eq_true h]; rfl
theorem sv_stS {c : Nat → Int32} {s : Nat} (h : ¬ (s + 1) % 4 = 0) : sv_st c (s + 1) = (!(sv_st c s) || !(decide (sv_op (c s) = 2))) := by
  rw [sv_st, decide_eq_false h, Bool.false_or]
def sv_wf (c : Nat → Int32) (x : Int32) (s : Nat) : Nat → Nat → Int32
  | 0, _ => -1
  | j + 1, k => if sv_wr c x (s + j) = true then (if k = 1 then nI (s + j) else sv_wf c x s j (k - 1)) else sv_wf c x s j k
/-- the last writer and the one before it say what is known -/
theorem sv_wA (c : Nat → Int32) (G x : Int32) (s : Nat) : ∀ j,
    (sv_wf c x s j 1 = -1 ∧ sv_wf c x s j 2 = -1 ∧ sv_mk c G x s j = false ∧ sv_cs c x s j = false ∧ sv_ds c G x s j = decide (x = 7)) ∨
    (∃ q, s ≤ q ∧ q < s + j ∧ sv_wf c x s j 1 = nI q ∧ sv_mk c G x s j = sv_ma G (c q) ∧ sv_cs c x s j = (decide (sv_op (c q) = 9) && sv_ba (sv_mm (c q))) ∧
      ((sv_wf c x s j 2 = -1 ∧ sv_ds c G x s j = false) ∨
       (∃ q2, s ≤ q2 ∧ q2 < s + j ∧ sv_wf c x s j 2 = nI q2 ∧ sv_ds c G x s j = (decide (sv_op (c q) = 10) && (decide (sv_mm (c q) = G) && sv_ma G (c q2)))))) := by
  intro j
  induction j with
  | zero => exact Or.inl ⟨rfl, rfl, rfl, rfl, rfl⟩
  | succ j ih =>
    by_cases hw : sv_wr c x (s + j) = true
    · right
      refine ⟨s + j, by omega, by omega, ?_, ?_, ?_, ?_⟩
      · rw [sv_wf, if_pos hw, if_pos rfl]
      · rw [sv_mk, if_pos hw]
      · rw [sv_cs, if_pos hw]
      · have e2 : sv_wf c x s (j + 1) 2 = sv_wf c x s j 1 := by rw [sv_wf, if_pos hw, if_neg (by omega)]
        have ed : sv_ds c G x s (j + 1) = (decide (sv_op (c (s + j)) = 10) && (decide (sv_mm (c (s + j)) = G) && sv_mk c G x s j)) := by rw [sv_ds, if_pos hw]
        rcases ih with ⟨h1, h2, h3, h4, h5⟩ | ⟨q, g1, g2, g3, g4, g5, g6⟩
        · left
          exact ⟨e2.trans h1, by rw [ed, h3, Bool.and_false, Bool.and_false]⟩
        · right
          exact ⟨q, g1, by omega, e2.trans g3, by rw [ed, g4]⟩
    · have e1 : sv_wf c x s (j + 1) 1 = sv_wf c x s j 1 := by rw [sv_wf, if_neg hw]
      have e2 : sv_wf c x s (j + 1) 2 = sv_wf c x s j 2 := by rw [sv_wf, if_neg hw]
      have e3 : sv_mk c G x s (j + 1) = sv_mk c G x s j := by rw [sv_mk, if_neg hw]
      have e4 : sv_cs c x s (j + 1) = sv_cs c x s j := by rw [sv_cs, if_neg hw]
      have e5 : sv_ds c G x s (j + 1) = sv_ds c G x s j := by rw [sv_ds, if_neg hw]
      rw [e1, e2, e3, e4, e5]
      rcases ih with h | ⟨q, g1, g2, g3, g4, g5, g6⟩
      · exact Or.inl h
      · refine Or.inr ⟨q, g1, by omega, g3, g4, g5, ?_⟩
        rcases g6 with g | ⟨q2, k1, k2, k3, k4⟩
        · exact Or.inl g
        · exact Or.inr ⟨q2, k1, by omega, k3, k4⟩
theorem sv_b125 : ∀ j, j < 128 → (nI j &&& (-125) = 0 ↔ (¬ (124 : Int32) < nI j ∧ nI j - nI j / 4 * 4 = 0)) := by decide +kernel
theorem sv_bm125 : ∀ i, i < 32 → bt (-125) i = !(decide (2 ≤ i ∧ i < 7)) := by decide +kernel
theorem sv_b127 : ∀ i, i < 32 → bt 127 i = decide (i < 7) := by decide +kernel
/-- a multiple of 4 in 0 .. 124, said in two ways -/
theorem sv_bun (m : Int32) : m &&& (-125) = 0 ↔ (¬ m < 0 ∧ ¬ 124 < m ∧ m - m / 4 * 4 = 0) := by
  constructor
  · intro h
    have e : m = m &&& 127 := by
      refine b_ext fun i hi => ?_
      have hb : bt (m &&& (-125)) i = false := by rw [h, b_0]
      rw [b_and, sv_bm125 i hi] at hb
      rw [b_and, sv_b127 i hi]
      by_cases h7 : i < 7
      · rw [decide_eq_true h7, Bool.and_true]
      · rw [decide_eq_false (show ¬ (2 ≤ i ∧ i < 7) by omega)] at hb
        rw [decide_eq_false h7, Bool.and_false]
        simpa using hb
    obtain ⟨j, hj, ej⟩ := pk_andE m (m := 127) 7 (by decide)
    rw [← e] at ej
    rw [ej] at h ⊢
    exact ⟨nI_pos (by omega), (sv_b125 j hj).mp h⟩
  · rintro ⟨h0, h1, h2⟩
    obtain ⟨j, hj, ej⟩ := nI_of2 (x := m) (M := 124) (n := 124) (by decide) h0 (Int32.not_lt.mp h1)
    rw [ej] at h1 h2 ⊢
    exact (sv_b125 j (by omega)).mpr ⟨h1, h2⟩
theorem sv_dirE {o : Int32} : sv_dir o ↔ (o = 14 ∨ o = 15 ∨ o = 16) := by
  constructor
  · rintro ⟨h1, h2⟩
    have e1 : (14 : Int32).toInt = 14 := by decide
    have e2 : (15 : Int32).toInt = 15 := by decide
    have e3 : (16 : Int32).toInt = 16 := by decide
    rw [Int32.lt_iff_toInt_lt] at h1 h2
    rw [← Int32.toInt_inj, ← Int32.toInt_inj, ← Int32.toInt_inj, e1, e2, e3]
    omega
  · rintro (rfl | rfl | rfl) <;> exact ⟨by decide, by decide⟩
section YV
variable {G LC N CU LD JD OU PC ST ES SR : Int32} {lO lA lB lI lb im cd sa la lt mk ds cs ce rg : Nat → Int32} {PO : Int32} {rh : Nat → Int32}
theorem sy_opOf {post : Int32 → Prop} {p : Nat} (hp : p < 128) (h : post (sv_op (im p))) : wpY_opOf post (G, LC, N, CU, ST, LD, PO, ES, SR, lO, lA, lB, lI, lb, im, ce, rh) (nI p) := by
  have ep : (nI p).toNatClampNeg = p := nI_clamp (by omega)
  refine And.intro (vp_in_nI hp (by omega)) ?_
  rw [ep]; exact h
theorem sy_aOf {post : Int32 → Prop} {p : Nat} (hp : p < 128) (h : post (sv_ra (im p))) : wpY_aOf post (G, LC, N, CU, ST, LD, PO, ES, SR, lO, lA, lB, lI, lb, im, ce, rh) (nI p) := by
  have ep : (nI p).toNatClampNeg = p := nI_clamp (by omega)
  refine And.intro (vp_in_nI hp (by omega)) ?_
  rw [ep]; exact h
theorem sy_immOf {post : Int32 → Prop} {p : Nat} (hp : p < 128) (h : post (sv_mm (im p))) : wpY_immOf post (G, LC, N, CU, ST, LD, PO, ES, SR, lO, lA, lB, lI, lb, im, ce, rh) (nI p) := by
  have ep : (nI p).toNatClampNeg = p := nI_clamp (by omega)
  refine And.intro (vp_in_nI hp (by omega)) ?_
  rw [ep]; exact h
theorem sv_d4 {p : Nat} (hp : p < 128) : nI p / 4 * 4 = nI (p / 4 * 4) := by
  show nI p / nI 4 * nI 4 = _
  rw [pk_div (by omega) (by omega) (by omega), pk_mul]
theorem sv_d44 {p : Nat} (hp : p < 128) : nI p / 4 * 4 + 4 = nI (p / 4 * 4 + 4) := by
  rw [sv_d4 hp]; exact nI_add _ 4
theorem sv_r4 {p : Nat} (hp : p < 128) : nI p - nI p / 4 * 4 = nI (p % 4) := pk_rem (d := 4) (by omega) (by omega) (by omega)
theorem sy_start {post : Int32 → Prop} {p : Nat} (hp : p < 128) (h : post (sv_bi (sv_st im p))) : wpY_isStart post (G, LC, N, CU, ST, LD, PO, ES, SR, lO, lA, lB, lI, lb, im, ce, rh) (nI p) := by
  have key : ∀ d q n, q + d = p → p / 4 * 4 ≤ q → d < n → ∀ x2 : Int32, x2 = nI (if sv_st im q = true then q else q + 1) → wY_isStart_12 post (nI p) G LC N CU ST LD PO ES SR lO lA lB lI lb im ce rh n x2 (nI q) := by
    intro d
    induction d with
    | zero =>
      intro q n e hq hn x2 h2
      obtain ⟨n, rfl⟩ : ∃ m, n = m + 1 := ⟨n - 1, by omega⟩
      obtain rfl : q = p := by omega
      refine br_t (nI_le (Nat.le_refl _) (by omega)) ?_
      cases hs : sv_st im q with
      | true =>
        rw [hs] at h h2
        exact br_t h2 h
      | false =>
        rw [hs] at h h2
        have h2 : x2 = nI (q + 1) := h2
        refine br_f (fun z => ?_) h
        have := (nI_eq (by omega) (by omega)).mp (h2.symm.trans z)
        omega
    | succ d ih =>
      intro q n e hq hn x2 h2
      obtain ⟨n, rfl⟩ : ∃ m, n = m + 1 := ⟨n - 1, by omega⟩
      have m4 : ¬ (q + 1) % 4 = 0 := by omega
      refine br_f (nI_ge (by omega) (by omega)) ?_
      cases hs : sv_st im q with
      | true =>
        rw [hs] at h2
        have h2 : x2 = nI q := h2
        refine br_t h2.symm (sy_opOf (by omega) ?_)
        by_cases o2 : sv_op (im q) = 2
        · refine br_t o2 (nm_r (nI_add q 2) (nm_r (nI_1 q) (ih (q + 1) n (by omega) (by omega) (by omega) _ ?_)))
          rw [sv_stS m4, hs, decide_eq_true o2]; rfl
        · refine br_f o2 (nm_r (nI_1 q) (nm_r (nI_1 q) (ih (q + 1) n (by omega) (by omega) (by omega) _ ?_)))
          rw [sv_stS m4, hs, decide_eq_false o2]; rfl
      | false =>
        rw [hs] at h2
        have h2 : x2 = nI (q + 1) := h2
        refine br_f (fun z => ?_) (nm_r (nI_1 q) (ih (q + 1) n (by omega) (by omega) (by omega) _ ?_))
        · have := (nI_eq (by omega) (by omega)).mp (z.trans h2)
          omega
        · rw [sv_stS m4, hs]; exact h2
  refine And.intro (by decide) (nm_r (sv_d4 hp) (And.intro (by decide) (nm_r (sv_d4 hp) (Exists.intro 5 (key (p % 4) (p / 4 * 4) 5 (sv_pj p) (Nat.le_refl _) (by omega) _ ?_)))))
  rw [if_pos (sv_st4 (by omega))]
theorem sy_il1 {post : Int32 → Prop} {p q n : Nat} (hp : p < 128) (hq : p / 4 * 4 + 4 = q) (h : post 1) : wY_isLastStart_4 post (nI p) G LC N CU ST LD PO ES SR lO lA lB lI lb im ce rh (n + 1) (nI q) := by
  refine And.intro (by decide) (br_t ?_ h)
  rw [sv_d44 hp, ← hq]
  exact nI_le (Nat.le_refl _) (by omega)
theorem sy_il0 {post : Int32 → Prop} {p q n : Nat} (hp : p < 128) (hq : q < p / 4 * 4 + 4) (hs : sv_st im q = true) (h : post 0) : wY_isLastStart_4 post (nI p) G LC N CU ST LD PO ES SR lO lA lB lI lb im ce rh (n + 1) (nI q) := by
  refine And.intro (by decide) (br_f ?_ (sy_start (by omega) ?_))
  · rw [sv_d44 hp]
    exact nI_ge hq (by omega)
  · rw [hs]
    exact br_f (by decide) h
theorem sy_iln {post : Int32 → Prop} {p q n : Nat} (hp : p < 128) (hq : q < p / 4 * 4 + 4) (hs : sv_st im q = false) (h : wY_isLastStart_4 post (nI p) G LC N CU ST LD PO ES SR lO lA lB lI lb im ce rh n (nI (q + 1))) : wY_isLastStart_4 post (nI p) G LC N CU ST LD PO ES SR lO lA lB lI lb im ce rh (n + 1) (nI q) := by
  refine And.intro (by decide) (br_f ?_ (sy_start (by omega) ?_))
  · rw [sv_d44 hp]
    exact nI_ge hq (by omega)
  · rw [hs]
    exact br_t rfl (nm_r (nI_1 q) h)
theorem sy_ils {post : Int32 → Prop} {p : Nat} (hp : p < 128) (hs : sv_st im p = true) (h1 : sv_lz (im p) p → post 1) (h0 : ¬ sv_lz (im p) p → post 0) : wpY_isLastStart post (G, LC, N, CU, ST, LD, PO, ES, SR, lO, lA, lB, lI, lb, im, ce, rh) (nI p) := by
  refine nm_r (nI_1 p) (Exists.intro 4 ?_)
  by_cases o2 : sv_op (im p) = 2
  · have L : sv_lz (im p) p ↔ ¬ (p + 2) / 4 = p / 4 := by unfold sv_lz; rw [if_pos o2]
    by_cases m3 : p % 4 = 3
    · exact sy_il1 hp (by omega) (h1 (L.mpr (by omega)))
    · have s1 : sv_st im (p + 1) = false := by rw [sv_stS (by omega), hs, decide_eq_true o2]; rfl
      refine sy_iln hp (by omega) s1 ?_
      by_cases m2 : p % 4 = 2
      · exact sy_il1 hp (by omega) (h1 (L.mpr (by omega)))
      · exact sy_il0 hp (by omega) (by rw [sv_stS (by omega), s1]; rfl) (h0 (fun z => L.mp z (by omega)))
  · have L : sv_lz (im p) p ↔ ¬ (p + 1) / 4 = p / 4 := by unfold sv_lz; rw [if_neg o2]
    by_cases m3 : p % 4 = 3
    · exact sy_il1 hp (by omega) (h1 (L.mpr (by omega)))
    · have s1 : sv_st im (p + 1) = true := by rw [sv_stS (by omega), hs, decide_eq_false o2]; rfl
      exact sy_il0 hp (by omega) s1 (h0 (fun z => L.mp z (by omega)))
theorem sy_writer {post : Int32 → Prop} {p j k : Nat} {x : Int32} (hp : p < 128) (hj : p / 4 * 4 + j ≤ 128) (hk : 1 ≤ k ∧ k < 4) (h : post (sv_wf im x (p / 4 * 4) j k)) : wpY_writer post (G, LC, N, CU, ST, LD, PO, ES, SR, lO, lA, lB, lI, lb, im, ce, rh) x (nI p) (nI (p / 4 * 4 + j)) (nI k) := by
  have key : ∀ j k' n f, p / 4 * 4 + j ≤ 128 → j < n → f + k' = k → 1 ≤ k' → post (sv_wf im x (p / 4 * 4) j k') → ∀ x6 : Int32, x6.toInt = ((p / 4 * 4 + j : Nat) : Int) - 1 → wY_writer_8 post x (nI p) (nI k) G LC N CU ST LD PO ES SR lO lA lB lI lb im ce rh n (nI f) x6 := by
    intro j
    induction j with
    | zero =>
      intro k' n f hj hn hf h1 h x6 h6
      obtain ⟨n, rfl⟩ : ∃ m, n = m + 1 := ⟨n - 1, by omega⟩
      refine And.intro (by decide) (br_t ?_ h)
      rw [sv_d4 hp, Int32.lt_iff_toInt_lt, h6, nI_toInt (by omega)]
      omega
    | succ j ih =>
      intro k' n f hj hn hf h1 h x6 h6
      obtain ⟨n, rfl⟩ : ∃ m, n = m + 1 := ⟨n - 1, by omega⟩
      obtain rfl : x6 = nI (p / 4 * 4 + j) := by
        apply Int32.toInt_inj.mp
        rw [h6, nI_toInt (by omega)]; omega
      have again : ∀ (k2 f2 : Nat), f2 + k2 = k → 1 ≤ k2 → post (sv_wf im x (p / 4 * 4) j k2) → wY_writer_8 post x (nI p) (nI k) G LC N CU ST LD PO ES SR lO lA lB lI lb im ce rh n (nI f2) (nI (p / 4 * 4 + j) + (-1)) :=
        fun k2 f2 a b g => ih k2 n f2 (by omega) (by omega) a b g _ (sv_m1t _ (by omega))
      have no : ¬ sv_wr im x (p / 4 * 4 + j) = true → wY_writer_8 post x (nI p) (nI k) G LC N CU ST LD PO ES SR lO lA lB lI lb im ce rh n (nI f) (nI (p / 4 * 4 + j) + (-1)) := by
        intro hn
        rw [sv_wf, if_neg hn] at h
        exact again k' f hf h1 h
      refine And.intro (by decide) (br_f ?_ (sy_start (by omega) ?_))
      · rw [sv_d4 hp]
        exact nI_nlt (by omega) (by omega)
      · by_cases s1 : sv_st im (p / 4 * 4 + j) = true
        · refine br_f (by rw [s1]; decide) (sy_opOf (by omega) ?_)
          refine br_c (fun o2 => nm_e (no ?_)) (fun o2 => sy_opOf (by omega) (br_c (fun o12 => nm_e (no ?_)) (fun o12 => sy_aOf (by omega) (br_c (fun ea => ?_) (fun ea => nm_e (no ?_))))))
          · unfold sv_wr sv_ww; rw [decide_eq_true o2]; simp
          · unfold sv_wr sv_ww; rw [decide_eq_true o12]; simp
          · have hy : sv_wr im x (p / 4 * 4 + j) = true := by
              unfold sv_wr sv_ww; rw [s1, decide_eq_false o2, decide_eq_false o12, decide_eq_true ea]; rfl
            rw [sv_wf, if_pos hy] at h
            refine nm_r (nI_1 f) ?_
            by_cases e1 : k' = 1
            · rw [if_pos e1] at h
              exact br_t (by rw [show f + 1 = k by omega]) h
            · rw [if_neg e1] at h
              exact br_f (fun z => e1 (by have := (nI_eq (by omega) (by omega)).mp z; omega)) (nm_e (again (k' - 1) (f + 1) (by omega) (by omega) h))
          · unfold sv_wr; rw [decide_eq_false ea]; simp
        · exact br_t (by rw [show sv_st im (p / 4 * 4 + j) = false by cases hh : sv_st im (p / 4 * 4 + j) <;> simp_all]; rfl) (nm_e (no (by unfold sv_wr; intro z; rw [Bool.and_eq_true] at z; exact s1 z.1)))
  refine nm_r (e' := nI (p / 4 * 4 + j) + (-1)) (Int32.sub_eq_add_neg _ _) (Exists.intro (j + 1) (key j k (j + 1) 0 hj (by omega) (by omega) hk.1 h _ (sv_m1t _ (by omega))))
end YV
end
section
section YW
variable {G LC N CU LD JD OU PC ST ES SR : Int32} {lO lA lB lI lb im cd sa la lt mk ds cs ce rg : Nat → Int32} {PO : Int32} {rh : Nat → Int32}
variable {post : Int32 → Prop} {p : Nat}
theorem sy_ds {x : Int32} {j : Nat} (hp : p < 128) (hj : p / 4 * 4 + j ≤ 128) (h : post (sv_bi (sv_ds im G x (p / 4 * 4) j))) : wpY_dataSafe post (G, LC, N, CU, ST, LD, PO, ES, SR, lO, lA, lB, lI, lb, im, ce, rh) x (nI p) (nI (p / 4 * 4 + j)) := by
  unfold wpY_dataSafe
  refine sy_writer (k := 1) hp hj (by omega) (sy_writer (k := 2) hp hj (by omega) ?_)
  rcases sv_wA im G x (p / 4 * 4) j with ⟨h1, h2, h3, h4, h5⟩ | ⟨q, g1, g2, g3, g4, g5, g6⟩
  · rw [h5] at h
    rw [h1]
    refine br_f (by decide) (br_c (fun e => ?_) (fun e => ?_))
    · rwa [decide_eq_true e] at h
    · rwa [decide_eq_false e] at h
  · rw [g3]
    refine br_t (nI_pos' (by omega)) ?_
    rcases g6 with ⟨k1, k2⟩ | ⟨q2, k1, k2, k3, k4⟩
    · rw [k1]
      rw [k2] at h
      exact br_t (by decide) h
    · rw [k3]
      rw [k4] at h
      have no : ∀ b, b = false → sv_ma G (im q2) = b → post 0 := by
        intro b hb e
        rw [e, hb, Bool.and_false, Bool.and_false] at h
        exact h
      refine br_f (nI_pos (by omega)) (sy_opOf (by omega) (br_c (fun e1 => sy_immOf (by omega) (br_c (fun e2 => sy_opOf (by omega) (br_c (fun e3 => sy_immOf (by omega) (br_c (fun e4 => ?_) (fun e4 => sy_immOf (by omega) (br_c (fun e5 => ?_) (fun e5 => ?_))))) (fun e3 => ?_))) (fun e2 => ?_))) (fun e1 => ?_)))
      · exact no _ rfl (by unfold sv_ma; rw [decide_eq_true e4]; simp)
      · exact no _ rfl (by unfold sv_ma; rw [decide_eq_true e5]; simp)
      · rw [decide_eq_true e1, decide_eq_true e2, show sv_ma G (im q2) = true from by unfold sv_ma; rw [decide_eq_true e3, decide_eq_false e4, decide_eq_false e5]; rfl] at h
        exact h
      · exact no _ rfl (by unfold sv_ma; rw [decide_eq_false e3]; rfl)
      · rw [decide_eq_false e2, Bool.false_and, Bool.and_false] at h
        exact h
      · rw [decide_eq_false e1, Bool.false_and] at h
        exact h
theorem sy_iib (hp : p < 128) (h1 : sv_ba (sv_mm (im p)) = true → post 1) (h0 : sv_ba (sv_mm (im p)) = false → post 0) : wpY_immIsBundle post (G, LC, N, CU, ST, LD, PO, ES, SR, lO, lA, lB, lI, lb, im, ce, rh) (nI p) := by
  have h0 : ¬ (¬ sv_mm (im p) < 0 ∧ ¬ 124 < sv_mm (im p) ∧ sv_mm (im p) - sv_mm (im p) / 4 * 4 = 0) → post 0 := fun z => h0 (decide_eq_false (fun y => z ((sv_bun _).mp y)))
  unfold wpY_immIsBundle
  refine sy_immOf hp (br_c (fun e1 => h0 fun q => q.1 e1) (fun e1 => sy_immOf hp (br_c (fun e2 => h0 fun q => q.2.1 e2) (fun e2 => sy_immOf hp (And.intro (by decide) (br_c (fun e3 => h1 (decide_eq_true ((sv_bun _).mpr ⟨e1, e2, e3⟩))) (fun e3 => h0 fun q => e3 q.2.2)))))))
theorem sy_cs {x : Int32} (hp : p < 128) (h : post (sv_bi (sv_cs im x (p / 4 * 4) (p % 4)))) : wpY_codeSafe post (G, LC, N, CU, ST, LD, PO, ES, SR, lO, lA, lB, lI, lb, im, ce, rh) x (nI p) := by
  have ep := sv_pj p
  have hw : wpY_writer (fun r_1 => (((r_1 < 0 → (post 0)) ∧ (¬ r_1 < 0 → (wpY_opOf (fun r_20 => (((r_20 = 9 → (wpY_immOf (fun r_39 => (wpY_bundleAddress (fun r_57 => (((r_57 = 0 → (post 0)) ∧ (¬ r_57 = 0 → (post 1))))) (G, LC, N, CU, ST, LD, PO, ES, SR, lO, lA, lB, lI, lb, im, ce, rh) (r_39 + (0 * x)) r_1)) (G, LC, N, CU, ST, LD, PO, ES, SR, lO, lA, lB, lI, lb, im, ce, rh) r_1)) ∧ (¬ r_20 = 9 → (post 0))))) (G, LC, N, CU, ST, LD, PO, ES, SR, lO, lA, lB, lI, lb, im, ce, rh) r_1))))) (G, LC, N, CU, ST, LD, PO, ES, SR, lO, lA, lB, lI, lb, im, ce, rh) x (nI p) (nI (p / 4 * 4 + p % 4)) (nI 1) := by
    refine sy_writer hp (by omega) (by omega) ?_
    rcases sv_wA im G x (p / 4 * 4) (p % 4) with ⟨h1, h2, h3, h4, h5⟩ | ⟨q, g1, g2, g3, g4, g5, g6⟩
    · rw [h1]
      rw [h4] at h
      exact br_t (by decide) h
    · rw [g3]
      rw [g5] at h
      refine br_f (nI_pos (by omega)) (sy_opOf (by omega) (br_c (fun e1 => sy_immOf (by omega) ?_) (fun e1 => ?_)))
      · rw [Int32.zero_mul, Int32.add_zero]
        rw [decide_eq_true e1, Bool.true_and] at h
        have h0 : ¬ (¬ sv_mm (im q) < 0 ∧ ¬ 124 < sv_mm (im q) ∧ sv_mm (im q) - sv_mm (im q) / 4 * 4 = 0) → post 0 := fun z => by
          rwa [show sv_ba (sv_mm (im q)) = false from decide_eq_false (fun y => z ((sv_bun _).mp y))] at h
        refine br_c (fun e1 => br_t rfl (h0 fun q => q.1 e1)) (fun e1 => br_c (fun e2 => br_t rfl (h0 fun q => q.2.1 e2)) (fun e2 => And.intro (by decide) (br_c (fun e3 => br_f sv_10 ?_) (fun e3 => br_t rfl (h0 fun q => e3 q.2.2)))))
        rwa [show sv_ba (sv_mm (im q)) = true from decide_eq_true ((sv_bun _).mpr ⟨e1, e2, e3⟩)] at h
      · rw [decide_eq_false e1, Bool.false_and] at h
        exact h
  rw [ep] at hw
  unfold wpY_codeSafe
  exact hw
/-- the two answers of 'has it the fault f' -/
theorem sy_hf {f : Int32} (hp : p < 128) (hs : sv_st im p = true) (h : ∀ x5 z0 : Int32, ((x5 = 1 ∧ sv_dir (sv_op (im p))) ∨ (x5 = 0 ∧ ¬ sv_dir (sv_op (im p)))) → ((z0 = 1 ∧ sv_of (im p) p) ∨ (z0 = 0 ∧ ¬ sv_of (im p) p)) → wY_hasFault_67 post (nI p) f (sv_op (im p)) (sv_ra (im p)) x5 z0 G LC N CU ST LD PO ES SR lO lA lB lI lb im ce rh) : wpY_hasFault post (G, LC, N, CU, ST, LD, PO, ES, SR, lO, lA, lB, lI, lb, im, ce, rh) (nI p) f := by
  have h36 : ∀ x5 : Int32, ((x5 = 1 ∧ sv_dir (sv_op (im p))) ∨ (x5 = 0 ∧ ¬ sv_dir (sv_op (im p)))) → wY_hasFault_36 post (nI p) f (sv_op (im p)) (sv_ra (im p)) x5 G LC N CU ST LD PO ES SR lO lA lB lI lb im ce rh := by
    intro x5 h5
    have off : ¬ sv_of (im p) p → wY_hasFault_66 post (nI p) f (sv_op (im p)) (sv_ra (im p)) x5 G LC N CU ST LD PO ES SR lO lA lB lI lb im ce rh := fun z => h x5 0 h5 (Or.inr ⟨rfl, z⟩)
    unfold wY_hasFault_36
    refine sy_ils hp hs (fun hl => br_f sv_10 (br_c (fun e => off fun q => q.2.1 e) (fun e1 => br_c (fun e => off fun q => q.2.2.1 e) (fun e2 => br_c (fun e => off fun q => q.2.2.2 e) (fun e3 => h x5 1 h5 (Or.inl ⟨rfl, hl, e1, e2, e3⟩)))))) (fun hl => br_t rfl (off fun q => hl q.1))
  unfold wpY_hasFault
  refine sy_opOf hp (sy_aOf hp (br_c (fun e => ?_) (fun e1 => br_c (fun e => ?_) (fun e2 => br_c (fun e => ?_) (fun e3 => ?_)))))
  · exact h36 1 (Or.inl ⟨rfl, sv_dirE.mpr (Or.inl e)⟩)
  · exact h36 1 (Or.inl ⟨rfl, sv_dirE.mpr (Or.inr (Or.inl e))⟩)
  · exact h36 1 (Or.inl ⟨rfl, sv_dirE.mpr (Or.inr (Or.inr e))⟩)
  · exact h36 0 (Or.inr ⟨rfl, fun z => (sv_dirE.mp z).elim e1 (fun z => z.elim e2 e3)⟩)
theorem sy_hf1 (hp : p < 128) (hs : sv_st im p = true) (h1 : ¬ sv_op (im p) ≤ 17 → post 1) (h0 : sv_op (im p) ≤ 17 → post 0) : wpY_hasFault post (G, LC, N, CU, ST, LD, PO, ES, SR, lO, lA, lB, lI, lb, im, ce, rh) (nI p) 1 :=
  sy_hf hp hs (fun x5 z0 h5 hz => br_t rfl (br_c h0 h1))
theorem sy_hf2 (hp : p < 128) (hs : sv_st im p = true) (h1 : sv_F2 (im p) p → post 1) (h0 : ¬ sv_F2 (im p) p → post 0) : wpY_hasFault post (G, LC, N, CU, ST, LD, PO, ES, SR, lO, lA, lB, lI, lb, im, ce, rh) (nI p) 2 := by
  refine sy_hf hp hs (fun x5 z0 h5 hz => br_f (by decide) (br_t rfl (br_c (fun e1 => And.intro (by decide) (br_c (fun e2 => h1 ⟨e1, ?_⟩) (fun e2 => h0 fun q => e2 ?_))) (fun e1 => h0 fun q => e1 q.1))))
  · rw [sv_r4 hp] at e2
    exact (nI_eq (b := 3) (by omega) (by omega)).mp e2
  · rw [sv_r4 hp, q.2]; rfl
theorem sy_hf3 (hp : p < 128) (hs : sv_st im p = true) (h1 : sv_F3 (im p) → post 1) (h0 : ¬ sv_F3 (im p) → post 0) : wpY_hasFault post (G, LC, N, CU, ST, LD, PO, ES, SR, lO, lA, lB, lI, lb, im, ce, rh) (nI p) 3 := by
  refine sy_hf hp hs (fun x5 z0 h5 hz => br_f (by decide) (br_f (by decide) (br_t rfl ?_)))
  rcases h5 with ⟨rfl, hd⟩ | ⟨rfl, hd⟩
  · exact br_f sv_10 (sy_iib hp (fun e => br_f sv_10 (h0 fun q => absurd (e.symm.trans q.2) (by decide))) (fun e => br_t rfl (h1 ⟨hd, e⟩)))
  · exact br_t rfl (h0 fun q => hd q.1)
theorem sy_hf4 (hp : p < 128) (hs : sv_st im p = true) (h1 : sv_F4 im p → post 1) (h0 : ¬ sv_F4 im p → post 0) : wpY_hasFault post (G, LC, N, CU, ST, LD, PO, ES, SR, lO, lA, lB, lI, lb, im, ce, rh) (nI p) 4 := by
  refine sy_hf hp hs (fun x5 z0 h5 hz => br_f (by decide) (br_f (by decide) (br_f (by decide) (br_t rfl (br_c (fun e => sy_cs hp ?_) (fun e => h0 fun q => e q.1))))))
  cases hd : sv_cs im (sv_ra (im p)) (p / 4 * 4) (p % 4) with
  | false => exact br_t rfl (h1 ⟨e, hd⟩)
  | true => exact br_f (by decide) (h0 fun q => absurd (hd.symm.trans q.2) (by decide))
theorem sy_ds0 {x : Int32} (hp : p < 128) (h : post (sv_bi (sv_ds im G x (p / 4 * 4) (p % 4)))) : wpY_dataSafe post (G, LC, N, CU, ST, LD, PO, ES, SR, lO, lA, lB, lI, lb, im, ce, rh) x (nI p) (nI p) := by
  have := sy_ds (post := post) (G := G) (LC := LC) (N := N) (CU := CU) (ST := ST) (LD := LD) (PO := PO) (ES := ES) (SR := SR) (lO := lO) (lA := lA) (lB := lB) (lI := lI) (lb := lb) (im := im) (ce := ce) (rh := rh) (x := x) (j := p % 4) hp (by omega) h
  rwa [sv_pj] at this
theorem sy_ds1 {x : Int32} (hp : p < 128) (h : post (sv_bi (sv_ds im G x (p / 4 * 4) (p % 4 + 1)))) : wpY_dataSafe post (G, LC, N, CU, ST, LD, PO, ES, SR, lO, lA, lB, lI, lb, im, ce, rh) x (nI p) (nI p + 1) := by
  have := sy_ds (post := post) (G := G) (LC := LC) (N := N) (CU := CU) (ST := ST) (LD := LD) (PO := PO) (ES := ES) (SR := SR) (lO := lO) (lA := lA) (lB := lB) (lI := lI) (lb := lb) (im := im) (ce := ce) (rh := rh) (x := x) (j := p % 4 + 1) hp (by omega) h
  rwa [← Nat.add_assoc, sv_pj, ← nI_1] at this
theorem sy_hf5 (hp : p < 128) (hs : sv_st im p = true) (h1 : sv_F5 im G p → post 1) (h0 : ¬ sv_F5 im G p → post 0) : wpY_hasFault post (G, LC, N, CU, ST, LD, PO, ES, SR, lO, lA, lB, lI, lb, im, ce, rh) (nI p) 5 := by
  refine sy_hf hp hs (fun x5 z0 h5 hz => br_f (by decide) (br_f (by decide) (br_f (by decide) (br_f (by decide) (br_t rfl (br_c (fun e => sy_ds0 hp ?_) (fun e => h0 fun q => e q.1)))))))
  cases hd : sv_ds im G (sv_ra (im p)) (p / 4 * 4) (p % 4) with
  | false => exact br_t rfl (h1 ⟨e, hd⟩)
  | true => exact br_f (by decide) (h0 fun q => absurd (hd.symm.trans q.2) (by decide))
theorem sy_hf6 (hp : p < 128) (hs : sv_st im p = true) (h17 : sv_op (im p) ≤ 17) (h1 : sv_F6 im G p → post 1) (h0 : ¬ sv_F6 im G p → post 0) : wpY_hasFault post (G, LC, N, CU, ST, LD, PO, ES, SR, lO, lA, lB, lI, lb, im, ce, rh) (nI p) 6 := by
  refine sy_hf hp hs (fun x5 z0 h5 hz => br_f (by decide) (br_f (by decide) (br_f (by decide) (br_f (by decide) (br_f (by decide) (br_t rfl ?_))))))
  have b216 : ¬ (¬ sv_op (im p) < 14 ∧ sv_ds im G 7 (p / 4 * 4) (p % 4) = false) → wY_hasFault_216 post (nI p) z0 G LC N CU ST LD PO ES SR lO lA lB lI lb im ce rh := by
    intro hn
    rcases hz with ⟨rfl, ho⟩ | ⟨rfl, ho⟩
    · refine br_f sv_10 (sy_ds1 hp ?_)
      cases hd : sv_ds im G 7 (p / 4 * 4) (p % 4 + 1) with
      | false => exact br_t rfl (h1 (Or.inr ⟨ho, hd⟩))
      | true => exact br_f (by decide) (h0 fun q => q.elim hn (fun z => absurd (hd.symm.trans z.2) (by decide)))
    · exact br_t rfl (h0 fun q => q.elim hn (fun z => ho z.1))
  have b205 : ¬ sv_op (im p) < 14 → wY_hasFault_205 post (nI p) z0 G LC N CU ST LD PO ES SR lO lA lB lI lb im ce rh := by
    intro h14
    unfold wY_hasFault_205
    refine sy_ds0 hp ?_
    cases hd : sv_ds im G 7 (p / 4 * 4) (p % 4) with
    | false => exact br_t rfl (h1 (Or.inl ⟨h14, hd⟩))
    | true => exact br_f (by decide) (b216 fun z => absurd (hd.symm.trans z.2) (by decide))
  rcases h5 with ⟨rfl, hd⟩ | ⟨rfl, hd⟩
  · exact br_f sv_10 (b205 hd.1)
  · refine br_t rfl (br_c (fun e => b205 (by rw [e]; decide)) (fun e => b216 fun q => hd ⟨q.1, fun z => e ?_⟩))
    have e1 : (17 : Int32).toInt = 17 := by decide
    have e2 : (16 : Int32).toInt = 16 := by decide
    rw [Int32.lt_iff_toInt_lt, e2] at z
    rw [Int32.le_iff_toInt_le, e1] at h17
    rw [← Int32.toInt_inj, e1]
    omega
theorem sy_hf7 (hp : p < 128) (hs : sv_st im p = true) (h1 : sv_F7 (im p) p → post 1) (h0 : ¬ sv_F7 (im p) p → post 0) : wpY_hasFault post (G, LC, N, CU, ST, LD, PO, ES, SR, lO, lA, lB, lI, lb, im, ce, rh) (nI p) 7 := by
  refine sy_hf hp hs (fun x5 z0 h5 hz => br_f (by decide) (br_f (by decide) (br_f (by decide) (br_f (by decide) (br_f (by decide) (br_f (by decide) ?_))))))
  rcases hz with ⟨rfl, ho⟩ | ⟨rfl, ho⟩
  · exact br_f sv_10 (pk_lt p 124 (fun z => h0 fun q => absurd q.2 (by omega)) (fun z => h1 ⟨ho, z⟩))
  · exact br_t rfl (h0 fun q => ho q.1)
/-! the loop over the faults -/
section YL
variable {J : Int32 → Prop}
theorem sy_v8 {n : Nat} (h : J (nI (p + 1))) : wY_verdict_30 post J (nI p) G LC N CU ST LD PO ES SR lO lA lB lI lb im ce rh (n + 1) 8 := br_t (by decide) (nm_r (nI_1 p) h)
theorem sy_v7 {n : Nat} (hp : p < 128) (hs : sv_st im p = true) (h0 : sv_f7 im p = 0 → J (nI (p + 1))) (h1 : ¬ sv_f7 im p = 0 → post (8 * nI p + sv_f7 im p)) : wY_verdict_30 post J (nI p) G LC N CU ST LD PO ES SR lO lA lB lI lb im ce rh (n + 2) 7 := by
  refine br_f (by decide) (sy_start hp ?_)
  rw [hs]
  refine br_f (by decide) (sy_hf7 hp hs (fun hF => br_f sv_10 ?_) (fun hF => br_t rfl (nm_r (e' := 8) (by decide) (sy_v8 (h0 (sv_iff hF))))))
  have e : sv_f7 im p = 7 := sv_ift hF
  rw [e] at h1
  exact h1 (by decide)
theorem sy_v6 {n : Nat} (hp : p < 128) (hs : sv_st im p = true) (h17 : sv_op (im p) ≤ 17) (h0 : sv_f6 im G p = 0 → J (nI (p + 1))) (h1 : ¬ sv_f6 im G p = 0 → post (8 * nI p + sv_f6 im G p)) : wY_verdict_30 post J (nI p) G LC N CU ST LD PO ES SR lO lA lB lI lb im ce rh (n + 3) 6 := by
  refine br_f (by decide) (sy_start hp ?_)
  rw [hs]
  refine br_f (by decide) (sy_hf6 hp hs h17 (fun hF => br_f sv_10 ?_) (fun hF => br_t rfl (nm_r (e' := 7) (by decide) ?_)))
  · have e : sv_f6 im G p = 6 := sv_ift hF
    rw [e] at h1
    exact h1 (by decide)
  · have e : sv_f6 im G p = sv_f7 im p := sv_iff hF
    rw [e] at h0 h1
    exact sy_v7 hp hs h0 h1
theorem sy_v5 {n : Nat} (hp : p < 128) (hs : sv_st im p = true) (h17 : sv_op (im p) ≤ 17) (h0 : sv_f5 im G p = 0 → J (nI (p + 1))) (h1 : ¬ sv_f5 im G p = 0 → post (8 * nI p + sv_f5 im G p)) : wY_verdict_30 post J (nI p) G LC N CU ST LD PO ES SR lO lA lB lI lb im ce rh (n + 4) 5 := by
  refine br_f (by decide) (sy_start hp ?_)
  rw [hs]
  refine br_f (by decide) (sy_hf5 hp hs (fun hF => br_f sv_10 ?_) (fun hF => br_t rfl (nm_r (e' := 6) (by decide) ?_)))
  · have e : sv_f5 im G p = 5 := sv_ift hF
    rw [e] at h1
    exact h1 (by decide)
  · have e : sv_f5 im G p = sv_f6 im G p := sv_iff hF
    rw [e] at h0 h1
    exact sy_v6 hp hs h17 h0 h1
theorem sy_v4 {n : Nat} (hp : p < 128) (hs : sv_st im p = true) (h17 : sv_op (im p) ≤ 17) (h0 : sv_f4 im G p = 0 → J (nI (p + 1))) (h1 : ¬ sv_f4 im G p = 0 → post (8 * nI p + sv_f4 im G p)) : wY_verdict_30 post J (nI p) G LC N CU ST LD PO ES SR lO lA lB lI lb im ce rh (n + 5) 4 := by
  refine br_f (by decide) (sy_start hp ?_)
  rw [hs]
  refine br_f (by decide) (sy_hf4 hp hs (fun hF => br_f sv_10 ?_) (fun hF => br_t rfl (nm_r (e' := 5) (by decide) ?_)))
  · have e : sv_f4 im G p = 4 := sv_ift hF
    rw [e] at h1
    exact h1 (by decide)
  · have e : sv_f4 im G p = sv_f5 im G p := sv_iff hF
    rw [e] at h0 h1
    exact sy_v5 hp hs h17 h0 h1
theorem sy_v3 {n : Nat} (hp : p < 128) (hs : sv_st im p = true) (h17 : sv_op (im p) ≤ 17) (h0 : sv_f3 im G p = 0 → J (nI (p + 1))) (h1 : ¬ sv_f3 im G p = 0 → post (8 * nI p + sv_f3 im G p)) : wY_verdict_30 post J (nI p) G LC N CU ST LD PO ES SR lO lA lB lI lb im ce rh (n + 6) 3 := by
  refine br_f (by decide) (sy_start hp ?_)
  rw [hs]
  refine br_f (by decide) (sy_hf3 hp hs (fun hF => br_f sv_10 ?_) (fun hF => br_t rfl (nm_r (e' := 4) (by decide) ?_)))
  · have e : sv_f3 im G p = 3 := sv_ift hF
    rw [e] at h1
    exact h1 (by decide)
  · have e : sv_f3 im G p = sv_f4 im G p := sv_iff hF
    rw [e] at h0 h1
    exact sy_v4 hp hs h17 h0 h1
theorem sy_v2 {n : Nat} (hp : p < 128) (hs : sv_st im p = true) (h17 : sv_op (im p) ≤ 17) (h0 : sv_f2 im G p = 0 → J (nI (p + 1))) (h1 : ¬ sv_f2 im G p = 0 → post (8 * nI p + sv_f2 im G p)) : wY_verdict_30 post J (nI p) G LC N CU ST LD PO ES SR lO lA lB lI lb im ce rh (n + 7) 2 := by
  refine br_f (by decide) (sy_start hp ?_)
  rw [hs]
  refine br_f (by decide) (sy_hf2 hp hs (fun hF => br_f sv_10 ?_) (fun hF => br_t rfl (nm_r (e' := 3) (by decide) ?_)))
  · have e : sv_f2 im G p = 2 := sv_ift hF
    rw [e] at h1
    exact h1 (by decide)
  · have e : sv_f2 im G p = sv_f3 im G p := sv_iff hF
    rw [e] at h0 h1
    exact sy_v3 hp hs h17 h0 h1
theorem sy_v1 {n : Nat} (hp : p < 128) (hs : sv_st im p = true) (h0 : sv_fa im G p = 0 → J (nI (p + 1))) (h1 : ¬ sv_fa im G p = 0 → post (8 * nI p + sv_fa im G p)) : wY_verdict_30 post J (nI p) G LC N CU ST LD PO ES SR lO lA lB lI lb im ce rh (n + 8) 1 := by
  refine br_f (by decide) (sy_start hp ?_)
  rw [hs]
  refine br_f (by decide) (sy_hf1 hp hs (fun hF => br_f sv_10 ?_) (fun hF => br_t rfl (nm_r (e' := 2) (by decide) ?_)))
  · have e : sv_fa im G p = 1 := sv_ift hF
    rw [e] at h1
    exact h1 (by decide)
  · have e : sv_fa im G p = sv_f2 im G p := sv_iff (fun z => z hF)
    rw [e] at h0 h1
    exact sy_v2 hp hs hF h0 h1
theorem sy_vn {d : Nat} (hp : p < 128) (hs : sv_st im p = false) (h : J (nI (p + 1))) : ∀ k, k + d = 8 → wY_verdict_30 post J (nI p) G LC N CU ST LD PO ES SR lO lA lB lI lb im ce rh (d + 1) (nI k) := by
  induction d with
  | zero =>
    intro k e
    obtain rfl : k = 8 := by omega
    exact sy_v8 h
  | succ d ih =>
    intro k e
    refine br_f (nI_nlt (a := 7) (by omega) (by omega)) (sy_start hp ?_)
    rw [hs]
    exact br_t rfl (nm_r (nI_1 k) (ih (k + 1) (by omega)))
end YL
theorem sy_verdict (hS : ¬ ST = 0) (hL : ¬ LD = 0) (h : post (sv_vd im G 128)) : wpY_verdict post (G, LC, N, CU, ST, LD, PO, ES, SR, lO, lA, lB, lI, lb, im, ce, rh) := by
  have key : ∀ d k n, k + d = 128 → d < n → post (sv_vd im G d) → wY_verdict_21 post G LC N CU ST LD PO ES SR lO lA lB lI lb im ce rh n (nI k) := by
    intro d
    induction d with
    | zero =>
      intro k n e hn K
      obtain ⟨n, rfl⟩ : ∃ m, n = m + 1 := ⟨n - 1, by omega⟩
      obtain rfl : k = 128 := by omega
      exact br_t (by decide) K
    | succ d ih =>
      intro k n e hn K
      obtain ⟨n, rfl⟩ : ∃ m, n = m + 1 := ⟨n - 1, by omega⟩
      have ek2 : 127 - d = k := by omega
      rw [sv_vd, ek2] at K
      refine br_f (nI_ge (b := 128) (by omega) (by decide)) (Exists.intro 8 ?_)
      have nx : ¬ (sv_st im k = true ∧ ¬ sv_fa im G k = 0) → wY_verdict_21 post G LC N CU ST LD PO ES SR lO lA lB lI lb im ce rh n (nI (k + 1)) := by
        intro hn
        rw [sv_iff hn] at K
        exact ih (k + 1) n (by omega) (by omega) K
      by_cases s1 : sv_st im k = true
      · refine sy_v1 (n := 0) (by omega) s1 (fun f0 => nx fun q => q.2 f0) (fun f0 => ?_)
        rwa [sv_ift ⟨s1, f0⟩] at K
      · exact sy_vn (d := 7) (by omega) (by cases hh : sv_st im k <;> simp_all) (nx fun q => s1 q.1) 1 rfl
  exact br_f hS (br_f hL (Exists.intro 129 (key 128 0 129 rfl (by omega) h)))
end YW
end
section
/-! one step of the component's machine -/
def sv_cv (o x y m e : Int32) : Int32 := if o = 3 then y else if o = 4 then x + y else if o = 5 then x - y else if o = 6 then x * y else if o = 7 then x &&& y else if o = 8 then x + m else if o = 9 then x &&& m else if o = 10 then x ||| m else if o = 11 then x <<< ((m &&& 31) &&& 31) else e
theorem sv_cv3 (x y m e : Int32) : sv_cv 3 x y m e = y := by
  unfold sv_cv
  rw [if_pos rfl]
theorem sv_cv4 (x y m e : Int32) : sv_cv 4 x y m e = x + y := by
  unfold sv_cv
  rw [if_neg (by decide), if_pos rfl]
theorem sv_cv5 (x y m e : Int32) : sv_cv 5 x y m e = x - y := by
  unfold sv_cv
  rw [if_neg (by decide), if_neg (by decide), if_pos rfl]
theorem sv_cv6 (x y m e : Int32) : sv_cv 6 x y m e = x * y := by
  unfold sv_cv
  rw [if_neg (by decide), if_neg (by decide), if_neg (by decide), if_pos rfl]
theorem sv_cv7 (x y m e : Int32) : sv_cv 7 x y m e = x &&& y := by
  unfold sv_cv
  rw [if_neg (by decide), if_neg (by decide), if_neg (by decide), if_neg (by decide), if_pos rfl]
theorem sv_cv8 (x y m e : Int32) : sv_cv 8 x y m e = x + m := by
  unfold sv_cv
  rw [if_neg (by decide), if_neg (by decide), if_neg (by decide), if_neg (by decide), if_neg (by decide), if_pos rfl]
theorem sv_cv9 (x y m e : Int32) : sv_cv 9 x y m e = x &&& m := by
  unfold sv_cv
  rw [if_neg (by decide), if_neg (by decide), if_neg (by decide), if_neg (by decide), if_neg (by decide), if_neg (by decide), if_pos rfl]
theorem sv_cv10 (x y m e : Int32) : sv_cv 10 x y m e = x ||| m := by
  unfold sv_cv
  rw [if_neg (by decide), if_neg (by decide), if_neg (by decide), if_neg (by decide), if_neg (by decide), if_neg (by decide), if_neg (by decide), if_pos rfl]
theorem sv_cv11 (x y m e : Int32) : sv_cv 11 x y m e = x <<< ((m &&& 31) &&& 31) := by
  unfold sv_cv
  rw [if_neg (by decide), if_neg (by decide), if_neg (by decide), if_neg (by decide), if_neg (by decide), if_neg (by decide), if_neg (by decide), if_neg (by decide), if_pos rfl]
theorem sv_cv12 (x y m e : Int32) : sv_cv 12 x y m e = e := by
  unfold sv_cv
  rw [if_neg (by decide), if_neg (by decide), if_neg (by decide), if_neg (by decide), if_neg (by decide), if_neg (by decide), if_neg (by decide), if_neg (by decide), if_neg (by decide)]
def sv_es (G ES x : Int32) : Int32 := if x < G then ES + 1 else if x < 2 * G then ES else ES + 1
def sv_ss (G ST x : Int32) : Int32 := if x < 0 then 4 else if x < 2 * G then ST else 4
def sv_sc (G : Int32) (ce : Nat → Int32) (x v : Int32) : Nat → Int32 := if x < 0 then ce else if x < 2 * G then upd ce x.toNatClampNeg v else ce
def sv_go (u u' : SX) : Prop := ∀ Q : SX → Prop, Q u' → wpX_step Q u
section XP
variable {G LC N CU LD JD OU PC ST ES SR : Int32} {lO lA lB lI lb im cd sa la lt mk ds cs ce rg : Nat → Int32}
theorem sx_st28 {post : SX → Prop} {x v : Int32} (hG : sv_gk G) (h : post (G, LC, N, CU, LD, JD, OU, PC, sv_ss G ST x, ES, SR, lO, lA, lB, lI, lb, im, cd, sa, la, lt, mk, ds, cs, sv_sc G ce x v, rg)) : wX_store_28 post x v G LC N CU LD JD OU PC ST ES SR lO lA lB lI lb im cd sa la lt mk ds cs ce rg := by
  unfold wX_store_28
  unfold sv_ss sv_sc at h
  by_cases h0 : x < 0
  · rw [if_pos h0, if_pos h0] at h
    exact sx_wo (Or.inl h0) (br_t rfl h)
  · rw [if_neg h0, if_neg h0] at h
    by_cases h1 : x < 2 * G
    · rw [if_pos h1, if_pos h1] at h
      exact sx_wi h0 (Int32.not_le.mpr h1) (br_f sv_10 (And.intro (sv_in64 hG h0 h1) (nm_e h)))
    · rw [if_neg h1, if_neg h1] at h
      exact sx_wo (Or.inr (Int32.not_lt.mp h1)) (br_t rfl h)
theorem sx_store {post : SX → Prop} {x v : Int32} (hG : sv_gk G) (h : post (G, LC, N, CU, LD, JD, OU, PC, sv_ss G ST x, sv_es G ES x, SR, lO, lA, lB, lI, lb, im, cd, sa, la, lt, mk, ds, cs, sv_sc G ce x v, rg)) : wpX_store post (G, LC, N, CU, LD, JD, OU, PC, ST, ES, SR, lO, lA, lB, lI, lb, im, cd, sa, la, lt, mk, ds, cs, ce, rg) x v := by
  unfold sv_es at h
  refine br_c (fun e1 => nm_e (sx_st28 hG ?_)) (fun e1 => br_c (fun e2 => sx_st28 hG ?_) (fun e2 => nm_e (sx_st28 hG ?_)))
  · rwa [if_pos e1] at h
  · rwa [if_neg e1, if_pos e2] at h
  · rwa [if_neg e1, if_neg e2] at h
theorem sx_c3 {post : Int32 → Prop} {x y m : Int32} (h : post (y)) : wpX_compute post (G, LC, N, CU, LD, JD, OU, PC, ST, ES, SR, lO, lA, lB, lI, lb, im, cd, sa, la, lt, mk, ds, cs, ce, rg) 3 x y m := br_f (by decide) (br_f (by decide) (br_t rfl h))
theorem sx_c4 {post : Int32 → Prop} {x y m : Int32} (h : post (x + y)) : wpX_compute post (G, LC, N, CU, LD, JD, OU, PC, ST, ES, SR, lO, lA, lB, lI, lb, im, cd, sa, la, lt, mk, ds, cs, ce, rg) 4 x y m := br_f (by decide) (br_f (by decide) (br_f (by decide) (br_t rfl h)))
theorem sx_c5 {post : Int32 → Prop} {x y m : Int32} (h : post (x - y)) : wpX_compute post (G, LC, N, CU, LD, JD, OU, PC, ST, ES, SR, lO, lA, lB, lI, lb, im, cd, sa, la, lt, mk, ds, cs, ce, rg) 5 x y m := br_f (by decide) (br_f (by decide) (br_f (by decide) (br_f (by decide) (br_t rfl h))))
theorem sx_c6 {post : Int32 → Prop} {x y m : Int32} (h : post (x * y)) : wpX_compute post (G, LC, N, CU, LD, JD, OU, PC, ST, ES, SR, lO, lA, lB, lI, lb, im, cd, sa, la, lt, mk, ds, cs, ce, rg) 6 x y m := br_f (by decide) (br_f (by decide) (br_f (by decide) (br_f (by decide) (br_f (by decide) (br_t rfl h)))))
theorem sx_c7 {post : Int32 → Prop} {x y m : Int32} (h : post (x &&& y)) : wpX_compute post (G, LC, N, CU, LD, JD, OU, PC, ST, ES, SR, lO, lA, lB, lI, lb, im, cd, sa, la, lt, mk, ds, cs, ce, rg) 7 x y m := br_f (by decide) (br_f (by decide) (br_f (by decide) (br_f (by decide) (br_f (by decide) (br_f (by decide) (br_t rfl h))))))
theorem sx_c8 {post : Int32 → Prop} {x y m : Int32} (h : post (x + m)) : wpX_compute post (G, LC, N, CU, LD, JD, OU, PC, ST, ES, SR, lO, lA, lB, lI, lb, im, cd, sa, la, lt, mk, ds, cs, ce, rg) 8 x y m := br_f (by decide) (br_f (by decide) (br_f (by decide) (br_f (by decide) (br_f (by decide) (br_f (by decide) (br_f (by decide) (br_t rfl h)))))))
theorem sx_c9 {post : Int32 → Prop} {x y m : Int32} (h : post (x &&& m)) : wpX_compute post (G, LC, N, CU, LD, JD, OU, PC, ST, ES, SR, lO, lA, lB, lI, lb, im, cd, sa, la, lt, mk, ds, cs, ce, rg) 9 x y m := br_f (by decide) (br_f (by decide) (br_f (by decide) (br_f (by decide) (br_f (by decide) (br_f (by decide) (br_f (by decide) (br_f (by decide) (br_t rfl h))))))))
theorem sx_c10 {post : Int32 → Prop} {x y m : Int32} (h : post (x ||| m)) : wpX_compute post (G, LC, N, CU, LD, JD, OU, PC, ST, ES, SR, lO, lA, lB, lI, lb, im, cd, sa, la, lt, mk, ds, cs, ce, rg) 10 x y m := br_f (by decide) (br_f (by decide) (br_f (by decide) (br_f (by decide) (br_f (by decide) (br_f (by decide) (br_f (by decide) (br_f (by decide) (br_f (by decide) (br_t rfl h)))))))))
theorem sx_c11 {post : Int32 → Prop} {x y m : Int32} (h : post (x <<< ((m &&& 31) &&& 31))) : wpX_compute post (G, LC, N, CU, LD, JD, OU, PC, ST, ES, SR, lO, lA, lB, lI, lb, im, cd, sa, la, lt, mk, ds, cs, ce, rg) 11 x y m := br_f (by decide) (br_f (by decide) (br_f (by decide) (br_f (by decide) (br_f (by decide) (br_f (by decide) (br_f (by decide) (br_f (by decide) (br_f (by decide) (br_f (by decide) (br_t rfl h))))))))))
theorem sx_c12 {post : Int32 → Prop} {x y m : Int32} (hG : sv_gk G) (h : post (sv_me G ce y)) : wpX_compute post (G, LC, N, CU, LD, JD, OU, PC, ST, ES, SR, lO, lA, lB, lI, lb, im, cd, sa, la, lt, mk, ds, cs, ce, rg) 12 x y m := br_f (by decide) (br_t (by decide) (sx_mem hG h))
theorem sx_comp {post : Int32 → Prop} {o x y m : Int32} (ho : o = 3 ∨ o = 4 ∨ o = 5 ∨ o = 6 ∨ o = 7 ∨ o = 8 ∨ o = 9 ∨ o = 10 ∨ o = 11 ∨ o = 12) (hG : sv_gk G) (h : post (sv_cv o x y m (sv_me G ce y))) : wpX_compute post (G, LC, N, CU, LD, JD, OU, PC, ST, ES, SR, lO, lA, lB, lI, lb, im, cd, sa, la, lt, mk, ds, cs, ce, rg) o x y m := by
  rcases ho with rfl | rfl | rfl | rfl | rfl | rfl | rfl | rfl | rfl | rfl
  · rw [sv_cv3] at h; exact sx_c3 h
  · rw [sv_cv4] at h; exact sx_c4 h
  · rw [sv_cv5] at h; exact sx_c5 h
  · rw [sv_cv6] at h; exact sx_c6 h
  · rw [sv_cv7] at h; exact sx_c7 h
  · rw [sv_cv8] at h; exact sx_c8 h
  · rw [sv_cv9] at h; exact sx_c9 h
  · rw [sv_cv10] at h; exact sx_c10 h
  · rw [sv_cv11] at h; exact sx_c11 h
  · rw [sv_cv12] at h; exact sx_c12 hG h
section XQ
variable {p a b : Nat} {w m : Int32}
theorem sx_s_halt (hp : p < 128) (hw : cd p = w) (ho : sv_op w = 0) : sv_go (G, LC, N, CU, LD, JD, OU, nI p, ST, ES, SR, lO, lA, lB, lI, lb, im, cd, sa, la, lt, mk, ds, cs, ce, rg) (G, LC, N, CU, LD, JD, OU, nI p, 3, ES, SR, lO, lA, lB, lI, lb, im, cd, sa, la, lt, mk, ds, cs, ce, rg) := fun Q h => by
  unfold wpX_step
  exact sx_fetch rfl (by omega) (sv_ftp hp hw) (nm_r (e' := 0) ho (nm_e (nm_e (nm_e (br_t (by decide) (br_t rfl h))))))
theorem sx_s_trap (hp : p < 128) (hw : cd p = w) (ho : ¬ sv_op w ≤ 17) : sv_go (G, LC, N, CU, LD, JD, OU, nI p, ST, ES, SR, lO, lA, lB, lI, lb, im, cd, sa, la, lt, mk, ds, cs, ce, rg) (G, LC, N, CU, LD, JD, OU, nI p, 4, ES, SR, lO, lA, lB, lI, lb, im, cd, sa, la, lt, mk, ds, cs, ce, rg) := fun Q h => by
  unfold wpX_step
  exact sx_fetch rfl (by omega) (sv_ftp hp hw) (nm_e (nm_e (nm_e (nm_e (br_f ho h)))))
theorem sx_s_nop (hp : p < 128) (hw : cd p = w) (ho : sv_op w = 1) : sv_go (G, LC, N, CU, LD, JD, OU, nI p, ST, ES, SR, lO, lA, lB, lI, lb, im, cd, sa, la, lt, mk, ds, cs, ce, rg) (G, LC, N, CU, LD, JD, OU, nI (p + 1), ST, ES, SR, lO, lA, lB, lI, lb, im, cd, sa, la, lt, mk, ds, cs, ce, rg) := fun Q h => by
  unfold wpX_step
  exact sx_fetch rfl (by omega) (sv_ftp hp hw) (nm_r (e' := 1) ho (nm_e (nm_e (nm_e (br_t (by decide) (br_f (by decide) (br_t (by decide) (br_f (by decide) (br_f (by decide) (sx_wrt0 (Or.inl (by decide)) (br_t rfl (nm_r (nI_1 p) h))))))))))))
theorem sx_s_li (hp : p < 128) (hw : cd p = w) (ho : sv_op w = 2) (ha : a < 8) (ea : sv_ra w = nI a) : sv_go (G, LC, N, CU, LD, JD, OU, nI p, ST, ES, SR, lO, lA, lB, lI, lb, im, cd, sa, la, lt, mk, ds, cs, ce, rg) (G, LC, N, CU, LD, JD, OU, nI (p + 2), ST, ES, SR, lO, lA, lB, lI, lb, im, cd, sa, la, lt, mk, ds, cs, ce, upd rg a (sv_ft cd (p + 1))) := fun Q h => by
  have v : vp_in (nI a) 8 := vp_in_nI ha (by omega)
  have eq : (nI a).toNatClampNeg = a := nI_clamp (by omega)
  unfold wpX_step
  exact sx_fetch rfl (by omega) (sv_ftp hp hw) (nm_r (e' := 2) ho (nm_r (e' := nI a) ea (nm_e (nm_e (br_t (by decide) (br_f (by decide) (br_t (by decide) (br_t rfl (sx_fetch (p := p + 1) (nI_1 p) (by omega) rfl (And.intro v (nm_r (e' := upd rg a (sv_ft cd (p + 1))) (by rw [eq]) (nm_r (nI_add p 2) h))))))))))))
theorem sx_s_st (hG : sv_gk G) (hp : p < 128) (hw : cd p = w) (ho : sv_op w = 13) (ha : a < 8) (ea : sv_ra w = nI a) (hb : b < 8) (eb : sv_rb w = nI b) : sv_go (G, LC, N, CU, LD, JD, OU, nI p, ST, ES, SR, lO, lA, lB, lI, lb, im, cd, sa, la, lt, mk, ds, cs, ce, rg) (G, LC, N, CU, LD, JD, OU, nI (p + 1), sv_ss G ST (rg a), sv_es G ES (rg a), SR, lO, lA, lB, lI, lb, im, cd, sa, la, lt, mk, ds, cs, sv_sc G ce (rg a) (rg b), rg) := fun Q h => by
  have va : vp_in (nI a) 8 := vp_in_nI ha (by omega)
  have vb : vp_in (nI b) 8 := vp_in_nI hb (by omega)
  have qa : (nI a).toNatClampNeg = a := nI_clamp (by omega)
  have qb : (nI b).toNatClampNeg = b := nI_clamp (by omega)
  unfold wpX_step
  refine sx_fetch rfl (by omega) (sv_ftp hp hw) (nm_r (e' := 13) ho (nm_r (e' := nI a) ea (nm_r (e' := nI b) eb (nm_e (br_t (by decide) (br_f (by decide) (br_t (by decide) (br_f (by decide) (br_t rfl (And.intro va (And.intro vb ?_)))))))))))
  rw [qa, qb]
  exact sx_store hG (nm_r (nI_1 p) h)
theorem sx_s_wr {o val : Int32} (hG : sv_gk G) (hp : p < 128) (hw : cd p = w) (ho : sv_op w = o) (h3 : o = 3 ∨ o = 4 ∨ o = 5 ∨ o = 6 ∨ o = 7 ∨ o = 8 ∨ o = 9 ∨ o = 10 ∨ o = 11 ∨ o = 12) (ha : a < 8) (ea : sv_ra w = nI a) (hb : b < 8) (eb : sv_rb w = nI b) (hv : sv_cv o (rg a) (rg b) (sv_mm w) (sv_me G ce (rg b)) = val) : sv_go (G, LC, N, CU, LD, JD, OU, nI p, ST, ES, SR, lO, lA, lB, lI, lb, im, cd, sa, la, lt, mk, ds, cs, ce, rg) (G, LC, N, CU, LD, JD, OU, nI (p + 1), ST, ES, SR, lO, lA, lB, lI, lb, im, cd, sa, la, lt, mk, ds, cs, ce, upd rg a val) := fun Q h => by
  have va : vp_in (nI a) 8 := vp_in_nI ha (by omega)
  have vb : vp_in (nI b) 8 := vp_in_nI hb (by omega)
  have qa : (nI a).toNatClampNeg = a := nI_clamp (by omega)
  have qb : (nI b).toNatClampNeg = b := nI_clamp (by omega)
  have cc : o ≤ 17 ∧ ¬ o = 0 ∧ o < 14 ∧ ¬ o = 2 ∧ ¬ o = 13 ∧ ¬ o < 2 ∧ ¬ 12 < o := by
    rcases h3 with rfl | rfl | rfl | rfl | rfl | rfl | rfl | rfl | rfl | rfl <;> decide
  unfold wpX_step
  refine sx_fetch rfl (by omega) (sv_ftp hp hw) (nm_r (e' := o) ho (nm_r (e' := nI a) ea (nm_r (e' := nI b) eb (nm_r (e' := sv_mm w) rfl (br_t cc.1 (br_f cc.2.1 (br_t cc.2.2.1 (br_f cc.2.2.2.1 (br_f cc.2.2.2.2.1 (sx_wrt1 cc.2.2.2.2.2.1 cc.2.2.2.2.2.2 (br_f sv_10 (And.intro va (And.intro vb ?_)))))))))))))
  rw [qa, qb]
  refine sx_comp h3 hG ?_
  rw [hv]
  exact And.intro va (nm_e (nm_r (nI_1 p) h))
theorem sx_s_jmp (hp : p < 128) (hw : cd p = w) (ho : sv_op w = 14) : sv_go (G, LC, N, CU, LD, JD, OU, nI p, ST, ES, SR, lO, lA, lB, lI, lb, im, cd, sa, la, lt, mk, ds, cs, ce, rg) (G, LC, N, CU, LD, JD, OU, sv_mm w, ST, ES, SR, lO, lA, lB, lI, lb, im, cd, sa, la, lt, mk, ds, cs, ce, rg) := fun Q h => by
  unfold wpX_step
  exact sx_fetch rfl (by omega) (sv_ftp hp hw) (nm_r (e' := 14) ho (nm_r (e' := sv_ra w) rfl (nm_e (nm_r (e' := sv_mm w) rfl (br_t (by decide) (br_f (by decide) (br_f (by decide) (And.intro (sv_in7 _) (br_f (by decide) (br_t rfl h)))))))))) 
theorem sx_s_jr (hp : p < 128) (hw : cd p = w) (ho : sv_op w = 17) (ha : a < 8) (ea : sv_ra w = nI a) : sv_go (G, LC, N, CU, LD, JD, OU, nI p, ST, ES, SR, lO, lA, lB, lI, lb, im, cd, sa, la, lt, mk, ds, cs, ce, rg) (G, LC, N, CU, LD, JD, OU, rg a, ST, ES, SR, lO, lA, lB, lI, lb, im, cd, sa, la, lt, mk, ds, cs, ce, rg) := fun Q h => by
  have va : vp_in (nI a) 8 := vp_in_nI ha (by omega)
  have qa : (nI a).toNatClampNeg = a := nI_clamp (by omega)
  unfold wpX_step
  refine sx_fetch rfl (by omega) (sv_ftp hp hw) (nm_r (e' := 17) ho (nm_r (e' := nI a) ea (nm_e (nm_e (br_t (by decide) (br_f (by decide) (br_f (by decide) (And.intro va ?_))))))))
  rw [qa]
  exact br_t rfl h
theorem sx_s_bzt (hp : p < 128) (hw : cd p = w) (ho : sv_op w = 15) (ha : a < 8) (ea : sv_ra w = nI a) (hv : rg a = 0) : sv_go (G, LC, N, CU, LD, JD, OU, nI p, ST, ES, SR, lO, lA, lB, lI, lb, im, cd, sa, la, lt, mk, ds, cs, ce, rg) (G, LC, N, CU, LD, JD, OU, sv_mm w, ST, ES, SR, lO, lA, lB, lI, lb, im, cd, sa, la, lt, mk, ds, cs, ce, rg) := fun Q h => by
  have va : vp_in (nI a) 8 := vp_in_nI ha (by omega)
  have qa : (nI a).toNatClampNeg = a := nI_clamp (by omega)
  unfold wpX_step
  refine sx_fetch rfl (by omega) (sv_ftp hp hw) (nm_r (e' := 15) ho (nm_r (e' := nI a) ea (nm_e (nm_r (e' := sv_mm w) rfl (br_t (by decide) (br_f (by decide) (br_f (by decide) (And.intro va ?_))))))))
  rw [qa]
  exact br_f (by decide) (br_f (by decide) (br_t rfl (br_t hv h)))
theorem sx_s_bzf (hp : p < 128) (hw : cd p = w) (ho : sv_op w = 15) (ha : a < 8) (ea : sv_ra w = nI a) (hv : ¬ rg a = 0) : sv_go (G, LC, N, CU, LD, JD, OU, nI p, ST, ES, SR, lO, lA, lB, lI, lb, im, cd, sa, la, lt, mk, ds, cs, ce, rg) (G, LC, N, CU, LD, JD, OU, nI (p + 1), ST, ES, SR, lO, lA, lB, lI, lb, im, cd, sa, la, lt, mk, ds, cs, ce, rg) := fun Q h => by
  have va : vp_in (nI a) 8 := vp_in_nI ha (by omega)
  have qa : (nI a).toNatClampNeg = a := nI_clamp (by omega)
  unfold wpX_step
  refine sx_fetch rfl (by omega) (sv_ftp hp hw) (nm_r (e' := 15) ho (nm_r (e' := nI a) ea (nm_e (nm_e (br_t (by decide) (br_f (by decide) (br_f (by decide) (And.intro va ?_))))))))
  rw [qa]
  exact br_f (by decide) (br_f (by decide) (br_t rfl (br_f hv (br_f (by decide) (nm_r (nI_1 p) h)))))
theorem sx_s_bnt (hp : p < 128) (hw : cd p = w) (ho : sv_op w = 16) (ha : a < 8) (ea : sv_ra w = nI a) (hv : ¬ 0 ≤ rg a) : sv_go (G, LC, N, CU, LD, JD, OU, nI p, ST, ES, SR, lO, lA, lB, lI, lb, im, cd, sa, la, lt, mk, ds, cs, ce, rg) (G, LC, N, CU, LD, JD, OU, sv_mm w, ST, ES, SR, lO, lA, lB, lI, lb, im, cd, sa, la, lt, mk, ds, cs, ce, rg) := fun Q h => by
  have va : vp_in (nI a) 8 := vp_in_nI ha (by omega)
  have qa : (nI a).toNatClampNeg = a := nI_clamp (by omega)
  unfold wpX_step
  refine sx_fetch rfl (by omega) (sv_ftp hp hw) (nm_r (e' := 16) ho (nm_r (e' := nI a) ea (nm_e (nm_r (e' := sv_mm w) rfl (br_t (by decide) (br_f (by decide) (br_f (by decide) (And.intro va ?_))))))))
  rw [qa]
  exact br_f (by decide) (br_f (by decide) (br_f (by decide) (br_t rfl (br_f hv h))))
theorem sx_s_bnf (hp : p < 128) (hw : cd p = w) (ho : sv_op w = 16) (ha : a < 8) (ea : sv_ra w = nI a) (hv : 0 ≤ rg a) : sv_go (G, LC, N, CU, LD, JD, OU, nI p, ST, ES, SR, lO, lA, lB, lI, lb, im, cd, sa, la, lt, mk, ds, cs, ce, rg) (G, LC, N, CU, LD, JD, OU, nI (p + 1), ST, ES, SR, lO, lA, lB, lI, lb, im, cd, sa, la, lt, mk, ds, cs, ce, rg) := fun Q h => by
  have va : vp_in (nI a) 8 := vp_in_nI ha (by omega)
  have qa : (nI a).toNatClampNeg = a := nI_clamp (by omega)
  unfold wpX_step
  refine sx_fetch rfl (by omega) (sv_ftp hp hw) (nm_r (e' := 16) ho (nm_r (e' := nI a) ea (nm_e (nm_e (br_t (by decide) (br_f (by decide) (br_f (by decide) (And.intro va ?_))))))))
  rw [qa]
  exact br_f (by decide) (br_f (by decide) (br_f (by decide) (br_t rfl (br_t hv (nm_r (nI_1 p) h)))))
end XQ
end XP
end
section
/-! one cell of the reference's machine -/
section YC
variable {G LC N CU LD JD OU PC ST ES SR : Int32} {lO lA lB lI lb im cd sa la lt mk ds cs ce rg : Nat → Int32} {PO : Int32} {rh : Nat → Int32}
theorem sy_mem {post : Int32 → Prop} {y : Int32} (hG : sv_gk G) (h : post (sv_me G ce y)) : wpY_mem post (G, LC, N, CU, ST, LD, PO, ES, SR, lO, lA, lB, lI, lb, im, ce, rh) y := by
  unfold sv_me at h
  refine br_c (fun e1 => ?_) (fun e1 => br_c (fun e2 => And.intro (sv_in64 hG e1 e2) ?_) (fun e2 => ?_))
  · rwa [if_pos e1] at h
  · rwa [if_neg e1, if_pos e2] at h
  · rwa [if_neg e1, if_neg e2] at h
section YD
variable {post : SY → Prop} {p a b : Nat} {m x6 : Int32}
theorem sy_k0 (hG : sv_gk G) (ha : a < 8) (hb : b < 8) (h : post (G, LC, N, CU, 3, LD, x6, ES, SR, lO, lA, lB, lI, lb, im, ce, rh)) : wY_doCell_68 post 0 (nI a) (nI b) m x6 G LC N CU ST LD PO ES SR lO lA lB lI lb im ce rh := by
  have va : vp_in (nI a) 8 := vp_in_nI ha (by omega)
  have vb : vp_in (nI b) 8 := vp_in_nI hb (by omega)
  have qa : (nI a).toNatClampNeg = a := nI_clamp (by omega)
  have qb : (nI b).toNatClampNeg = b := nI_clamp (by omega)
  unfold wY_doCell_68
  exact br_t rfl (br_f (by decide) (br_f (by decide) (br_f (by decide) (br_f (by decide) (br_f (by decide) (br_f (by decide) (br_f (by decide) (br_f (by decide) (br_f (by decide) (br_f (by decide) (br_f (by decide) (br_f (by decide) (br_f (by decide) (br_f (by decide) (br_f (by decide) (br_f (by decide) (br_t (by decide) h)))))))))))))))))
theorem sy_k1 (hG : sv_gk G) (ha : a < 8) (hb : b < 8) (h : post (G, LC, N, CU, ST, LD, x6, ES, SR, lO, lA, lB, lI, lb, im, ce, rh)) : wY_doCell_68 post 1 (nI a) (nI b) m x6 G LC N CU ST LD PO ES SR lO lA lB lI lb im ce rh := by
  have va : vp_in (nI a) 8 := vp_in_nI ha (by omega)
  have vb : vp_in (nI b) 8 := vp_in_nI hb (by omega)
  have qa : (nI a).toNatClampNeg = a := nI_clamp (by omega)
  have qb : (nI b).toNatClampNeg = b := nI_clamp (by omega)
  unfold wY_doCell_68
  exact br_f (by decide) (br_f (by decide) (br_f (by decide) (br_f (by decide) (br_f (by decide) (br_f (by decide) (br_f (by decide) (br_f (by decide) (br_f (by decide) (br_f (by decide) (br_f (by decide) (br_f (by decide) (br_f (by decide) (br_f (by decide) (br_f (by decide) (br_f (by decide) (br_f (by decide) (br_t (by decide) h)))))))))))))))))
theorem sy_k3 (hG : sv_gk G) (ha : a < 8) (hb : b < 8) (h : post (G, LC, N, CU, ST, LD, x6, ES, SR, lO, lA, lB, lI, lb, im, ce, upd rh a (rh b))) : wY_doCell_68 post 3 (nI a) (nI b) m x6 G LC N CU ST LD PO ES SR lO lA lB lI lb im ce rh := by
  have va : vp_in (nI a) 8 := vp_in_nI ha (by omega)
  have vb : vp_in (nI b) 8 := vp_in_nI hb (by omega)
  have qa : (nI a).toNatClampNeg = a := nI_clamp (by omega)
  have qb : (nI b).toNatClampNeg = b := nI_clamp (by omega)
  unfold wY_doCell_68
  exact br_f (by decide) (br_t rfl (And.intro vb (And.intro va (nm_r (e' := upd rh a (rh b)) (by rw [qa, qb]) (br_f (by decide) (br_f (by decide) (br_f (by decide) (br_f (by decide) (br_f (by decide) (br_f (by decide) (br_f (by decide) (br_f (by decide) (br_f (by decide) (br_f (by decide) (br_f (by decide) (br_f (by decide) (br_f (by decide) (br_f (by decide) (br_f (by decide) (br_t (by decide) h))))))))))))))))))))
theorem sy_k4 (hG : sv_gk G) (ha : a < 8) (hb : b < 8) (h : post (G, LC, N, CU, ST, LD, x6, ES, SR, lO, lA, lB, lI, lb, im, ce, upd rh a (rh a + rh b))) : wY_doCell_68 post 4 (nI a) (nI b) m x6 G LC N CU ST LD PO ES SR lO lA lB lI lb im ce rh := by
  have va : vp_in (nI a) 8 := vp_in_nI ha (by omega)
  have vb : vp_in (nI b) 8 := vp_in_nI hb (by omega)
  have qa : (nI a).toNatClampNeg = a := nI_clamp (by omega)
  have qb : (nI b).toNatClampNeg = b := nI_clamp (by omega)
  unfold wY_doCell_68
  exact br_f (by decide) (br_f (by decide) (br_t rfl (And.intro va (And.intro vb (And.intro va (nm_r (e' := upd rh a (rh a + rh b)) (by rw [qa, qb]) (br_f (by decide) (br_f (by decide) (br_f (by decide) (br_f (by decide) (br_f (by decide) (br_f (by decide) (br_f (by decide) (br_f (by decide) (br_f (by decide) (br_f (by decide) (br_f (by decide) (br_f (by decide) (br_f (by decide) (br_f (by decide) (br_t (by decide) h)))))))))))))))))))))
theorem sy_k5 (hG : sv_gk G) (ha : a < 8) (hb : b < 8) (h : post (G, LC, N, CU, ST, LD, x6, ES, SR, lO, lA, lB, lI, lb, im, ce, upd rh a (rh a - rh b))) : wY_doCell_68 post 5 (nI a) (nI b) m x6 G LC N CU ST LD PO ES SR lO lA lB lI lb im ce rh := by
  have va : vp_in (nI a) 8 := vp_in_nI ha (by omega)
  have vb : vp_in (nI b) 8 := vp_in_nI hb (by omega)
  have qa : (nI a).toNatClampNeg = a := nI_clamp (by omega)
  have qb : (nI b).toNatClampNeg = b := nI_clamp (by omega)
  unfold wY_doCell_68
  exact br_f (by decide) (br_f (by decide) (br_f (by decide) (br_t rfl (And.intro va (And.intro vb (And.intro va (nm_r (e' := upd rh a (rh a - rh b)) (by rw [qa, qb]) (br_f (by decide) (br_f (by decide) (br_f (by decide) (br_f (by decide) (br_f (by decide) (br_f (by decide) (br_f (by decide) (br_f (by decide) (br_f (by decide) (br_f (by decide) (br_f (by decide) (br_f (by decide) (br_f (by decide) (br_t (by decide) h)))))))))))))))))))))
theorem sy_k6 (hG : sv_gk G) (ha : a < 8) (hb : b < 8) (h : post (G, LC, N, CU, ST, LD, x6, ES, SR, lO, lA, lB, lI, lb, im, ce, upd rh a (rh a * rh b))) : wY_doCell_68 post 6 (nI a) (nI b) m x6 G LC N CU ST LD PO ES SR lO lA lB lI lb im ce rh := by
  have va : vp_in (nI a) 8 := vp_in_nI ha (by omega)
  have vb : vp_in (nI b) 8 := vp_in_nI hb (by omega)
  have qa : (nI a).toNatClampNeg = a := nI_clamp (by omega)
  have qb : (nI b).toNatClampNeg = b := nI_clamp (by omega)
  unfold wY_doCell_68
  exact br_f (by decide) (br_f (by decide) (br_f (by decide) (br_f (by decide) (br_t rfl (And.intro va (And.intro vb (And.intro va (nm_r (e' := upd rh a (rh a * rh b)) (by rw [qa, qb]) (br_f (by decide) (br_f (by decide) (br_f (by decide) (br_f (by decide) (br_f (by decide) (br_f (by decide) (br_f (by decide) (br_f (by decide) (br_f (by decide) (br_f (by decide) (br_f (by decide) (br_f (by decide) (br_t (by decide) h)))))))))))))))))))))
theorem sy_k7 (hG : sv_gk G) (ha : a < 8) (hb : b < 8) (h : post (G, LC, N, CU, ST, LD, x6, ES, SR, lO, lA, lB, lI, lb, im, ce, upd rh a (rh a &&& rh b))) : wY_doCell_68 post 7 (nI a) (nI b) m x6 G LC N CU ST LD PO ES SR lO lA lB lI lb im ce rh := by
  have va : vp_in (nI a) 8 := vp_in_nI ha (by omega)
  have vb : vp_in (nI b) 8 := vp_in_nI hb (by omega)
  have qa : (nI a).toNatClampNeg = a := nI_clamp (by omega)
  have qb : (nI b).toNatClampNeg = b := nI_clamp (by omega)
  unfold wY_doCell_68
  exact br_f (by decide) (br_f (by decide) (br_f (by decide) (br_f (by decide) (br_f (by decide) (br_t rfl (And.intro va (And.intro vb (And.intro va (nm_r (e' := upd rh a (rh a &&& rh b)) (by rw [qa, qb]) (br_f (by decide) (br_f (by decide) (br_f (by decide) (br_f (by decide) (br_f (by decide) (br_f (by decide) (br_f (by decide) (br_f (by decide) (br_f (by decide) (br_f (by decide) (br_f (by decide) (br_t (by decide) h)))))))))))))))))))))
theorem sy_k8 (hG : sv_gk G) (ha : a < 8) (hb : b < 8) (h : post (G, LC, N, CU, ST, LD, x6, ES, SR, lO, lA, lB, lI, lb, im, ce, upd rh a (rh a + m))) : wY_doCell_68 post 8 (nI a) (nI b) m x6 G LC N CU ST LD PO ES SR lO lA lB lI lb im ce rh := by
  have va : vp_in (nI a) 8 := vp_in_nI ha (by omega)
  have vb : vp_in (nI b) 8 := vp_in_nI hb (by omega)
  have qa : (nI a).toNatClampNeg = a := nI_clamp (by omega)
  have qb : (nI b).toNatClampNeg = b := nI_clamp (by omega)
  unfold wY_doCell_68
  exact br_f (by decide) (br_f (by decide) (br_f (by decide) (br_f (by decide) (br_f (by decide) (br_f (by decide) (br_f (by decide) (br_t rfl (And.intro va (And.intro va (nm_r (e' := upd rh a (rh a + m)) (by rw [qa]) (br_f (by decide) (br_f (by decide) (br_f (by decide) (br_f (by decide) (br_f (by decide) (br_f (by decide) (br_f (by decide) (br_f (by decide) (br_f (by decide) (br_t (by decide) h))))))))))))))))))))
theorem sy_k9 (hG : sv_gk G) (ha : a < 8) (hb : b < 8) (h : post (G, LC, N, CU, ST, LD, x6, ES, SR, lO, lA, lB, lI, lb, im, ce, upd rh a (rh a &&& m))) : wY_doCell_68 post 9 (nI a) (nI b) m x6 G LC N CU ST LD PO ES SR lO lA lB lI lb im ce rh := by
  have va : vp_in (nI a) 8 := vp_in_nI ha (by omega)
  have vb : vp_in (nI b) 8 := vp_in_nI hb (by omega)
  have qa : (nI a).toNatClampNeg = a := nI_clamp (by omega)
  have qb : (nI b).toNatClampNeg = b := nI_clamp (by omega)
  unfold wY_doCell_68
  exact br_f (by decide) (br_f (by decide) (br_f (by decide) (br_f (by decide) (br_f (by decide) (br_f (by decide) (br_f (by decide) (br_f (by decide) (br_t rfl (And.intro va (And.intro va (nm_r (e' := upd rh a (rh a &&& m)) (by rw [qa]) (br_f (by decide) (br_f (by decide) (br_f (by decide) (br_f (by decide) (br_f (by decide) (br_f (by decide) (br_f (by decide) (br_f (by decide) (br_t (by decide) h))))))))))))))))))))
theorem sy_k10 (hG : sv_gk G) (ha : a < 8) (hb : b < 8) (h : post (G, LC, N, CU, ST, LD, x6, ES, SR, lO, lA, lB, lI, lb, im, ce, upd rh a (rh a ||| m))) : wY_doCell_68 post 10 (nI a) (nI b) m x6 G LC N CU ST LD PO ES SR lO lA lB lI lb im ce rh := by
  have va : vp_in (nI a) 8 := vp_in_nI ha (by omega)
  have vb : vp_in (nI b) 8 := vp_in_nI hb (by omega)
  have qa : (nI a).toNatClampNeg = a := nI_clamp (by omega)
  have qb : (nI b).toNatClampNeg = b := nI_clamp (by omega)
  unfold wY_doCell_68
  exact br_f (by decide) (br_f (by decide) (br_f (by decide) (br_f (by decide) (br_f (by decide) (br_f (by decide) (br_f (by decide) (br_f (by decide) (br_f (by decide) (br_t rfl (And.intro va (And.intro va (nm_r (e' := upd rh a (rh a ||| m)) (by rw [qa]) (br_f (by decide) (br_f (by decide) (br_f (by decide) (br_f (by decide) (br_f (by decide) (br_f (by decide) (br_f (by decide) (br_t (by decide) h))))))))))))))))))))
theorem sy_k11 (hG : sv_gk G) (ha : a < 8) (hb : b < 8) (h : post (G, LC, N, CU, ST, LD, x6, ES, SR, lO, lA, lB, lI, lb, im, ce, upd rh a (rh a <<< ((m &&& 31) &&& 31)))) : wY_doCell_68 post 11 (nI a) (nI b) m x6 G LC N CU ST LD PO ES SR lO lA lB lI lb im ce rh := by
  have va : vp_in (nI a) 8 := vp_in_nI ha (by omega)
  have vb : vp_in (nI b) 8 := vp_in_nI hb (by omega)
  have qa : (nI a).toNatClampNeg = a := nI_clamp (by omega)
  have qb : (nI b).toNatClampNeg = b := nI_clamp (by omega)
  unfold wY_doCell_68
  exact br_f (by decide) (br_f (by decide) (br_f (by decide) (br_f (by decide) (br_f (by decide) (br_f (by decide) (br_f (by decide) (br_f (by decide) (br_f (by decide) (br_f (by decide) (br_t rfl (And.intro va (And.intro va (nm_r (e' := upd rh a (rh a <<< ((m &&& 31) &&& 31))) (by rw [qa]) (br_f (by decide) (br_f (by decide) (br_f (by decide) (br_f (by decide) (br_f (by decide) (br_f (by decide) (br_t (by decide) h))))))))))))))))))))
theorem sy_k12 (hG : sv_gk G) (ha : a < 8) (hb : b < 8) (h : post (G, LC, N, CU, ST, LD, x6, ES, SR, lO, lA, lB, lI, lb, im, ce, upd rh a (sv_me G ce (rh b)))) : wY_doCell_68 post 12 (nI a) (nI b) m x6 G LC N CU ST LD PO ES SR lO lA lB lI lb im ce rh := by
  have va : vp_in (nI a) 8 := vp_in_nI ha (by omega)
  have vb : vp_in (nI b) 8 := vp_in_nI hb (by omega)
  have qa : (nI a).toNatClampNeg = a := nI_clamp (by omega)
  have qb : (nI b).toNatClampNeg = b := nI_clamp (by omega)
  unfold wY_doCell_68
  exact br_f (by decide) (br_f (by decide) (br_f (by decide) (br_f (by decide) (br_f (by decide) (br_f (by decide) (br_f (by decide) (br_f (by decide) (br_f (by decide) (br_f (by decide) (br_f (by decide) (br_t rfl (And.intro vb (sy_mem hG (And.intro va (nm_r (e' := upd rh a (sv_me G ce (rh b))) (by rw [qa, qb]) (br_f (by decide) (br_f (by decide) (br_f (by decide) (br_f (by decide) (br_f (by decide) (br_t (by decide) h)))))))))))))))))))))
theorem sy_k2 (hG : sv_gk G) (ha : a < 8) (hb : b < 8) (hp : p < 128) (h : post (G, LC, N, CU, ST, LD, nI (p + 2), ES, SR, lO, lA, lB, lI, lb, im, ce, upd rh a (sv_ft im (p + 1)))) : wY_doCell_68 post 2 (nI a) (nI b) m x6 G LC N CU ST LD (nI p) ES SR lO lA lB lI lb im ce rh := by
  have va : vp_in (nI a) 8 := vp_in_nI ha (by omega)
  have vb : vp_in (nI b) 8 := vp_in_nI hb (by omega)
  have qa : (nI a).toNatClampNeg = a := nI_clamp (by omega)
  have qb : (nI b).toNatClampNeg = b := nI_clamp (by omega)
  have e1 : nI p + 1 = nI (p + 1) := nI_1 p
  have go : ∀ z : Int32, z = sv_ft im (p + 1) → wY_doCell_113 post 2 (nI a) (nI b) m z (nI a) G LC N CU ST LD (nI p) ES SR lO lA lB lI lb im ce rh := fun z hz => by
    refine And.intro va (nm_r (e' := upd rh a (sv_ft im (p + 1))) (by rw [qa, hz]) (nm_r (nI_add p 2) ?_))
    exact br_f (by decide) (br_f (by decide) (br_f (by decide) (br_f (by decide) (br_f (by decide) (br_f (by decide) (br_f (by decide) (br_f (by decide) (br_f (by decide) (br_f (by decide) (br_t (by decide) h))))))))))
  unfold wY_doCell_68
  refine br_f (by decide) (br_f (by decide) (br_f (by decide) (br_f (by decide) (br_f (by decide) (br_f (by decide) (br_t rfl ?_))))))
  by_cases q : p + 1 < 128
  · refine br_f (by rw [e1]; exact nI_ge (b := 128) q (by decide)) (And.intro (by rw [e1]; exact vp_in_nI q (by omega)) (go _ ?_))
    rw [e1, nI_clamp (by omega)]
    exact (sv_ftp q rfl).symm
  · refine br_t (by rw [e1]; exact nI_le (a := 128) (by omega) (by omega)) (go _ ?_)
    unfold sv_ft
    rw [if_neg q]
theorem sy_poke {post : Int32 → SY → Prop} {x v : Int32} (hG : sv_gk G) (h1 : ¬ x < 0 → x < 2 * G → post 1 (G, LC, N, CU, ST, LD, PO, ES, SR, lO, lA, lB, lI, lb, im, upd ce x.toNatClampNeg v, rh)) (h0 : (x < 0 ∨ ¬ x < 2 * G) → post 0 (G, LC, N, CU, ST, LD, PO, ES, SR, lO, lA, lB, lI, lb, im, ce, rh)) : wpY_poke post (G, LC, N, CU, ST, LD, PO, ES, SR, lO, lA, lB, lI, lb, im, ce, rh) x v :=
  br_c (fun e => h0 (Or.inl e)) (fun e => br_c (fun e2 => And.intro (sv_in64 hG e e2) (nm_e (h1 e e2))) (fun e2 => h0 (Or.inr e2)))
theorem sy_276 (hG : sv_gk G) (ha : a < 8) (hb : b < 8) (h : post (G, LC, N, CU, sv_ss G ST (rh a), LD, x6, ES, SR, lO, lA, lB, lI, lb, im, sv_sc G ce (rh a) (rh b), rh)) : wY_doCell_276 post 13 (nI a) (nI b) m x6 G LC N CU ST LD PO ES SR lO lA lB lI lb im ce rh := by
  have va : vp_in (nI a) 8 := vp_in_nI ha (by omega)
  have vb : vp_in (nI b) 8 := vp_in_nI hb (by omega)
  have qa : (nI a).toNatClampNeg = a := nI_clamp (by omega)
  have qb : (nI b).toNatClampNeg = b := nI_clamp (by omega)
  unfold sv_ss sv_sc at h
  refine And.intro va (And.intro vb ?_)
  rw [qa, qb]
  refine sy_poke hG (fun e1 e2 => br_f sv_10 ?_) (fun e => br_t rfl ?_)
  · rw [if_neg e1, if_neg e1, if_pos e2, if_pos e2] at h
    exact br_f (by decide) (br_f (by decide) (br_f (by decide) (br_f (by decide) (br_t (by decide) h))))
  · have e4 : post (G, LC, N, CU, 4, LD, x6, ES, SR, lO, lA, lB, lI, lb, im, ce, rh) := by
      by_cases e1 : rh a < 0
      · rwa [if_pos e1, if_pos e1] at h
      · rw [if_neg e1, if_neg e1] at h
        have e2 := e.resolve_left e1
        rwa [if_neg e2, if_neg e2] at h
    exact br_f (by decide) (br_f (by decide) (br_f (by decide) (br_f (by decide) (br_t (by decide) e4))))
theorem sy_k13 (hG : sv_gk G) (ha : a < 8) (hb : b < 8) (h : post (G, LC, N, CU, sv_ss G ST (rh a), LD, x6, sv_es G ES (rh a), SR, lO, lA, lB, lI, lb, im, sv_sc G ce (rh a) (rh b), rh)) : wY_doCell_68 post 13 (nI a) (nI b) m x6 G LC N CU ST LD PO ES SR lO lA lB lI lb im ce rh := by
  have va : vp_in (nI a) 8 := vp_in_nI ha (by omega)
  have vb : vp_in (nI b) 8 := vp_in_nI hb (by omega)
  have qa : (nI a).toNatClampNeg = a := nI_clamp (by omega)
  have qb : (nI b).toNatClampNeg = b := nI_clamp (by omega)
  unfold sv_es at h
  unfold wY_doCell_68
  refine br_f (by decide) (br_f (by decide) (br_f (by decide) (br_f (by decide) (br_f (by decide) (br_f (by decide) (br_f (by decide) (br_f (by decide) (br_f (by decide) (br_f (by decide) (br_f (by decide) (br_f (by decide) (br_t rfl (And.intro va ?_)))))))))))))
  rw [qa]
  refine br_c (fun e1 => nm_e (sy_276 hG ha hb ?_)) (fun e1 => And.intro va (br_c (fun e2 => sy_276 hG ha hb ?_) (fun e2 => nm_e (sy_276 hG ha hb ?_))))
  · rwa [if_pos e1] at h
  · rwa [if_neg e1, if_pos e2] at h
  · rwa [if_neg e1, if_neg e2] at h
theorem sy_k14 (h : post (G, LC, N, CU, ST, LD, m, ES, SR, lO, lA, lB, lI, lb, im, ce, rh)) : wY_doCell_68 post 14 (nI a) (nI b) m x6 G LC N CU ST LD PO ES SR lO lA lB lI lb im ce rh := by
  unfold wY_doCell_68
  exact br_f (by decide) (br_f (by decide) (br_f (by decide) (br_f (by decide) (br_f (by decide) (br_f (by decide) (br_f (by decide) (br_f (by decide) (br_f (by decide) (br_f (by decide) (br_f (by decide) (br_f (by decide) (br_f (by decide) (br_t rfl (br_f (by decide) (br_t (by decide) h)))))))))))))))
theorem sy_k15t (ha : a < 8) (hv : rh a = 0) (h : post (G, LC, N, CU, ST, LD, m, ES, SR, lO, lA, lB, lI, lb, im, ce, rh)) : wY_doCell_68 post 15 (nI a) (nI b) m x6 G LC N CU ST LD PO ES SR lO lA lB lI lb im ce rh := by
  have va : vp_in (nI a) 8 := vp_in_nI ha (by omega)
  have qa : (nI a).toNatClampNeg = a := nI_clamp (by omega)
  unfold wY_doCell_68
  exact br_f (by decide) (br_f (by decide) (br_f (by decide) (br_f (by decide) (br_f (by decide) (br_f (by decide) (br_f (by decide) (br_f (by decide) (br_f (by decide) (br_f (by decide) (br_f (by decide) (br_f (by decide) (br_f (by decide) (br_f (by decide) (br_t rfl (And.intro va (br_t (by rw [qa]; exact hv) (br_f (by decide) (br_t (by decide) h))))))))))))))))))
theorem sy_k15f (ha : a < 8) (hv : ¬ rh a = 0) (h : post (G, LC, N, CU, ST, LD, x6, ES, SR, lO, lA, lB, lI, lb, im, ce, rh)) : wY_doCell_68 post 15 (nI a) (nI b) m x6 G LC N CU ST LD PO ES SR lO lA lB lI lb im ce rh := by
  have va : vp_in (nI a) 8 := vp_in_nI ha (by omega)
  have qa : (nI a).toNatClampNeg = a := nI_clamp (by omega)
  unfold wY_doCell_68
  exact br_f (by decide) (br_f (by decide) (br_f (by decide) (br_f (by decide) (br_f (by decide) (br_f (by decide) (br_f (by decide) (br_f (by decide) (br_f (by decide) (br_f (by decide) (br_f (by decide) (br_f (by decide) (br_f (by decide) (br_f (by decide) (br_t rfl (And.intro va (br_f (by rw [qa]; exact hv) (br_f (by decide) (br_f (by decide) (br_t (by decide) h)))))))))))))))))))
theorem sy_k16t (ha : a < 8) (hv : ¬ 0 ≤ rh a) (h : post (G, LC, N, CU, ST, LD, m, ES, SR, lO, lA, lB, lI, lb, im, ce, rh)) : wY_doCell_68 post 16 (nI a) (nI b) m x6 G LC N CU ST LD PO ES SR lO lA lB lI lb im ce rh := by
  have va : vp_in (nI a) 8 := vp_in_nI ha (by omega)
  have qa : (nI a).toNatClampNeg = a := nI_clamp (by omega)
  unfold wY_doCell_68
  exact br_f (by decide) (br_f (by decide) (br_f (by decide) (br_f (by decide) (br_f (by decide) (br_f (by decide) (br_f (by decide) (br_f (by decide) (br_f (by decide) (br_f (by decide) (br_f (by decide) (br_f (by decide) (br_f (by decide) (br_f (by decide) (br_f (by decide) (br_t rfl (And.intro va (br_f (by rw [qa]; exact hv) (br_f (by decide) (br_t (by decide) h)))))))))))))))))))
theorem sy_k16f (ha : a < 8) (hv : 0 ≤ rh a) (h : post (G, LC, N, CU, ST, LD, x6, ES, SR, lO, lA, lB, lI, lb, im, ce, rh)) : wY_doCell_68 post 16 (nI a) (nI b) m x6 G LC N CU ST LD PO ES SR lO lA lB lI lb im ce rh := by
  have va : vp_in (nI a) 8 := vp_in_nI ha (by omega)
  have qa : (nI a).toNatClampNeg = a := nI_clamp (by omega)
  unfold wY_doCell_68
  exact br_f (by decide) (br_f (by decide) (br_f (by decide) (br_f (by decide) (br_f (by decide) (br_f (by decide) (br_f (by decide) (br_f (by decide) (br_f (by decide) (br_f (by decide) (br_f (by decide) (br_f (by decide) (br_f (by decide) (br_f (by decide) (br_f (by decide) (br_t rfl (And.intro va (br_t (by rw [qa]; exact hv) (br_f (by decide) (br_t (by decide) h)))))))))))))))))))
theorem sy_k17 (ha : a < 8) (h : post (G, LC, N, CU, ST, LD, rh a, ES, SR, lO, lA, lB, lI, lb, im, ce, rh)) : wY_doCell_68 post 17 (nI a) (nI b) m x6 G LC N CU ST LD PO ES SR lO lA lB lI lb im ce rh := by
  have va : vp_in (nI a) 8 := vp_in_nI ha (by omega)
  have qa : (nI a).toNatClampNeg = a := nI_clamp (by omega)
  unfold wY_doCell_68
  exact br_f (by decide) (br_f (by decide) (br_f (by decide) (br_f (by decide) (br_f (by decide) (br_f (by decide) (br_f (by decide) (br_f (by decide) (br_f (by decide) (br_f (by decide) (br_f (by decide) (br_f (by decide) (br_f (by decide) (br_f (by decide) (br_f (by decide) (br_f (by decide) (br_t rfl (And.intro va (nm_r (e' := rh a) (by rw [qa]) (br_t (by decide) h)))))))))))))))))))
theorem sy_k18 {o : Int32} (ho : ¬ o ≤ 17) (h : post (G, LC, N, CU, 4, LD, x6, ES, SR, lO, lA, lB, lI, lb, im, ce, rh)) : wY_doCell_68 post o (nI a) (nI b) m x6 G LC N CU ST LD PO ES SR lO lA lB lI lb im ce rh := by
  have ne : ∀ k : Int32, k ≤ 17 → ¬ o = k := fun k hk e => ho (e ▸ hk)
  unfold wY_doCell_68
  exact br_f (ne 0 (by decide)) (br_f (ne 3 (by decide)) (br_f (ne 4 (by decide)) (br_f (ne 5 (by decide)) (br_f (ne 6 (by decide)) (br_f (ne 7 (by decide)) (br_f (ne 2 (by decide)) (br_f (ne 8 (by decide)) (br_f (ne 9 (by decide)) (br_f (ne 10 (by decide)) (br_f (ne 11 (by decide)) (br_f (ne 12 (by decide)) (br_f (ne 13 (by decide)) (br_f (ne 14 (by decide)) (br_f (ne 15 (by decide)) (br_f (ne 16 (by decide)) (br_f (ne 17 (by decide)) (br_f ho h)))))))))))))))))
end YD
end YC
end
section
/-! native code: both machines, cell by cell -/
section NA
variable {G LC N CU LD JD OU PC ST ES SR : Int32} {lO lA lB lI lb im cd sa la lt mk ds cs ce rg : Nat → Int32} {PO : Int32} {rh : Nat → Int32}
theorem sn_cell {p : Nat} (hG : sv_gk G) (hp : p < 128) (hc : cd p = im p) (hc1 : sv_ft cd (p + 1) = sv_ft im (p + 1)) : ∃ (st' pc' po' es' : Int32) (ce' rg' : Nat → Int32), ((st' = ST ∧ pc' = po') ∨ st' = 3 ∨ st' = 4) ∧ sv_go (G, LC, N, CU, LD, JD, OU, nI p, ST, ES, SR, lO, lA, lB, lI, lb, im, cd, sa, la, lt, mk, ds, cs, ce, rg) (G, LC, N, CU, LD, JD, OU, pc', st', es', SR, lO, lA, lB, lI, lb, im, cd, sa, la, lt, mk, ds, cs, ce', rg') ∧ (∀ Q : SY → Prop, Q (G, LC, N, CU, st', LD, po', es', SR, lO, lA, lB, lI, lb, im, ce', rg') → wY_doCell_68 Q (sv_op (im p)) (sv_ra (im p)) (sv_rb (im p)) (sv_mm (im p)) (nI (p + 1)) G LC N CU ST LD (nI p) ES SR lO lA lB lI lb im ce rg) := by
  obtain ⟨a, ha, ea⟩ := sv_raE (im p)
  obtain ⟨b, hb, eb⟩ := sv_rbE (im p)
  obtain ⟨o, ho, eo⟩ := sv_opE (im p)
  rw [ea, eb]
  have hh : o = 0 ∨ o = 1 ∨ o = 2 ∨ o = 3 ∨ o = 4 ∨ o = 5 ∨ o = 6 ∨ o = 7 ∨ o = 8 ∨ o = 9 ∨ o = 10 ∨ o = 11 ∨ o = 12 ∨ o = 13 ∨ o = 14 ∨ o = 15 ∨ o = 16 ∨ o = 17 ∨ 18 ≤ o := by omega
  rcases hh with rfl | rfl | rfl | rfl | rfl | rfl | rfl | rfl | rfl | rfl | rfl | rfl | rfl | rfl | rfl | rfl | rfl | rfl | h18
  · exact ⟨3, nI p, nI (p + 1), ES, ce, rg, Or.inr (Or.inl rfl), sx_s_halt hp hc eo, fun Q h => by rw [eo]; exact sy_k0 hG ha hb h⟩
  · exact ⟨ST, nI (p + 1), nI (p + 1), ES, ce, rg, Or.inl ⟨rfl, rfl⟩, sx_s_nop hp hc eo, fun Q h => by rw [eo]; exact sy_k1 hG ha hb h⟩
  · exact ⟨ST, nI (p + 2), nI (p + 2), ES, ce, upd rg a (sv_ft im (p + 1)), Or.inl ⟨rfl, rfl⟩, hc1 ▸ sx_s_li hp hc eo ha ea, fun Q h => by rw [eo]; exact sy_k2 hG ha hb hp h⟩
  · exact ⟨ST, nI (p + 1), nI (p + 1), ES, ce, upd rg a (rg b), Or.inl ⟨rfl, rfl⟩, sx_s_wr (o := 3) hG hp hc eo (by decide) ha ea hb eb (sv_cv3 _ _ _ _), fun Q h => by rw [eo]; exact sy_k3 hG ha hb h⟩
  · exact ⟨ST, nI (p + 1), nI (p + 1), ES, ce, upd rg a (rg a + rg b), Or.inl ⟨rfl, rfl⟩, sx_s_wr (o := 4) hG hp hc eo (by decide) ha ea hb eb (sv_cv4 _ _ _ _), fun Q h => by rw [eo]; exact sy_k4 hG ha hb h⟩
  · exact ⟨ST, nI (p + 1), nI (p + 1), ES, ce, upd rg a (rg a - rg b), Or.inl ⟨rfl, rfl⟩, sx_s_wr (o := 5) hG hp hc eo (by decide) ha ea hb eb (sv_cv5 _ _ _ _), fun Q h => by rw [eo]; exact sy_k5 hG ha hb h⟩
  · exact ⟨ST, nI (p + 1), nI (p + 1), ES, ce, upd rg a (rg a * rg b), Or.inl ⟨rfl, rfl⟩, sx_s_wr (o := 6) hG hp hc eo (by decide) ha ea hb eb (sv_cv6 _ _ _ _), fun Q h => by rw [eo]; exact sy_k6 hG ha hb h⟩
  · exact ⟨ST, nI (p + 1), nI (p + 1), ES, ce, upd rg a (rg a &&& rg b), Or.inl ⟨rfl, rfl⟩, sx_s_wr (o := 7) hG hp hc eo (by decide) ha ea hb eb (sv_cv7 _ _ _ _), fun Q h => by rw [eo]; exact sy_k7 hG ha hb h⟩
  · exact ⟨ST, nI (p + 1), nI (p + 1), ES, ce, upd rg a (rg a + sv_mm (im p)), Or.inl ⟨rfl, rfl⟩, sx_s_wr (o := 8) hG hp hc eo (by decide) ha ea hb eb (sv_cv8 _ _ _ _), fun Q h => by rw [eo]; exact sy_k8 hG ha hb h⟩
  · exact ⟨ST, nI (p + 1), nI (p + 1), ES, ce, upd rg a (rg a &&& sv_mm (im p)), Or.inl ⟨rfl, rfl⟩, sx_s_wr (o := 9) hG hp hc eo (by decide) ha ea hb eb (sv_cv9 _ _ _ _), fun Q h => by rw [eo]; exact sy_k9 hG ha hb h⟩
  · exact ⟨ST, nI (p + 1), nI (p + 1), ES, ce, upd rg a (rg a ||| sv_mm (im p)), Or.inl ⟨rfl, rfl⟩, sx_s_wr (o := 10) hG hp hc eo (by decide) ha ea hb eb (sv_cv10 _ _ _ _), fun Q h => by rw [eo]; exact sy_k10 hG ha hb h⟩
  · exact ⟨ST, nI (p + 1), nI (p + 1), ES, ce, upd rg a (rg a <<< ((sv_mm (im p) &&& 31) &&& 31)), Or.inl ⟨rfl, rfl⟩, sx_s_wr (o := 11) hG hp hc eo (by decide) ha ea hb eb (sv_cv11 _ _ _ _), fun Q h => by rw [eo]; exact sy_k11 hG ha hb h⟩
  · exact ⟨ST, nI (p + 1), nI (p + 1), ES, ce, upd rg a (sv_me G ce (rg b)), Or.inl ⟨rfl, rfl⟩, sx_s_wr (o := 12) hG hp hc eo (by decide) ha ea hb eb (sv_cv12 _ _ _ _), fun Q h => by rw [eo]; exact sy_k12 hG ha hb h⟩
  · refine ⟨sv_ss G ST (rg a), nI (p + 1), nI (p + 1), sv_es G ES (rg a), sv_sc G ce (rg a) (rg b), rg, ?_, sx_s_st hG hp hc eo ha ea hb eb, fun Q h => by rw [eo]; exact sy_k13 hG ha hb h⟩
    unfold sv_ss
    by_cases h0 : rg a < 0
    · rw [if_pos h0]; exact Or.inr (Or.inr rfl)
    · rw [if_neg h0]
      by_cases h1 : rg a < 2 * G
      · rw [if_pos h1]; exact Or.inl ⟨rfl, rfl⟩
      · rw [if_neg h1]; exact Or.inr (Or.inr rfl)
  · exact ⟨ST, sv_mm (im p), sv_mm (im p), ES, ce, rg, Or.inl ⟨rfl, rfl⟩, sx_s_jmp hp hc eo, fun Q h => by rw [eo]; exact sy_k14 h⟩
  · by_cases hv : rg a = 0
    · exact ⟨ST, sv_mm (im p), sv_mm (im p), ES, ce, rg, Or.inl ⟨rfl, rfl⟩, sx_s_bzt hp hc eo ha ea hv, fun Q h => by rw [eo]; exact sy_k15t ha hv h⟩
    · exact ⟨ST, nI (p + 1), nI (p + 1), ES, ce, rg, Or.inl ⟨rfl, rfl⟩, sx_s_bzf hp hc eo ha ea hv, fun Q h => by rw [eo]; exact sy_k15f ha hv h⟩
  · by_cases hv : 0 ≤ rg a
    · exact ⟨ST, nI (p + 1), nI (p + 1), ES, ce, rg, Or.inl ⟨rfl, rfl⟩, sx_s_bnf hp hc eo ha ea hv, fun Q h => by rw [eo]; exact sy_k16f ha hv h⟩
    · exact ⟨ST, sv_mm (im p), sv_mm (im p), ES, ce, rg, Or.inl ⟨rfl, rfl⟩, sx_s_bnt hp hc eo ha ea hv, fun Q h => by rw [eo]; exact sy_k16t ha hv h⟩
  · exact ⟨ST, rg a, rg a, ES, ce, rg, Or.inl ⟨rfl, rfl⟩, sx_s_jr hp hc eo ha ea, fun Q h => by rw [eo]; exact sy_k17 ha h⟩
  · have hn : ¬ sv_op (im p) ≤ 17 := by rw [eo]; exact nI_ge (a := 17) (by omega) (by omega)
    exact ⟨4, nI p, nI (p + 1), ES, ce, rg, Or.inr (Or.inr rfl), sx_s_trap hp hc hn, fun Q h => sy_k18 hn h⟩
theorem sn_ycell {post : SY → Prop} {p : Nat} (hp : p < 128) (h : wY_doCell_68 post (sv_op (im p)) (sv_ra (im p)) (sv_rb (im p)) (sv_mm (im p)) (nI (p + 1)) G LC N CU ST LD (nI p) ES (if sv_st im p = true then SR else SR + 1) lO lA lB lI lb im ce rh) : wpY_doCell post (G, LC, N, CU, ST, LD, nI p, ES, SR, lO, lA, lB, lI, lb, im, ce, rh) := by
  have ep : (nI p).toNatClampNeg = p := nI_clamp (by omega)
  refine And.intro (vp_in_nI hp (by omega)) (nm_r (e' := im p) (by rw [ep]) (nm_r (e' := sv_op (im p)) rfl (nm_r (e' := sv_ra (im p)) rfl (nm_r (e' := sv_rb (im p)) rfl (nm_r (e' := sv_mm (im p)) rfl (nm_r (nI_1 p) (sy_start hp ?_)))))))
  by_cases s1 : sv_st im p = true
  · rw [if_pos s1] at h
    rw [s1]
    exact br_f (by decide) h
  · rw [if_neg s1] at h
    rw [show sv_st im p = false by cases hh : sv_st im p <;> simp_all]
    exact br_t rfl (nm_e h)
theorem sn_loop {lim : Nat} (hl : lim ≤ 400) (hG : sv_gk G) (hL : LD = 1) (hc : ∀ q, q < 128 → cd q = im q) (hs : ∀ q, q < 128 → sa q = sv_bi (sv_st im q)) : ∀ (d k n : Nat), k + d = lim → d < n → ∀ (PC ST ES SR : Int32) (ce rg : Nat → Int32), (ST = 1 ∨ ST = 2) →
    ∃ (st' pc' po' es' sr' : Int32) (ce' rg' : Nat → Int32), ((st' = 2 ∧ pc' = po') ∨ st' = 3 ∨ st' = 4) ∧ (∀ post : SX → Prop, post (G, LC, N, CU, LD, JD, OU, pc', st', es', sr', lO, lA, lB, lI, lb, im, cd, sa, la, lt, mk, ds, cs, ce', rg') → wX_runNative_2 post (nI lim) n (nI k) G LC N CU LD JD OU PC ST ES SR lO lA lB lI lb im cd sa la lt mk ds cs ce rg) ∧ (∀ post : Int32 → SY → Prop, post st' (G, LC, N, CU, st', LD, po', es', sr', lO, lA, lB, lI, lb, im, ce', rg') → wY_run_58 post (nI lim) n (nI k) G LC N CU ST LD PC ES SR lO lA lB lI lb im ce rg) := by
  subst hL
  intro d
  induction d with
  | zero =>
    intro k n e hn PC ST ES SR ce rg hS
    obtain ⟨n, rfl⟩ : ∃ m, n = m + 1 := ⟨n - 1, by omega⟩
    obtain rfl : k = lim := by omega
    have l1 : ¬ nI k < nI k := nI_nlt (Nat.le_refl _) (by omega)
    by_cases h0 : PC < 0
    · exact ⟨4, PC, PC, ES, SR + 1, ce, rg, Or.inr (Or.inr rfl), fun post h => br_f l1 (sx_wo (Or.inl h0) (br_t rfl (nm_e h))), fun post h => br_f l1 (br_f (by decide) (br_t rfl (br_t h0 (nm_e h))))⟩
    · by_cases h1 : PC < 128
      · exact ⟨2, PC, PC, ES, SR, ce, rg, Or.inl ⟨rfl, rfl⟩, fun post h => br_f l1 (sx_wi h0 (Int32.not_le.mpr h1) (br_f sv_10 (br_t rfl h))), fun post h => br_f l1 (br_f (by decide) (br_t rfl (br_f h0 (br_t h1 (br_t rfl h)))))⟩
      · exact ⟨4, PC, PC, ES, SR + 1, ce, rg, Or.inr (Or.inr rfl), fun post h => br_f l1 (sx_wo (Or.inr (Int32.not_lt.mp h1)) (br_t rfl (nm_e h))), fun post h => br_f l1 (br_f (by decide) (br_t rfl (br_f h0 (br_f h1 (nm_e h)))))⟩
  | succ d ih =>
    intro k n e hn PC ST ES SR ce rg hS
    obtain ⟨n, rfl⟩ : ∃ m, n = m + 1 := ⟨n - 1, by omega⟩
    have l1 : ¬ nI lim < nI k := nI_nlt (by omega) (by omega)
    have l2 : ¬ nI k = nI lim := fun z => by have := (nI_eq (by omega) (by omega)).mp z; omega
    by_cases h0 : PC < 0
    · exact ⟨4, PC, PC, ES, SR + 1, ce, rg, Or.inr (Or.inr rfl), fun post h => br_f l1 (sx_wo (Or.inl h0) (br_t rfl (nm_e h))), fun post h => br_f l1 (br_f (by decide) (br_t rfl (br_t h0 (nm_e h))))⟩
    · by_cases h1 : PC < 128
      · obtain ⟨p, hp, rfl⟩ := sv_ofr (n := 128) (by omega) h0 (Int32.not_le.mpr h1)
        have vp : vp_in (nI p) 128 := vp_in_nI hp (by omega)
        have ep : (nI p).toNatClampNeg = p := nI_clamp (by omega)
        obtain ⟨st, pc, po, es, ce1, rg1, hst, hX, hY⟩ := sn_cell (G := G) (LC := LC) (N := N) (CU := CU) (JD := JD) (OU := OU) (ES := ES) (lO := lO) (lA := lA) (lB := lB) (lI := lI) (lb := lb) (im := im) (cd := cd) (sa := sa) (la := la) (lt := lt) (mk := mk) (ds := ds) (cs := cs) (ce := ce) (rg := rg) (LD := 1) (SR := if sv_st im p = true then SR else SR + 1) (ST := ST) (p := p) hG hp (hc p hp) (by
          unfold sv_ft
          by_cases q : p + 1 < 128
          · rw [if_pos q, if_pos q, hc _ q]
          · rw [if_neg q, if_neg q])
        have preX : ∀ post : SX → Prop, wX_runNative_70 post (wX_runNative_2 post (nI lim) n) (nI lim) (nI k) G LC N CU 1 JD OU (nI p) ST ES (if sv_st im p = true then SR else SR + 1) lO lA lB lI lb im cd sa la lt mk ds cs ce rg → wX_runNative_2 post (nI lim) (n + 1) (nI k) G LC N CU 1 JD OU (nI p) ST ES SR lO lA lB lI lb im cd sa la lt mk ds cs ce rg := by
          intro post h
          refine br_f l1 (sx_wi h0 (Int32.not_le.mpr h1) (br_f sv_10 (br_f l2 (And.intro vp ?_))))
          by_cases s1 : sv_st im p = true
          · rw [if_pos s1] at h
            exact br_f (by rw [ep, hs p hp, s1]; decide) h
          · rw [if_neg s1] at h
            exact br_t (by rw [ep, hs p hp, show sv_st im p = false by cases hh : sv_st im p <;> simp_all]; rfl) (nm_e h)
        have preY : ∀ post : Int32 → SY → Prop, wY_run_171 post (wY_run_58 post (nI lim) n) (nI lim) (nI k) G LC N CU st 1 po es (if sv_st im p = true then SR else SR + 1) lO lA lB lI lb im ce1 rg1 → wY_run_58 post (nI lim) (n + 1) (nI k) G LC N CU ST 1 (nI p) ES SR lO lA lB lI lb im ce rg := by
          intro post h
          exact br_f l1 (br_f (by decide) (br_t rfl (br_f h0 (br_t h1 (br_f l2 (br_f (by decide) (sn_ycell hp (hY _ h))))))))
        rcases hst with ⟨rfl, rfl⟩ | hst
        · obtain ⟨st2, pc2, po2, es2, sr2, ce2, rg2, g1, g2, g3⟩ := ih (k + 1) n (by omega) (by omega) pc st es (if sv_st im p = true then SR else SR + 1) ce1 rg1 hS
          have n3 : ¬ st = 3 := by rcases hS with rfl | rfl <;> decide
          have n4 : ¬ st = 4 := by rcases hS with rfl | rfl <;> decide
          refine ⟨st2, pc2, po2, es2, sr2, ce2, rg2, g1, fun post h => preX post ?_, fun post h => preY post ?_⟩
          · unfold wX_runNative_70
            exact hX _ (sx_end0 n3 n4 (br_t rfl (nm_r (nI_1 k) (g2 post h))))
          · exact br_f n3 (br_f n4 (nm_r (nI_1 k) (g3 post h)))
        · refine ⟨st, pc, po, es, (if sv_st im p = true then SR else SR + 1), ce1, rg1, Or.inr hst, fun post h => preX post ?_, fun post h => preY post ?_⟩
          · unfold wX_runNative_70
            exact hX _ (sx_end1 hst (br_f sv_10 h))
          · exact br_c (fun _ => h) (fun q => br_c (fun _ => h) (fun q2 => absurd hst (fun z => z.elim q q2)))
      · exact ⟨4, PC, PC, ES, SR + 1, ce, rg, Or.inr (Or.inr rfl), fun post h => br_f l1 (sx_wo (Or.inr (Int32.not_lt.mp h1)) (br_t rfl (nm_e h))), fun post h => br_f l1 (br_f (by decide) (br_t rfl (br_f h0 (br_f h1 (nm_e h)))))⟩
end NA
end
section
/-! the places of source lines -/
def sv_sz (o : Int32) : Nat := if o = 2 then 2 else if o = 12 ∨ o = 13 ∨ o = 17 ∨ o = 18 ∨ o = 19 then 4 else 1
theorem sv_sz1 (o : Int32) : 1 ≤ sv_sz o ∧ sv_sz o ≤ 4 := by
  unfold sv_sz
  by_cases h : o = 2
  · rw [if_pos h]; omega
  · rw [if_neg h]
    by_cases h2 : o = 12 ∨ o = 13 ∨ o = 17 ∨ o = 18 ∨ o = 19
    · rw [if_pos h2]; omega
    · rw [if_neg h2]; omega
def sv_lab (lb : Nat → Int32) (x : Int32) : Prop := ∃ k, k < 8 ∧ lb k = x
noncomputable def sv_al (lO lb : Nat → Int32) (i e : Nat) : Nat := @ite Nat (sv_lab lb (nI i) ∨ ¬ e % 4 + sv_sz (lO i) ≤ 4) (Classical.propDecidable _) ((e + 3) / 4 * 4) e
noncomputable def sv_e (lO lb : Nat → Int32) : Nat → Nat
  | 0 => 32
  | i + 1 => sv_al lO lb i (sv_e lO lb i) + sv_sz (lO i)
noncomputable def sv_ad (lO lb : Nat → Int32) (n i : Nat) : Nat := if i < n then sv_al lO lb i (sv_e lO lb i) else (sv_e lO lb i + 3) / 4 * 4
def sv_gap (e a : Nat) : Prop := e ≤ a ∧ a < e + 4 ∧ (a = e ∨ a % 4 = 0)
section LA
variable {lO lb : Nat → Int32} {n i j e : Nat}
theorem sv_al_t (h : sv_lab lb (nI i) ∨ ¬ e % 4 + sv_sz (lO i) ≤ 4) : sv_al lO lb i e = (e + 3) / 4 * 4 := by unfold sv_al; rw [if_pos h]
theorem sv_al_f (h : ¬ (sv_lab lb (nI i) ∨ ¬ e % 4 + sv_sz (lO i) ≤ 4)) : sv_al lO lb i e = e := by unfold sv_al; rw [if_neg h]
theorem sv_al_gap : sv_gap e (sv_al lO lb i e) := by
  unfold sv_gap
  by_cases h : sv_lab lb (nI i) ∨ ¬ e % 4 + sv_sz (lO i) ≤ 4
  · rw [sv_al_t h]; omega
  · rw [sv_al_f h]; omega
theorem sv_al_fit : sv_al lO lb i e % 4 + sv_sz (lO i) ≤ 4 := by
  have := sv_sz1 (lO i)
  by_cases h : sv_lab lb (nI i) ∨ ¬ e % 4 + sv_sz (lO i) ≤ 4
  · rw [sv_al_t h]; omega
  · rw [sv_al_f h]
    by_cases h2 : e % 4 + sv_sz (lO i) ≤ 4
    · exact h2
    · exact absurd (Or.inr h2) h
theorem sv_al_lab (h : sv_lab lb (nI i)) : sv_al lO lb i e % 4 = 0 := by
  rw [sv_al_t (Or.inl h)]; omega
theorem sv_e_up (i : Nat) : 32 + i ≤ sv_e lO lb i ∧ sv_e lO lb i ≤ 32 + 4 * i := by
  induction i with
  | zero => rw [sv_e]; omega
  | succ i ih =>
    have g : sv_gap (sv_e lO lb i) (sv_al lO lb i (sv_e lO lb i)) := sv_al_gap
    have s := sv_sz1 (lO i)
    unfold sv_gap at g
    rw [sv_e]
    omega
theorem sv_ad_lt (h : i < n) : sv_ad lO lb n i = sv_al lO lb i (sv_e lO lb i) := by unfold sv_ad; rw [if_pos h]
theorem sv_ad_n : sv_ad lO lb n n = (sv_e lO lb n + 3) / 4 * 4 := by unfold sv_ad; rw [if_neg (by omega)]
theorem sv_ad_gap : sv_gap (sv_e lO lb i) (sv_ad lO lb n i) := by
  by_cases h : i < n
  · rw [sv_ad_lt h]; exact sv_al_gap
  · unfold sv_ad sv_gap; rw [if_neg h]; omega
theorem sv_ad_fit (h : i < n) : sv_ad lO lb n i % 4 + sv_sz (lO i) ≤ 4 := by rw [sv_ad_lt h]; exact sv_al_fit
theorem sv_ad_e (h : i < n) : sv_e lO lb (i + 1) = sv_ad lO lb n i + sv_sz (lO i) := by rw [sv_ad_lt h, sv_e]
theorem sv_ad_lab (h : i < n) (hl : sv_lab lb (nI i)) : sv_ad lO lb n i % 4 = 0 := by rw [sv_ad_lt h]; exact sv_al_lab hl
theorem sv_ad_n4 : sv_ad lO lb n n % 4 = 0 := by rw [sv_ad_n]; omega
theorem sv_ad_up (hn : n ≤ 20) (h : i ≤ n) : 32 ≤ sv_ad lO lb n i ∧ sv_ad lO lb n i ≤ 112 := by
  have g : sv_gap (sv_e lO lb i) (sv_ad lO lb n i) := sv_ad_gap
  have u := sv_e_up (lO := lO) (lb := lb) i
  unfold sv_gap at g
  omega
theorem sv_ad_0 : sv_ad lO lb n 0 = 32 := by
  have g : sv_gap (sv_e lO lb 0) (sv_ad lO lb n 0) := sv_ad_gap
  rw [sv_e] at g
  unfold sv_gap at g
  omega
theorem sv_ad_mono (hij : i < j) (hj : j ≤ n) : sv_ad lO lb n i + sv_sz (lO i) ≤ sv_e lO lb j := by
  induction j with
  | zero => omega
  | succ j ih =>
    by_cases h : i = j
    · rw [h, sv_ad_e (n := n) (by omega)]; omega
    · have h1 := ih (by omega) (by omega)
      have g : sv_gap (sv_e lO lb j) (sv_ad lO lb n j) := sv_ad_gap
      unfold sv_gap at g
      rw [sv_ad_e (n := n) (by omega)]
      omega
theorem sv_ad_mono2 (hij : i < j) (hj : j ≤ n) : sv_ad lO lb n i + sv_sz (lO i) ≤ sv_ad lO lb n j := by
  have h1 := sv_ad_mono (lO := lO) (lb := lb) hij hj
  have g : sv_gap (sv_e lO lb j) (sv_ad lO lb n j) := sv_ad_gap
  unfold sv_gap at g
  omega
theorem sv_ad_inj (hi : i ≤ n) (hj : j ≤ n) (e : sv_ad lO lb n i = sv_ad lO lb n j) : i = j := by
  have s1 := sv_sz1 (lO i)
  have s2 := sv_sz1 (lO j)
  rcases Nat.lt_trichotomy i j with h | h | h
  · have := sv_ad_mono2 (lO := lO) (lb := lb) h hj; omega
  · exact h
  · have := sv_ad_mono2 (lO := lO) (lb := lb) h hi; omega
end LA
/-- the two tables of places -/
def sv_At (n : Nat) (ad : Nat → Nat) (la lt : Nat → Int32) : Prop := (∀ j, j ≤ n → la j = nI (ad j)) ∧ (∀ j, j ≤ n → lt (ad j) = nI j) ∧ (∀ p, p < 128 → (∀ j, j ≤ n → p ≠ ad j) → lt p = -1)
theorem sv_al4 : ∀ e, e < 200 → (nI e + 3) &&& (-4) = nI ((e + 3) / 4 * 4) := by decide +kernel
section XL
variable {G LC N CU LD JD OU PC ST ES SR : Int32} {lO lA lB lI lb im cd sa la lt mk ds cs ce rg : Nat → Int32}
theorem sx_size {post : Int32 → Prop} {o : Int32} (h : post (nI (sv_sz o))) : wpX_sizeOf post (G, LC, N, CU, LD, JD, OU, PC, ST, ES, SR, lO, lA, lB, lI, lb, im, cd, sa, la, lt, mk, ds, cs, ce, rg) o := by
  unfold sv_sz at h
  have h4 : ¬ o = 2 → (o = 12 ∨ o = 13 ∨ o = 17 ∨ o = 18 ∨ o = 19) → wX_sizeOf_37 post G LC N CU LD JD OU PC ST ES SR lO lA lB lI lb im cd sa la lt mk ds cs ce rg := fun q2 q => by
    rw [if_neg q2, if_pos q] at h
    exact br_f sv_10 h
  refine br_c (fun e => ?_) (fun e0 => br_c (fun e => h4 e0 ?_) (fun e1 => br_c (fun e => h4 e0 ?_) (fun e2 => br_c (fun e => h4 e0 ?_) (fun e3 => br_c (fun e => h4 e0 ?_) (fun e4 => br_c (fun e => h4 e0 ?_) (fun e5 => br_t rfl ?_))))))
  · rwa [if_pos e] at h
  · exact Or.inl e
  · exact Or.inr (Or.inl e)
  · exact Or.inr (Or.inr (Or.inl e))
  · exact Or.inr (Or.inr (Or.inr (Or.inl e)))
  · exact Or.inr (Or.inr (Or.inr (Or.inr e)))
  · rw [if_neg e0, if_neg (fun q => by rcases q with q | q | q | q | q; exact e1 q; exact e2 q; exact e3 q; exact e4 q; exact e5 q)] at h
    exact h
theorem sx_islab {post : Int32 → Prop} {x : Int32} (h1 : sv_lab lb x → post 1) (h0 : ¬ sv_lab lb x → post 0) : wpX_isLabelled post (G, LC, N, CU, LD, JD, OU, PC, ST, ES, SR, lO, lA, lB, lI, lb, im, cd, sa, la, lt, mk, ds, cs, ce, rg) x := by
  have key : ∀ d k n, k + d = 8 → d < n → (∀ j, j < k → ¬ lb j = x) → wX_isLabelled_2 post x G LC N CU LD JD OU PC ST ES SR lO lA lB lI lb im cd sa la lt mk ds cs ce rg n (nI k) := by
    intro d
    induction d with
    | zero =>
      intro k n e hn hk
      obtain ⟨n, rfl⟩ : ∃ m, n = m + 1 := ⟨n - 1, by omega⟩
      obtain rfl : k = 8 := by omega
      exact br_t (by decide) (h0 (fun q => by obtain ⟨j, hj, ej⟩ := q; exact hk j hj ej))
    | succ d ih =>
      intro k n e hn hk
      obtain ⟨n, rfl⟩ : ∃ m, n = m + 1 := ⟨n - 1, by omega⟩
      have ek : (nI k).toNatClampNeg = k := nI_clamp (by omega)
      refine br_f (nI_ge (b := 8) (by omega) (by decide)) (And.intro (vp_in_nI (by omega) (by omega)) ?_)
      rw [ek]
      exact br_c (fun z => h1 ⟨k, by omega, z⟩) (fun z => nm_r (nI_1 k) (ih (k + 1) n (by omega) (by omega) (lt_s hk z)))
  exact Exists.intro 9 (key 8 0 9 rfl (by omega) (fun j hj => absurd hj (by omega)))
theorem sx_layout {post : SX → Prop} {m : Nat} (hm : m ≤ 20) (h : ∀ la' lt' : Nat → Int32, sv_At m (sv_ad lO lb m) la' lt' → post (G, LC, nI m, CU, LD, JD, OU, PC, ST, ES, SR, lO, lA, lB, lI, lb, im, cd, sa, la', lt', mk, ds, cs, ce, rg)) : wpX_layOut post (G, LC, nI m, CU, LD, JD, OU, PC, ST, ES, SR, lO, lA, lB, lI, lb, im, cd, sa, la, lt, mk, ds, cs, ce, rg) := by
  have key : ∀ d i n, i + d = m → d < n → ∀ la1 lt1 : Nat → Int32, (∀ j, j < i → la1 j = nI (sv_ad lO lb m j)) → (∀ j, j < i → lt1 (sv_ad lO lb m j) = nI j) → (∀ p, p < 128 → (∀ j, j < i → p ≠ sv_ad lO lb m j) → lt1 p = -1) → wX_layOut_27 post G LC (nI m) CU LD JD OU PC ST ES SR n (nI (sv_e lO lb i)) (nI i) lO lA lB lI lb im cd sa la1 lt1 mk ds cs ce rg := by
    intro d
    induction d with
    | zero =>
      intro i n e hn la1 lt1 k1 k2 k3
      obtain ⟨n, rfl⟩ : ∃ m, n = m + 1 := ⟨n - 1, by omega⟩
      obtain rfl : i = m := by omega
      have u := sv_e_up (lO := lO) (lb := lb) i
      have ua := sv_ad_up (lO := lO) (lb := lb) hm (Nat.le_refl i)
      have ea : (nI (sv_e lO lb i) + 3) &&& (-4) = nI (sv_ad lO lb i i) := by rw [sv_al4 _ (by omega), sv_ad_n]
      have c1 : (nI i).toNatClampNeg = i := nI_clamp (by omega)
      have c2 : (nI (sv_ad lO lb i i)).toNatClampNeg = sv_ad lO lb i i := nI_clamp (by omega)
      refine br_t (nI_le (Nat.le_refl _) (by omega)) (nm_r ea (And.intro (vp_in_nI (by omega) (by omega)) (nm_r (e' := upd la1 i (nI (sv_ad lO lb i i))) (by rw [c1]) (And.intro (vp_in_nI (by omega) (by omega)) (nm_r (e' := upd lt1 (sv_ad lO lb i i) (nI i)) (by rw [c2]) (h _ _ ⟨?_, ?_, ?_⟩))))))
      · intro j hj
        by_cases z : j = i
        · rw [z, pk_us]
        · rw [pk_un z]; exact k1 j (by omega)
      · intro j hj
        by_cases z : j = i
        · rw [z, pk_us]
        · rw [pk_un (fun q => z (sv_ad_inj (by omega) (by omega) q))]; exact k2 j (by omega)
      · intro p hp hq
        rw [pk_un (hq i (Nat.le_refl _))]
        exact k3 p hp (fun j hj => hq j (by omega))
    | succ d ih =>
      intro i n e hn la1 lt1 k1 k2 k3
      obtain ⟨n, rfl⟩ : ∃ m, n = m + 1 := ⟨n - 1, by omega⟩
      have hi : i < m := by omega
      have u := sv_e_up (lO := lO) (lb := lb) i
      have ua := sv_ad_up (lO := lO) (lb := lb) (i := i) hm (by omega)
      have s1 := sv_sz1 (lO i)
      have c1 : (nI i).toNatClampNeg = i := nI_clamp (by omega)
      have c2 : (nI (sv_ad lO lb m i)).toNatClampNeg = sv_ad lO lb m i := nI_clamp (by omega)
      have go : ∀ x : Int32, x = nI (sv_ad lO lb m i) → wX_layOut_70 post (wX_layOut_27 post G LC (nI m) CU LD JD OU PC ST ES SR n) x (nI i) (nI (sv_sz (lO i))) G LC (nI m) CU LD JD OU PC ST ES SR lO lA lB lI lb im cd sa la1 lt1 mk ds cs ce rg := by
        intro x hx
        subst hx
        refine And.intro (vp_in_nI (by omega) (by omega)) (nm_r (e' := upd la1 i (nI (sv_ad lO lb m i))) (by rw [c1]) (And.intro (vp_in_nI (by omega) (by omega)) (nm_r (e' := upd lt1 (sv_ad lO lb m i) (nI i)) (by rw [c2]) (nm_r (e' := nI (sv_e lO lb (i + 1))) (by rw [nI_add, sv_ad_e hi]) (nm_r (nI_1 i) (ih (i + 1) n (by omega) (by omega) _ _ ?_ ?_ ?_))))))
        · exact lt_s (fun j hj => by rw [pk_un (by omega)]; exact k1 j hj) pk_us
        · exact lt_s (fun j hj => by rw [pk_un (fun q => absurd (sv_ad_inj (by omega) (by omega) q) (by omega))]; exact k2 j hj) pk_us
        · intro p hp hq
          rw [pk_un (hq i (by omega))]
          exact k3 p hp (fun j hj => hq j (by omega))
      have gt : (sv_lab lb (nI i) ∨ ¬ sv_e lO lb i % 4 + sv_sz (lO i) ≤ 4) → wX_layOut_63 post (wX_layOut_27 post G LC (nI m) CU LD JD OU PC ST ES SR n) (nI (sv_e lO lb i)) (nI i) (nI (sv_sz (lO i))) G LC (nI m) CU LD JD OU PC ST ES SR lO lA lB lI lb im cd sa la1 lt1 mk ds cs ce rg := by
        intro hh
        exact nm_e (go _ (by rw [sv_al4 _ (by omega), sv_ad_lt hi, sv_al_t hh]))
      have e3 : nI (sv_e lO lb i) &&& 3 = nI (sv_e lO lb i % 4) := pk_andN (by omega) 2 (by decide)
      refine br_f (nI_ge hi (by omega)) (And.intro (vp_in_nI (by omega) (by omega)) ?_)
      rw [c1]
      refine sx_size (sx_islab (fun hl => br_f sv_10 (gt (Or.inl hl))) (fun hl => br_t rfl ?_))
      by_cases hf : sv_e lO lb i % 4 + sv_sz (lO i) ≤ 4
      · refine br_t ?_ (go _ (by rw [sv_ad_lt hi, sv_al_f (fun q => q.elim hl (fun z => z hf))]))
        rw [e3, nI_add]
        exact nI_le (b := 4) hf (by decide)
      · refine br_f ?_ (gt (Or.inr hf))
        rw [e3, nI_add]
        exact nI_ge (a := 4) (by omega) (by omega)
  refine sx_lay2 (Exists.intro (m + 1) (key m 0 (m + 1) (by omega) (by omega) la (sv_fl lt (-1) 128) (fun j hj => absurd hj (by omega)) (fun j hj => absurd hj (by omega)) (fun p hp _ => sv_fl_lo hp)))
end XL
end
section
/-! the rewritten code -/
def sv_wl (f : Nat → Int32) (p : Nat) : List Int32 → (Nat → Int32)
  | [] => f
  | w :: ws => sv_wl (upd f p w) (p + 1) ws
theorem sv_wl_off : ∀ (ws : List Int32) (f : Nat → Int32) (p r : Nat), (r < p ∨ p + ws.length ≤ r) → sv_wl f p ws r = f r := by
  intro ws
  induction ws with
  | nil => intro f p r _; rfl
  | cons w ws ih =>
    intro f p r h
    rw [List.length_cons] at h
    rw [sv_wl, ih _ _ _ (by omega), pk_un (by omega)]
theorem sv_wl_at : ∀ (ws : List Int32) (f : Nat → Int32) (p q : Nat), q < ws.length → sv_wl f p ws (p + q) = ws.getD q 0 := by
  intro ws
  induction ws with
  | nil => intro f p q h; exact absurd h (by simp)
  | cons w ws ih =>
    intro f p q h
    rw [List.length_cons] at h
    cases q with
    | zero => rw [sv_wl, sv_wl_off _ _ _ _ (by omega), Nat.add_zero, pk_us]; rfl
    | succ q =>
      have e : p + (q + 1) = (p + 1) + q := by omega
      rw [sv_wl, e, ih _ _ _ (by omega)]; rfl
noncomputable def sv_seq (G o a b m t : Int32) : List Int32 :=
  if o = 2 then [sv_pk 2 a 0 0, m]
  else if o = 12 then [sv_pk 3 6 b 0, sv_pk 9 6 0 (G - 1), sv_pk 10 6 0 G, sv_pk 12 a 6 0]
  else if o = 13 then [sv_pk 3 6 a 0, sv_pk 9 6 0 (G - 1), sv_pk 10 6 0 G, sv_pk 13 6 b 0]
  else if o = 18 then [sv_pk 8 7 0 (-1), sv_pk 9 7 0 (G - 1), sv_pk 10 7 0 G, sv_pk 13 7 a 0]
  else if o = 19 then [sv_pk 12 a 7 0, sv_pk 8 7 0 1, sv_pk 9 7 0 (G - 1), sv_pk 10 7 0 G]
  else if o = 17 then [sv_pk 3 6 a 0, sv_pk 11 6 0 2, sv_pk 9 6 0 28, sv_pk 17 6 0 0]
  else if o = 14 ∨ o = 15 ∨ o = 16 then [sv_pk o a 0 t]
  else [sv_pk o a b 0]
theorem sv_seq0 (G a b m t : Int32) : sv_seq G 0 a b m t = [sv_pk 0 a b 0] := by
  unfold sv_seq
  rw [if_neg (by decide), if_neg (by decide), if_neg (by decide), if_neg (by decide), if_neg (by decide), if_neg (by decide), if_neg (by decide)]
theorem sv_sz_0 : sv_sz 0 = 1 := by decide
theorem sv_seq2 (G a b m t : Int32) : sv_seq G 2 a b m t = [sv_pk 2 a 0 0, m] := by
  unfold sv_seq
  rw [if_pos rfl]
theorem sv_sz_2 : sv_sz 2 = 2 := by decide
theorem sv_seq3 (G a b m t : Int32) : sv_seq G 3 a b m t = [sv_pk 3 a b 0] := by
  unfold sv_seq
  rw [if_neg (by decide), if_neg (by decide), if_neg (by decide), if_neg (by decide), if_neg (by decide), if_neg (by decide), if_neg (by decide)]
theorem sv_sz_3 : sv_sz 3 = 1 := by decide
theorem sv_seq4 (G a b m t : Int32) : sv_seq G 4 a b m t = [sv_pk 4 a b 0] := by
  unfold sv_seq
  rw [if_neg (by decide), if_neg (by decide), if_neg (by decide), if_neg (by decide), if_neg (by decide), if_neg (by decide), if_neg (by decide)]
theorem sv_sz_4 : sv_sz 4 = 1 := by decide
theorem sv_seq5 (G a b m t : Int32) : sv_seq G 5 a b m t = [sv_pk 5 a b 0] := by
  unfold sv_seq
  rw [if_neg (by decide), if_neg (by decide), if_neg (by decide), if_neg (by decide), if_neg (by decide), if_neg (by decide), if_neg (by decide)]
theorem sv_sz_5 : sv_sz 5 = 1 := by decide
theorem sv_seq6 (G a b m t : Int32) : sv_seq G 6 a b m t = [sv_pk 6 a b 0] := by
  unfold sv_seq
  rw [if_neg (by decide), if_neg (by decide), if_neg (by decide), if_neg (by decide), if_neg (by decide), if_neg (by decide), if_neg (by decide)]
theorem sv_sz_6 : sv_sz 6 = 1 := by decide
theorem sv_seq7 (G a b m t : Int32) : sv_seq G 7 a b m t = [sv_pk 7 a b 0] := by
  unfold sv_seq
  rw [if_neg (by decide), if_neg (by decide), if_neg (by decide), if_neg (by decide), if_neg (by decide), if_neg (by decide), if_neg (by decide)]
theorem sv_sz_7 : sv_sz 7 = 1 := by decide
theorem sv_seq12 (G a b m t : Int32) : sv_seq G 12 a b m t = [sv_pk 3 6 b 0, sv_pk 9 6 0 (G - 1), sv_pk 10 6 0 G, sv_pk 12 a 6 0] := by
  unfold sv_seq
  rw [if_neg (by decide), if_pos rfl]
theorem sv_sz_12 : sv_sz 12 = 4 := by decide
theorem sv_seq13 (G a b m t : Int32) : sv_seq G 13 a b m t = [sv_pk 3 6 a 0, sv_pk 9 6 0 (G - 1), sv_pk 10 6 0 G, sv_pk 13 6 b 0] := by
  unfold sv_seq
  rw [if_neg (by decide), if_neg (by decide), if_pos rfl]
theorem sv_sz_13 : sv_sz 13 = 4 := by decide
theorem sv_seq14 (G a b m t : Int32) : sv_seq G 14 a b m t = [sv_pk 14 a 0 t] := by
  unfold sv_seq
  rw [if_neg (by decide), if_neg (by decide), if_neg (by decide), if_neg (by decide), if_neg (by decide), if_neg (by decide), if_pos (by decide)]
theorem sv_sz_14 : sv_sz 14 = 1 := by decide
theorem sv_seq15 (G a b m t : Int32) : sv_seq G 15 a b m t = [sv_pk 15 a 0 t] := by
  unfold sv_seq
  rw [if_neg (by decide), if_neg (by decide), if_neg (by decide), if_neg (by decide), if_neg (by decide), if_neg (by decide), if_pos (by decide)]
theorem sv_sz_15 : sv_sz 15 = 1 := by decide
theorem sv_seq16 (G a b m t : Int32) : sv_seq G 16 a b m t = [sv_pk 16 a 0 t] := by
  unfold sv_seq
  rw [if_neg (by decide), if_neg (by decide), if_neg (by decide), if_neg (by decide), if_neg (by decide), if_neg (by decide), if_pos (by decide)]
theorem sv_sz_16 : sv_sz 16 = 1 := by decide
theorem sv_seq17 (G a b m t : Int32) : sv_seq G 17 a b m t = [sv_pk 3 6 a 0, sv_pk 11 6 0 2, sv_pk 9 6 0 28, sv_pk 17 6 0 0] := by
  unfold sv_seq
  rw [if_neg (by decide), if_neg (by decide), if_neg (by decide), if_neg (by decide), if_neg (by decide), if_pos rfl]
theorem sv_sz_17 : sv_sz 17 = 4 := by decide
theorem sv_seq18 (G a b m t : Int32) : sv_seq G 18 a b m t = [sv_pk 8 7 0 (-1), sv_pk 9 7 0 (G - 1), sv_pk 10 7 0 G, sv_pk 13 7 a 0] := by
  unfold sv_seq
  rw [if_neg (by decide), if_neg (by decide), if_neg (by decide), if_pos rfl]
theorem sv_sz_18 : sv_sz 18 = 4 := by decide
theorem sv_seq19 (G a b m t : Int32) : sv_seq G 19 a b m t = [sv_pk 12 a 7 0, sv_pk 8 7 0 1, sv_pk 9 7 0 (G - 1), sv_pk 10 7 0 G] := by
  unfold sv_seq
  rw [if_neg (by decide), if_neg (by decide), if_neg (by decide), if_neg (by decide), if_pos rfl]
theorem sv_sz_19 : sv_sz 19 = 4 := by decide
theorem sv_srcE {o : Int32} (h : sv_src o) : o = 0 ∨ o = 2 ∨ o = 3 ∨ o = 4 ∨ o = 5 ∨ o = 6 ∨ o = 7 ∨ o = 12 ∨ o = 13 ∨ o = 14 ∨ o = 15 ∨ o = 16 ∨ o = 17 ∨ o = 18 ∨ o = 19 := by
  rcases h with rfl | ⟨h1, h2⟩ | ⟨h1, h2⟩
  · exact Or.inl rfl
  · obtain ⟨j, hj, rfl⟩ := nI_of2 (x := o) (M := 7) (n := 7) (by decide) (fun z => h1 (by
      have e2 : (2 : Int32).toInt = 2 := by decide
      have e0 : (0 : Int32).toInt = 0 := by decide
      rw [Int32.lt_iff_toInt_lt] at z ⊢; omega)) h2
    have : ¬ j < 2 := fun z => h1 (nI_lt (b := 2) z (by decide))
    have : j = 2 ∨ j = 3 ∨ j = 4 ∨ j = 5 ∨ j = 6 ∨ j = 7 := by omega
    rcases this with rfl | rfl | rfl | rfl | rfl | rfl <;> decide
  · obtain ⟨j, hj, rfl⟩ := nI_of2 (x := o) (M := 19) (n := 19) (by decide) (fun z => h1 (by
      have e2 : (12 : Int32).toInt = 12 := by decide
      have e0 : (0 : Int32).toInt = 0 := by decide
      rw [Int32.lt_iff_toInt_lt] at z ⊢; omega)) (Int32.not_lt.mp h2)
    have : ¬ j < 12 := fun z => h1 (nI_lt (b := 12) z (by decide))
    have : j = 12 ∨ j = 13 ∨ j = 14 ∨ j = 15 ∨ j = 16 ∨ j = 17 ∨ j = 18 ∨ j = 19 := by omega
    rcases this with rfl | rfl | rfl | rfl | rfl | rfl | rfl | rfl <;> decide
theorem sv_seqL {G o a b m t : Int32} (h : sv_src o) : (sv_seq G o a b m t).length = sv_sz o := by
  rcases sv_srcE h with rfl | rfl | rfl | rfl | rfl | rfl | rfl | rfl | rfl | rfl | rfl | rfl | rfl | rfl | rfl
  · rw [sv_seq0, sv_sz_0]; rfl
  · rw [sv_seq2, sv_sz_2]; rfl
  · rw [sv_seq3, sv_sz_3]; rfl
  · rw [sv_seq4, sv_sz_4]; rfl
  · rw [sv_seq5, sv_sz_5]; rfl
  · rw [sv_seq6, sv_sz_6]; rfl
  · rw [sv_seq7, sv_sz_7]; rfl
  · rw [sv_seq12, sv_sz_12]; rfl
  · rw [sv_seq13, sv_sz_13]; rfl
  · rw [sv_seq14, sv_sz_14]; rfl
  · rw [sv_seq15, sv_sz_15]; rfl
  · rw [sv_seq16, sv_sz_16]; rfl
  · rw [sv_seq17, sv_sz_17]; rfl
  · rw [sv_seq18, sv_sz_18]; rfl
  · rw [sv_seq19, sv_sz_19]; rfl
/-- the line a label stands for -/
def sv_tg (lb : Nat → Int32) (m k : Nat) : Nat := if 0 ≤ lb k then (lb k).toNatClampNeg else m
def sv_lbok (lb : Nat → Int32) (m : Nat) : Prop := ∀ k, k < 8 → ¬ 0 ≤ lb k ∨ ∃ l, l ≤ m ∧ lb k = nI l
theorem sv_tg_le {lb : Nat → Int32} {m k : Nat} (h : sv_lbok lb m) (hm : m ≤ 20) (hk : k < 8) : sv_tg lb m k ≤ m := by
  unfold sv_tg
  by_cases h0 : 0 ≤ lb k
  · rw [if_pos h0]
    rcases h k hk with z | ⟨l, hl, e⟩
    · exact absurd h0 z
    · rw [e, nI_clamp (by omega)]; exact hl
  · rw [if_neg h0]; exact Nat.le_refl _
theorem sv_tg_lab {lb : Nat → Int32} {m k : Nat} (h : sv_lbok lb m) (hm : m ≤ 20) (hk : k < 8) (hl : sv_tg lb m k < m) : sv_lab lb (nI (sv_tg lb m k)) := by
  refine ⟨k, hk, ?_⟩
  unfold sv_tg at hl ⊢
  by_cases h0 : 0 ≤ lb k
  · rw [if_pos h0]
    rcases h k hk with z | ⟨l, h1, e⟩
    · exact absurd h0 z
    · rw [e, nI_clamp (by omega)]
  · rw [if_neg h0] at hl; omega
/-- a label's place is a bundle's start -/
theorem sv_tg4 {lO lb : Nat → Int32} {m k : Nat} (h : sv_lbok lb m) (hm : m ≤ 20) (hk : k < 8) : sv_ad lO lb m (sv_tg lb m k) % 4 = 0 := by
  have h1 := sv_tg_le h hm hk
  by_cases h2 : sv_tg lb m k < m
  · exact sv_ad_lab h2 (sv_tg_lab h hm hk h2)
  · rw [show sv_tg lb m k = m by omega]; exact sv_ad_n4
noncomputable def sv_cel (G : Int32) (lO lA lB lI lb : Nat → Int32) (m j : Nat) : List Int32 := sv_seq G (lO j) (lA j) (lB j) (lI j) (nI (sv_ad lO lb m (sv_tg lb m (lI j &&& 7).toNatClampNeg)))
noncomputable def sv_pad (lO lb : Nat → Int32) (m k : Nat) : Int32 := sv_pk 14 0 0 (nI (sv_ad lO lb m (sv_tg lb m k)))
def sv_b0 (e j : Nat) : Int32 := if 32 ≤ j ∧ j < e then 1 else 0
/-- what the code holds -/
def sv_Cd (G : Int32) (lO lA lB lI lb : Nat → Int32) (m : Nat) (cd : Nat → Int32) : Prop :=
  (∀ k, k < 8 → cd (4 * k) = sv_pad lO lb m k) ∧ (∀ p, p < 32 → ¬ p % 4 = 0 → cd p = 0) ∧
  (∀ j, j < m → ∀ q, q < sv_sz (lO j) → cd (sv_ad lO lb m j + q) = (sv_cel G lO lA lB lI lb m j).getD q 0) ∧
  (∀ p, 32 ≤ p → p < sv_ad lO lb m m → (∀ j, j < m → p < sv_ad lO lb m j ∨ sv_ad lO lb m j + sv_sz (lO j) ≤ p) → cd p = 1) ∧
  (∀ p, sv_ad lO lb m m ≤ p → p < 128 → cd p = 0)
section XR
variable {G LC N CU LD JD OU PC ST ES SR : Int32} {lO lA lB lI lb im cd sa la lt mk ds cs ce rg : Nat → Int32}
theorem sx_cell {post : SX → Prop} {p : Nat} {w : Int32} (hp : p < 128) (h : post (G, LC, N, CU, LD, JD, nI (p + 1), PC, ST, ES, SR, lO, lA, lB, lI, lb, im, upd cd p w, sa, la, lt, mk, ds, cs, ce, rg)) : wpX_genCell post (G, LC, N, CU, LD, JD, nI p, PC, ST, ES, SR, lO, lA, lB, lI, lb, im, cd, sa, la, lt, mk, ds, cs, ce, rg) w := by
  have ep : (nI p).toNatClampNeg = p := nI_clamp (by omega)
  unfold wpX_genCell
  exact sx_wn (n := 128) hp (by omega) (br_f sv_10 (And.intro (vp_in_nI hp (by omega)) (nm_r (e' := upd cd p w) (by rw [ep]) (nm_r (nI_1 p) h))))
theorem sx_pack {post : Int32 → Prop} {o a b m : Int32} (h : post (sv_pk o a b m)) : wpX_pack post (G, LC, N, CU, LD, JD, OU, PC, ST, ES, SR, lO, lA, lB, lI, lb, im, cd, sa, la, lt, mk, ds, cs, ce, rg) o a b m := h
theorem sx_gen {post : SX → Prop} {p : Nat} {o a b m : Int32} (hp : p < 128) (h : post (G, LC, N, CU, LD, JD, nI (p + 1), PC, ST, ES, SR, lO, lA, lB, lI, lb, im, upd cd p (sv_pk o a b m), sa, la, lt, mk, ds, cs, ce, rg)) : wpX_gen post (G, LC, N, CU, LD, JD, nI p, PC, ST, ES, SR, lO, lA, lB, lI, lb, im, cd, sa, la, lt, mk, ds, cs, ce, rg) o a b m := by
  unfold wpX_gen
  exact sx_pack (sx_cell hp h)
theorem sx_fence {post : SX → Prop} {p : Nat} {x : Int32} (hp : p + 1 < 128) (h : post (G, LC, N, CU, LD, JD, nI (p + 2), PC, ST, ES, SR, lO, lA, lB, lI, lb, im, upd (upd cd p (sv_pk 9 x 0 (G - 1))) (p + 1) (sv_pk 10 x 0 G), sa, la, lt, mk, ds, cs, ce, rg)) : wpX_genFence post (G, LC, N, CU, LD, JD, nI p, PC, ST, ES, SR, lO, lA, lB, lI, lb, im, cd, sa, la, lt, mk, ds, cs, ce, rg) x := by
  unfold wpX_genFence
  exact sx_gen (by omega) (sx_gen hp h)
theorem sx_laddr {post : Int32 → Prop} {m k : Nat} {x : Int32} (hm : m ≤ 20) (hl : sv_lbok lb m) (hA : ∀ j, j ≤ m → la j = nI (sv_ad lO lb m j)) (hk : (x &&& 7).toNatClampNeg = k) (h : post (nI (sv_ad lO lb m (sv_tg lb m k)))) : wpX_labelAddr post (G, LC, nI m, CU, LD, JD, OU, PC, ST, ES, SR, lO, lA, lB, lI, lb, im, cd, sa, la, lt, mk, ds, cs, ce, rg) x := by
  obtain ⟨k', hk', e⟩ := pk_andE x (m := 7) 3 (by decide)
  have ek : k' = k := by rw [e, nI_clamp (by omega)] at hk; exact hk
  subst ek
  refine And.intro (sv_in7 x) (nm_r (e' := lb k') (by rw [hk]) ?_)
  unfold sv_tg at h
  by_cases h0 : 0 ≤ lb k'
  · rw [if_pos h0] at h
    rcases hl k' hk' with z | ⟨l, h1, e1⟩
    · exact absurd h0 z
    · have c : (lb k').toNatClampNeg = l := by rw [e1]; exact nI_clamp (by omega)
      refine br_t h0 (And.intro (by rw [e1]; exact vp_in_nI (by omega) (by omega)) ?_)
      rw [c] at h ⊢
      rw [hA l h1]; exact h
  · rw [if_neg h0] at h
    refine br_f h0 (And.intro (vp_in_nI (by omega) (by omega)) ?_)
    rw [nI_clamp (by omega), hA m (Nat.le_refl _)]; exact h
section XG
variable {post : SX → Prop} {p m k : Nat} {a b i t : Int32}
theorem sx_gl2 (hp : p + 2 ≤ 128) (h : post (G, LC, N, CU, LD, JD, nI (p + 2), PC, ST, ES, SR, lO, lA, lB, lI, lb, im, sv_wl cd p (sv_seq G 2 a b i t), sa, la, lt, mk, ds, cs, ce, rg)) : wpX_genLine post (G, LC, N, CU, LD, JD, nI p, PC, ST, ES, SR, lO, lA, lB, lI, lb, im, cd, sa, la, lt, mk, ds, cs, ce, rg) 2 a b i := by
  rw [sv_seq2] at h
  exact br_t rfl (sx_gen (by omega) (sx_cell (p := p + 1) (by omega) h))
theorem sx_gl12 (hp : p + 4 ≤ 128) (h : post (G, LC, N, CU, LD, JD, nI (p + 4), PC, ST, ES, SR, lO, lA, lB, lI, lb, im, sv_wl cd p (sv_seq G 12 a b i t), sa, la, lt, mk, ds, cs, ce, rg)) : wpX_genLine post (G, LC, N, CU, LD, JD, nI p, PC, ST, ES, SR, lO, lA, lB, lI, lb, im, cd, sa, la, lt, mk, ds, cs, ce, rg) 12 a b i := by
  rw [sv_seq12] at h
  exact br_f (by decide) (br_t rfl (sx_gen (by omega) (sx_fence (p := p + 1) (by omega) (sx_gen (p := p + 3) (by omega) h))))
theorem sx_gl13 (hp : p + 4 ≤ 128) (h : post (G, LC, N, CU, LD, JD, nI (p + 4), PC, ST, ES, SR, lO, lA, lB, lI, lb, im, sv_wl cd p (sv_seq G 13 a b i t), sa, la, lt, mk, ds, cs, ce, rg)) : wpX_genLine post (G, LC, N, CU, LD, JD, nI p, PC, ST, ES, SR, lO, lA, lB, lI, lb, im, cd, sa, la, lt, mk, ds, cs, ce, rg) 13 a b i := by
  rw [sv_seq13] at h
  exact br_f (by decide) (br_f (by decide) (br_t rfl (sx_gen (by omega) (sx_fence (p := p + 1) (by omega) (sx_gen (p := p + 3) (by omega) h)))))
theorem sx_gl18 (hp : p + 4 ≤ 128) (h : post (G, LC, N, CU, LD, JD, nI (p + 4), PC, ST, ES, SR, lO, lA, lB, lI, lb, im, sv_wl cd p (sv_seq G 18 a b i t), sa, la, lt, mk, ds, cs, ce, rg)) : wpX_genLine post (G, LC, N, CU, LD, JD, nI p, PC, ST, ES, SR, lO, lA, lB, lI, lb, im, cd, sa, la, lt, mk, ds, cs, ce, rg) 18 a b i := by
  rw [sv_seq18] at h
  exact br_f (by decide) (br_f (by decide) (br_f (by decide) (br_t rfl (sx_gen (by omega) (sx_fence (p := p + 1) (by omega) (sx_gen (p := p + 3) (by omega) h))))))
theorem sx_gl19 (hp : p + 4 ≤ 128) (h : post (G, LC, N, CU, LD, JD, nI (p + 4), PC, ST, ES, SR, lO, lA, lB, lI, lb, im, sv_wl cd p (sv_seq G 19 a b i t), sa, la, lt, mk, ds, cs, ce, rg)) : wpX_genLine post (G, LC, N, CU, LD, JD, nI p, PC, ST, ES, SR, lO, lA, lB, lI, lb, im, cd, sa, la, lt, mk, ds, cs, ce, rg) 19 a b i := by
  rw [sv_seq19] at h
  exact br_f (by decide) (br_f (by decide) (br_f (by decide) (br_f (by decide) (br_t rfl (sx_gen (by omega) (sx_gen (p := p + 1) (by omega) (sx_fence (p := p + 2) (by omega) h)))))))
theorem sx_gl17 (hp : p + 4 ≤ 128) (h : post (G, LC, N, CU, LD, JD, nI (p + 4), PC, ST, ES, SR, lO, lA, lB, lI, lb, im, sv_wl cd p (sv_seq G 17 a b i t), sa, la, lt, mk, ds, cs, ce, rg)) : wpX_genLine post (G, LC, N, CU, LD, JD, nI p, PC, ST, ES, SR, lO, lA, lB, lI, lb, im, cd, sa, la, lt, mk, ds, cs, ce, rg) 17 a b i := by
  rw [sv_seq17] at h
  refine br_f (by decide) (br_f (by decide) (br_f (by decide) (br_f (by decide) (br_f (by decide) (?_)))))
  unfold wpX_genPlain
  exact sx_dir (fun z => absurd z.2 (by decide)) (fun _ => br_t rfl (br_t rfl (sx_gen (by omega) (sx_gen (p := p + 1) (by omega) (sx_gen (p := p + 2) (by omega) (sx_gen (p := p + 3) (by omega) h))))))
theorem sx_gl0 (hp : p + 1 ≤ 128) (h : post (G, LC, N, CU, LD, JD, nI (p + 1), PC, ST, ES, SR, lO, lA, lB, lI, lb, im, sv_wl cd p (sv_seq G 0 a b i t), sa, la, lt, mk, ds, cs, ce, rg)) : wpX_genLine post (G, LC, N, CU, LD, JD, nI p, PC, ST, ES, SR, lO, lA, lB, lI, lb, im, cd, sa, la, lt, mk, ds, cs, ce, rg) 0 a b i := by
  rw [sv_seq0] at h
  refine br_f (by decide) (br_f (by decide) (br_f (by decide) (br_f (by decide) (br_f (by decide) (?_)))))
  unfold wpX_genPlain
  exact sx_dir (fun z => absurd z.1 (by decide)) (fun _ => br_t rfl (br_f (by decide) (sx_gen (by omega) h)))
theorem sx_gl3 (hp : p + 1 ≤ 128) (h : post (G, LC, N, CU, LD, JD, nI (p + 1), PC, ST, ES, SR, lO, lA, lB, lI, lb, im, sv_wl cd p (sv_seq G 3 a b i t), sa, la, lt, mk, ds, cs, ce, rg)) : wpX_genLine post (G, LC, N, CU, LD, JD, nI p, PC, ST, ES, SR, lO, lA, lB, lI, lb, im, cd, sa, la, lt, mk, ds, cs, ce, rg) 3 a b i := by
  rw [sv_seq3] at h
  refine br_f (by decide) (br_f (by decide) (br_f (by decide) (br_f (by decide) (br_f (by decide) (?_)))))
  unfold wpX_genPlain
  exact sx_dir (fun z => absurd z.1 (by decide)) (fun _ => br_t rfl (br_f (by decide) (sx_gen (by omega) h)))
theorem sx_gl4 (hp : p + 1 ≤ 128) (h : post (G, LC, N, CU, LD, JD, nI (p + 1), PC, ST, ES, SR, lO, lA, lB, lI, lb, im, sv_wl cd p (sv_seq G 4 a b i t), sa, la, lt, mk, ds, cs, ce, rg)) : wpX_genLine post (G, LC, N, CU, LD, JD, nI p, PC, ST, ES, SR, lO, lA, lB, lI, lb, im, cd, sa, la, lt, mk, ds, cs, ce, rg) 4 a b i := by
  rw [sv_seq4] at h
  refine br_f (by decide) (br_f (by decide) (br_f (by decide) (br_f (by decide) (br_f (by decide) (?_)))))
  unfold wpX_genPlain
  exact sx_dir (fun z => absurd z.1 (by decide)) (fun _ => br_t rfl (br_f (by decide) (sx_gen (by omega) h)))
theorem sx_gl5 (hp : p + 1 ≤ 128) (h : post (G, LC, N, CU, LD, JD, nI (p + 1), PC, ST, ES, SR, lO, lA, lB, lI, lb, im, sv_wl cd p (sv_seq G 5 a b i t), sa, la, lt, mk, ds, cs, ce, rg)) : wpX_genLine post (G, LC, N, CU, LD, JD, nI p, PC, ST, ES, SR, lO, lA, lB, lI, lb, im, cd, sa, la, lt, mk, ds, cs, ce, rg) 5 a b i := by
  rw [sv_seq5] at h
  refine br_f (by decide) (br_f (by decide) (br_f (by decide) (br_f (by decide) (br_f (by decide) (?_)))))
  unfold wpX_genPlain
  exact sx_dir (fun z => absurd z.1 (by decide)) (fun _ => br_t rfl (br_f (by decide) (sx_gen (by omega) h)))
theorem sx_gl6 (hp : p + 1 ≤ 128) (h : post (G, LC, N, CU, LD, JD, nI (p + 1), PC, ST, ES, SR, lO, lA, lB, lI, lb, im, sv_wl cd p (sv_seq G 6 a b i t), sa, la, lt, mk, ds, cs, ce, rg)) : wpX_genLine post (G, LC, N, CU, LD, JD, nI p, PC, ST, ES, SR, lO, lA, lB, lI, lb, im, cd, sa, la, lt, mk, ds, cs, ce, rg) 6 a b i := by
  rw [sv_seq6] at h
  refine br_f (by decide) (br_f (by decide) (br_f (by decide) (br_f (by decide) (br_f (by decide) (?_)))))
  unfold wpX_genPlain
  exact sx_dir (fun z => absurd z.1 (by decide)) (fun _ => br_t rfl (br_f (by decide) (sx_gen (by omega) h)))
theorem sx_gl7 (hp : p + 1 ≤ 128) (h : post (G, LC, N, CU, LD, JD, nI (p + 1), PC, ST, ES, SR, lO, lA, lB, lI, lb, im, sv_wl cd p (sv_seq G 7 a b i t), sa, la, lt, mk, ds, cs, ce, rg)) : wpX_genLine post (G, LC, N, CU, LD, JD, nI p, PC, ST, ES, SR, lO, lA, lB, lI, lb, im, cd, sa, la, lt, mk, ds, cs, ce, rg) 7 a b i := by
  rw [sv_seq7] at h
  refine br_f (by decide) (br_f (by decide) (br_f (by decide) (br_f (by decide) (br_f (by decide) (?_)))))
  unfold wpX_genPlain
  exact sx_dir (fun z => absurd z.1 (by decide)) (fun _ => br_t rfl (br_f (by decide) (sx_gen (by omega) h)))
theorem sx_gl14 (hm : m ≤ 20) (hl : sv_lbok lb m) (hA : ∀ j, j ≤ m → la j = nI (sv_ad lO lb m j)) (hk : (i &&& 7).toNatClampNeg = k) (hp : p + 1 ≤ 128) (h : post (G, LC, nI m, CU, LD, JD, nI (p + 1), PC, ST, ES, SR, lO, lA, lB, lI, lb, im, sv_wl cd p (sv_seq G 14 a b i (nI (sv_ad lO lb m (sv_tg lb m k)))), sa, la, lt, mk, ds, cs, ce, rg)) : wpX_genLine post (G, LC, nI m, CU, LD, JD, nI p, PC, ST, ES, SR, lO, lA, lB, lI, lb, im, cd, sa, la, lt, mk, ds, cs, ce, rg) 14 a b i := by
  rw [sv_seq14] at h
  refine br_f (by decide) (br_f (by decide) (br_f (by decide) (br_f (by decide) (br_f (by decide) (?_)))))
  unfold wpX_genPlain
  exact sx_dir (fun _ => br_f sv_10 (sx_laddr hm hl hA hk (sx_gen (by omega) h))) (fun z => absurd (show sv_dir 14 from ⟨by decide, by decide⟩) z)
theorem sx_gl15 (hm : m ≤ 20) (hl : sv_lbok lb m) (hA : ∀ j, j ≤ m → la j = nI (sv_ad lO lb m j)) (hk : (i &&& 7).toNatClampNeg = k) (hp : p + 1 ≤ 128) (h : post (G, LC, nI m, CU, LD, JD, nI (p + 1), PC, ST, ES, SR, lO, lA, lB, lI, lb, im, sv_wl cd p (sv_seq G 15 a b i (nI (sv_ad lO lb m (sv_tg lb m k)))), sa, la, lt, mk, ds, cs, ce, rg)) : wpX_genLine post (G, LC, nI m, CU, LD, JD, nI p, PC, ST, ES, SR, lO, lA, lB, lI, lb, im, cd, sa, la, lt, mk, ds, cs, ce, rg) 15 a b i := by
  rw [sv_seq15] at h
  refine br_f (by decide) (br_f (by decide) (br_f (by decide) (br_f (by decide) (br_f (by decide) (?_)))))
  unfold wpX_genPlain
  exact sx_dir (fun _ => br_f sv_10 (sx_laddr hm hl hA hk (sx_gen (by omega) h))) (fun z => absurd (show sv_dir 15 from ⟨by decide, by decide⟩) z)
theorem sx_gl16 (hm : m ≤ 20) (hl : sv_lbok lb m) (hA : ∀ j, j ≤ m → la j = nI (sv_ad lO lb m j)) (hk : (i &&& 7).toNatClampNeg = k) (hp : p + 1 ≤ 128) (h : post (G, LC, nI m, CU, LD, JD, nI (p + 1), PC, ST, ES, SR, lO, lA, lB, lI, lb, im, sv_wl cd p (sv_seq G 16 a b i (nI (sv_ad lO lb m (sv_tg lb m k)))), sa, la, lt, mk, ds, cs, ce, rg)) : wpX_genLine post (G, LC, nI m, CU, LD, JD, nI p, PC, ST, ES, SR, lO, lA, lB, lI, lb, im, cd, sa, la, lt, mk, ds, cs, ce, rg) 16 a b i := by
  rw [sv_seq16] at h
  refine br_f (by decide) (br_f (by decide) (br_f (by decide) (br_f (by decide) (br_f (by decide) (?_)))))
  unfold wpX_genPlain
  exact sx_dir (fun _ => br_f sv_10 (sx_laddr hm hl hA hk (sx_gen (by omega) h))) (fun z => absurd (show sv_dir 16 from ⟨by decide, by decide⟩) z)
theorem sx_gline {o : Int32} (hs : sv_src o) (hm : m ≤ 20) (hl : sv_lbok lb m) (hA : ∀ j, j ≤ m → la j = nI (sv_ad lO lb m j)) (hp : p + sv_sz o ≤ 128) (h : post (G, LC, nI m, CU, LD, JD, nI (p + sv_sz o), PC, ST, ES, SR, lO, lA, lB, lI, lb, im, sv_wl cd p (sv_seq G o a b i (nI (sv_ad lO lb m (sv_tg lb m (i &&& 7).toNatClampNeg)))), sa, la, lt, mk, ds, cs, ce, rg)) : wpX_genLine post (G, LC, nI m, CU, LD, JD, nI p, PC, ST, ES, SR, lO, lA, lB, lI, lb, im, cd, sa, la, lt, mk, ds, cs, ce, rg) o a b i := by
  rcases sv_srcE hs with rfl | rfl | rfl | rfl | rfl | rfl | rfl | rfl | rfl | rfl | rfl | rfl | rfl | rfl | rfl
  · rw [sv_sz_0] at hp h; exact sx_gl0 hp h
  · rw [sv_sz_2] at hp h; exact sx_gl2 hp h
  · rw [sv_sz_3] at hp h; exact sx_gl3 hp h
  · rw [sv_sz_4] at hp h; exact sx_gl4 hp h
  · rw [sv_sz_5] at hp h; exact sx_gl5 hp h
  · rw [sv_sz_6] at hp h; exact sx_gl6 hp h
  · rw [sv_sz_7] at hp h; exact sx_gl7 hp h
  · rw [sv_sz_12] at hp h; exact sx_gl12 hp h
  · rw [sv_sz_13] at hp h; exact sx_gl13 hp h
  · rw [sv_sz_14] at hp h; exact sx_gl14 hm hl hA rfl hp h
  · rw [sv_sz_15] at hp h; exact sx_gl15 hm hl hA rfl hp h
  · rw [sv_sz_16] at hp h; exact sx_gl16 hm hl hA rfl hp h
  · rw [sv_sz_17] at hp h; exact sx_gl17 hp h
  · rw [sv_sz_18] at hp h; exact sx_gl18 hp h
  · rw [sv_sz_19] at hp h; exact sx_gl19 hp h
end XG
theorem sx_rewrite {post : SX → Prop} {m : Nat} (hm : m ≤ 20) (hl : sv_lbok lb m) (hs : ∀ j, j < m → sv_src (lO j)) (hA : ∀ j, j ≤ m → la j = nI (sv_ad lO lb m j)) (h : ∀ (ou : Int32) (cd' : Nat → Int32), sv_Cd G lO lA lB lI lb m cd' → post (G, LC, nI m, CU, LD, JD, ou, PC, ST, ES, SR, lO, lA, lB, lI, lb, im, cd', sa, la, lt, mk, ds, cs, ce, rg)) : wpX_rewrite post (G, LC, nI m, CU, LD, JD, OU, PC, ST, ES, SR, lO, lA, lB, lI, lb, im, cd, sa, la, lt, mk, ds, cs, ce, rg) := by
  have am := sv_ad_up (lO := lO) (lb := lb) hm (Nat.le_refl m)
  -- the lines
  have k85 : ∀ d i n, i + d = m → d < n → ∀ (OU : Int32) (cd1 : Nat → Int32), (∀ k, k < 8 → cd1 (4 * k) = sv_pad lO lb m k) → (∀ p, p < 32 → ¬ p % 4 = 0 → cd1 p = 0) →
      (∀ j, j < i → ∀ q, q < sv_sz (lO j) → cd1 (sv_ad lO lb m j + q) = (sv_cel G lO lA lB lI lb m j).getD q 0) →
      (∀ p, 32 ≤ p → p < 128 → (∀ j, j < i → p < sv_ad lO lb m j ∨ sv_ad lO lb m j + sv_sz (lO j) ≤ p) → cd1 p = sv_b0 (sv_ad lO lb m m) p) → wX_rewrite_85 post n (nI i) G LC (nI m) CU LD JD OU PC ST ES SR lO lA lB lI lb im cd1 sa la lt mk ds cs ce rg := by
    intro d
    induction d with
    | zero =>
      intro i n e hn OU cd1 g1 g2 g3 g4
      obtain ⟨n, rfl⟩ : ∃ m, n = m + 1 := ⟨n - 1, by omega⟩
      obtain rfl : i = m := by omega
      refine br_t (nI_le (Nat.le_refl _) (by omega)) (h _ _ ⟨g1, g2, g3, ?_, ?_⟩)
      · intro p h1 h2 h3
        rw [g4 p h1 (by omega) h3]; exact if_pos ⟨h1, h2⟩
      · intro p h1 h2
        rw [g4 p (by omega) h2 (fun j hj => Or.inr (by have := sv_ad_mono2 (lO := lO) (lb := lb) hj (Nat.le_refl i); omega))]
        exact if_neg (by omega)
    | succ d ih =>
      intro i n e hn OU cd1 g1 g2 g3 g4
      obtain ⟨n, rfl⟩ : ∃ m, n = m + 1 := ⟨n - 1, by omega⟩
      have hi : i < m := by omega
      have c1 : (nI i).toNatClampNeg = i := nI_clamp (by omega)
      have v20 : vp_in (nI i) 20 := vp_in_nI (by omega) (by omega)
      have ui := sv_ad_up (lO := lO) (lb := lb) hm (Nat.le_of_lt hi)
      have ue := sv_ad_mono2 (lO := lO) (lb := lb) hi (Nat.le_refl m)
      have hL : (sv_cel G lO lA lB lI lb m i).length = sv_sz (lO i) := sv_seqL (hs i hi)
      refine br_f (nI_ge hi (by omega)) (And.intro (vp_in_nI (by omega) (by omega)) (nm_r (e' := nI (sv_ad lO lb m i)) (by rw [c1]; exact hA i (by omega)) (And.intro v20 (And.intro v20 (And.intro v20 (And.intro v20 ?_))))))
      rw [c1]
      refine sx_gline (hs i hi) hm hl hA (by omega) (nm_r (nI_1 i) (ih (i + 1) n (by omega) (by omega) _ _ ?_ ?_ ?_ ?_))
      · intro k hk
        refine (sv_wl_off (sv_cel G lO lA lB lI lb m i) _ _ _ (Or.inl (by omega))).trans (g1 k hk)
      · intro p hp h4
        refine (sv_wl_off (sv_cel G lO lA lB lI lb m i) _ _ _ (Or.inl (by omega))).trans (g2 p hp h4)
      · refine lt_s (fun j hj q hq => ?_) (fun q hq => sv_wl_at (sv_cel G lO lA lB lI lb m i) _ _ _ (by rw [hL]; exact hq))
        have := sv_ad_mono2 (lO := lO) (lb := lb) hj (Nat.le_of_lt hi)
        exact (sv_wl_off (sv_cel G lO lA lB lI lb m i) _ _ _ (Or.inl (by omega))).trans (g3 j hj q hq)
      · intro p h1 h2 h3
        refine (sv_wl_off (sv_cel G lO lA lB lI lb m i) _ _ _ ?_).trans (g4 p h1 h2 (fun j hj => h3 j (by omega)))
        rw [hL]; exact h3 i (by omega)
  -- the pads
  have k49 : ∀ d k n, k + d = 8 → d < n → ∀ (OU : Int32) (cd1 : Nat → Int32), (∀ j, j < k → cd1 (4 * j) = sv_pad lO lb m j) → (∀ p, p < 128 → (∀ j, j < k → p ≠ 4 * j) → cd1 p = sv_b0 (sv_ad lO lb m m) p) → wX_rewrite_49 post n (nI k) G LC (nI m) CU LD JD OU PC ST ES SR lO lA lB lI lb im cd1 sa la lt mk ds cs ce rg := by
    intro d
    induction d with
    | zero =>
      intro k n e hn OU cd1 g1 g2
      obtain ⟨n, rfl⟩ : ∃ m, n = m + 1 := ⟨n - 1, by omega⟩
      obtain rfl : k = 8 := by omega
      refine br_t (by decide) (Exists.intro (m + 1) (k85 m 0 (m + 1) (by omega) (by omega) OU cd1 g1 ?_ (fun j hj => absurd hj (by omega)) ?_))
      · intro p hp h4
        rw [g2 p (by omega) (fun j hj => by omega)]
        exact if_neg (by omega)
      · intro p h1 h2 _
        exact g2 p h2 (fun j hj => by omega)
    | succ d ih =>
      intro k n e hn OU cd1 g1 g2
      obtain ⟨n, rfl⟩ : ∃ m, n = m + 1 := ⟨n - 1, by omega⟩
      have ek : (nI k &&& 7).toNatClampNeg = k := by rw [sv_a7 (by omega)]; exact nI_clamp (by omega)
      refine br_f (nI_ge (b := 8) (by omega) (by decide)) (sx_laddr hm hl hA ek (nm_r (e' := nI (4 * k)) (pk_mul 4 k) (sx_gen (by omega) (nm_r (nI_1 k) (ih (k + 1) n (by omega) (by omega) _ _ ?_ ?_)))))
      · refine lt_s (fun j hj => ?_) pk_us
        rw [pk_un (by omega)]; exact g1 j hj
      · intro p hp hq
        rw [pk_un (hq k (by omega))]
        exact g2 p hp (fun j hj => hq j (by omega))
  -- the ground
  have k12 : ∀ d k n, k + d = 128 → d < n → wX_rewrite_12 post (nI (sv_ad lO lb m m)) G LC (nI m) CU LD JD OU PC ST ES SR n (nI k) lO lA lB lI lb im (sv_cp cd (sv_b0 (sv_ad lO lb m m)) k) sa la lt mk ds cs ce rg := by
    intro d
    induction d with
    | zero =>
      intro k n e hn
      obtain ⟨n, rfl⟩ : ∃ m, n = m + 1 := ⟨n - 1, by omega⟩
      obtain rfl : k = 128 := by omega
      exact br_t (by decide) (Exists.intro 9 (k49 8 0 9 rfl (by omega) OU _ (fun j hj => absurd hj (by omega)) (fun p hp _ => if_pos hp)))
    | succ d ih =>
      intro k n e hn
      obtain ⟨n, rfl⟩ : ∃ m, n = m + 1 := ⟨n - 1, by omega⟩
      have ek : (nI k).toNatClampNeg = k := nI_clamp (by omega)
      have v : vp_in (nI k) 128 := vp_in_nI (by omega) (by omega)
      have nx := ih (k + 1) n (by omega) (by omega)
      have st : ∀ w : Int32, sv_b0 (sv_ad lO lb m m) k = w → upd (sv_cp cd (sv_b0 (sv_ad lO lb m m)) k) (nI k).toNatClampNeg w = sv_cp cd (sv_b0 (sv_ad lO lb m m)) (k + 1) := fun w hw => by rw [ek, ← hw, sv_cps]
      refine br_f (nI_ge (b := 128) (by omega) (by decide)) ?_
      by_cases h32 : k < 32
      · exact br_t (nI_lt (b := 32) h32 (by decide)) (And.intro v (nm_r (st 0 (if_neg (by omega))) (nm_r (nI_1 k) nx)))
      · refine br_f (nI_nlt (b := 32) (by omega) (by omega)) ?_
        by_cases he : sv_ad lO lb m m ≤ k
        · exact br_t (nI_le he (by omega)) (And.intro v (nm_r (st 0 (if_neg (by omega))) (nm_r (nI_1 k) nx)))
        · exact br_f (nI_ge (by omega) (by omega)) (And.intro v (nm_r (st 1 (if_pos (by omega))) (nm_r (nI_1 k) nx)))
  have k0 := k12 128 0 129 rfl (by omega)
  rw [sv_cp0] at k0
  refine And.intro (vp_in_nI (by omega) (by omega)) (nm_r (e' := nI (sv_ad lO lb m m)) ?_ (Exists.intro 129 k0))
  rw [nI_clamp (by omega)]
  exact hA m (Nat.le_refl _)
end XR
end
section
/-! rewritten code is accepted -/
section AC
variable {c : Nat → Int32} {G : Int32}
def sv_gd (c : Nat → Int32) (G : Int32) (p : Nat) : Prop := sv_st c p = true ∧ sv_ds c G 7 (p / 4 * 4) (p % 4) = true
theorem sv_gd4 {p : Nat} (h : p % 4 = 0) : sv_gd c G p := ⟨sv_st4 h, by rw [h]; rfl⟩
def sv_ck (c : Nat → Int32) (G : Int32) (p s : Nat) : Prop := (∀ q, p ≤ q → q < p + s → sv_st c q = true → sv_fa c G q = 0) ∧ sv_gd c G (p + s)
theorem sv_opne {w m : Int32} {o a b k : Nat} (hd : sv_De w o a b m) (ho : o < 256) (hk : k < 256) (h : o ≠ k) : ¬ sv_op w = nI k := fun z => h ((nI_eq (by omega) (by omega)).mp (hd.1.symm.trans z))
theorem sv_oplt {w m : Int32} {o a b k : Nat} (hd : sv_De w o a b m) (ho : o < 256) (hk : k < 256) : sv_op w < nI k ↔ o < k := by rw [hd.1]; exact nI_ltI (by omega) (by omega)
theorem sv_dirN {w m : Int32} {o a b : Nat} (hd : sv_De w o a b m) (ho : o < 256) : sv_dir (sv_op w) ↔ (14 ≤ o ∧ o ≤ 16) := by
  have h1 : sv_op w < 14 ↔ o < 14 := sv_oplt (k := 14) hd ho (by omega)
  have h2 : 16 < sv_op w ↔ 16 < o := by rw [hd.1]; exact nI_ltI (a := 16) (by omega) (by omega)
  unfold sv_dir
  rw [h1, h2]; omega
theorem sv_wwN {w m : Int32} {o a b : Nat} (hd : sv_De w o a b m) (ho : o < 256) : sv_ww w = decide (2 ≤ o ∧ o ≤ 12) := by
  have h1 : sv_op w < 2 ↔ o < 2 := sv_oplt (k := 2) hd ho (by omega)
  have h2 : 12 < sv_op w ↔ 12 < o := by rw [hd.1]; exact nI_ltI (a := 12) (by omega) (by omega)
  unfold sv_ww
  by_cases x : o < 2
  · rw [decide_eq_true (h1.mpr x), decide_eq_false (show ¬ (2 ≤ o ∧ o ≤ 12) by omega)]; rfl
  · rw [decide_eq_false (fun z => x (h1.mp z))]
    by_cases y : 12 < o
    · rw [decide_eq_true (h2.mpr y), decide_eq_false (show ¬ (2 ≤ o ∧ o ≤ 12) by omega)]; rfl
    · rw [decide_eq_false (fun z => y (h2.mp z)), decide_eq_true (show 2 ≤ o ∧ o ≤ 12 by omega)]; rfl
/-- no fault -/
theorem sv_fq {q o a b : Nat} {m : Int32} (hd : sv_De (c q) o a b m) (ho : o ≤ 17) (h2 : o ≠ 2) (h3 : (14 ≤ o ∧ o ≤ 16) → sv_ba m = true) (h4 : o = 17 → sv_cs c (nI a) (q / 4 * 4) (q % 4) = true) (h5 : o = 13 → sv_ds c G (nI a) (q / 4 * 4) (q % 4) = true) (h6a : 14 ≤ o → sv_ds c G 7 (q / 4 * 4) (q % 4) = true) (h6b : (q % 4 = 3 ∧ o ≠ 0 ∧ o ≠ 14 ∧ o ≠ 17) → sv_ds c G 7 (q / 4 * 4) (q % 4 + 1) = true) (h7 : q < 124 ∨ o = 0 ∨ o = 14 ∨ o = 17) : sv_fa c G q = 0 := by
  have op2 : ¬ sv_op (c q) = 2 := sv_opne (k := 2) hd (by omega) (by omega) h2
  have of : sv_of (c q) q → (q % 4 = 3 ∧ o ≠ 0 ∧ o ≠ 14 ∧ o ≠ 17) := by
    rintro ⟨z1, z2, z3, z4⟩
    unfold sv_lz at z1
    rw [if_neg op2] at z1
    refine ⟨by omega, fun e => z2 ?_, fun e => z3 ?_, fun e => z4 ?_⟩ <;> (rw [hd.1, e]; rfl)
  have e1 : sv_op (c q) ≤ 17 := by rw [hd.1]; exact nI_le (b := 17) ho (by decide)
  have n3 : ¬ sv_F3 (c q) := fun z => by
    have := h3 ((sv_dirN hd (by omega)).mp z.1)
    have z2 := z.2
    rw [hd.2.2.2] at z2
    exact absurd (this.symm.trans z2) (by decide)
  have n4 : ¬ sv_F4 c q := fun z => by
    have e := (nI_eq (b := 17) (by omega) (by omega)).mp (hd.1.symm.trans z.1)
    have z2 := z.2
    rw [hd.2.1] at z2
    exact absurd ((h4 e).symm.trans z2) (by decide)
  have n5 : ¬ sv_F5 c G q := fun z => by
    have e := (nI_eq (b := 13) (by omega) (by omega)).mp (hd.1.symm.trans z.1)
    have z2 := z.2
    rw [hd.2.1] at z2
    exact absurd ((h5 e).symm.trans z2) (by decide)
  have n6 : ¬ sv_F6 c G q := fun z => by
    rcases z with ⟨z1, z2⟩ | ⟨z1, z2⟩
    · have h14 : ¬ o < 14 := fun y => z1 ((sv_oplt (k := 14) hd (by omega) (by omega)).mpr y)
      exact absurd ((h6a (by omega)).symm.trans z2) (by decide)
    · exact absurd ((h6b (of z1)).symm.trans z2) (by decide)
  have n7 : ¬ sv_F7 (c q) q := fun z => by
    have := of z.1
    have := z.2
    omega
  rw [sv_fa, sv_iff (fun z => z e1), sv_f2, sv_iff (fun z => op2 z.1), sv_f3, sv_iff n3, sv_f4, sv_iff n4, sv_f5, sv_iff n5, sv_f6, sv_iff n6, sv_f7, sv_iff n7]
theorem sv_fli {q a b : Nat} {m : Int32} (hd : sv_De (c q) 2 a b m) (h3 : q % 4 ≠ 3) (h6 : sv_ds c G 7 (q / 4 * 4) (q % 4 + 1) = true) (h7 : q < 124) : sv_fa c G q = 0 := by
  have n3 : ¬ sv_F3 (c q) := fun z => by have := (sv_dirN hd (by omega)).mp z.1; omega
  have n4 : ¬ sv_F4 c q := fun z => absurd (hd.1.symm.trans z.1) (by decide)
  have n5 : ¬ sv_F5 c G q := fun z => absurd (hd.1.symm.trans z.1) (by decide)
  have n6 : ¬ sv_F6 c G q := fun z => by
    rcases z with ⟨z1, z2⟩ | ⟨z1, z2⟩
    · exact z1 ((sv_oplt (k := 14) hd (by omega) (by omega)).mpr (by omega))
    · exact absurd (h6.symm.trans z2) (by decide)
  have n7 : ¬ sv_F7 (c q) q := fun z => by have := z.2; omega
  have e1 : sv_op (c q) ≤ 17 := by rw [hd.1]; decide
  rw [sv_fa, sv_iff (fun z => z e1), sv_f2, sv_iff (fun z => h3 z.2), sv_f3, sv_iff n3, sv_f4, sv_iff n4, sv_f5, sv_iff n5, sv_f6, sv_iff n6, sv_f7, sv_iff n7]
/-- what a cell does to what is known of register x -/
theorem sv_wrN {q o a b : Nat} {m x : Int32} (hd : sv_De (c q) o a b m) (ho : o < 256) (h : (2 ≤ o ∧ o ≤ 12) → nI a ≠ x) : ¬ sv_wr c x q = true := by
  unfold sv_wr
  rw [sv_wwN hd ho, hd.2.1]
  intro z
  rw [Bool.and_eq_true, Bool.and_eq_true, decide_eq_true_eq, decide_eq_true_eq] at z
  exact h z.2.1 z.2.2
theorem sv_wrY {q o a b : Nat} {m x : Int32} (hs : sv_st c q = true) (hd : sv_De (c q) o a b m) (ho : o < 256) (h : 2 ≤ o ∧ o ≤ 12) (hx : nI a = x) : sv_wr c x q = true := by
  unfold sv_wr
  rw [sv_wwN hd ho, hd.2.1, hs, decide_eq_true h, decide_eq_true hx]; rfl
theorem sv_dsN {s j o a b : Nat} {m x : Int32} (hd : sv_De (c (s + j)) o a b m) (ho : o < 256) (h : (2 ≤ o ∧ o ≤ 12) → nI a ≠ x) : sv_ds c G x s (j + 1) = sv_ds c G x s j := by
  rw [sv_ds, if_neg (sv_wrN hd ho h)]
theorem sv_maN {w m : Int32} {o a b : Nat} (hd : sv_De w o a b m) (ho : o = 9) (h0 : ¬ m < 0) (h1 : ¬ G ≤ m) : sv_ma G w = true := by
  unfold sv_ma
  rw [hd.1, ho, hd.2.2.2, decide_eq_false h0, decide_eq_false h1]; rfl
theorem sv_a7ne {a : Nat} (ha : a < 7) : nI a ≠ 7 := fun z => by have := (nI_eq (b := 7) (by omega) (by omega)).mp z; omega
/-- one plain cell -/
theorem sv_c1 {p o a b : Nat} {m : Int32} (g : sv_gd c G p) (hd : sv_De (c p) o a b m) (ho : o ≤ 16) (h2 : o ≠ 2) (h13 : o ≠ 13) (ha : (2 ≤ o ∧ o ≤ 12) → a < 7) (h3 : (14 ≤ o ∧ o ≤ 16) → sv_ba m = true) (hp : p < 124 ∨ o = 0) : sv_ck c G p 1 := by
  have kd : sv_ds c G 7 (p / 4 * 4) (p % 4 + 1) = true := by
    rw [sv_dsN (o := o) (a := a) (b := b) (m := m) (by rw [sv_pj]; exact hd) (by omega) (fun z => sv_a7ne (ha z))]
    exact g.2
  refine ⟨fun q h1 h4 _ => ?_, ?_⟩
  · obtain rfl : q = p := by omega
    exact sv_fq hd (by omega) h2 h3 (fun z => by omega) (fun z => by omega) (fun _ => g.2) (fun _ => kd) (by omega)
  · by_cases m4 : (p + 1) % 4 = 0
    · exact sv_gd4 m4
    · refine ⟨?_, ?_⟩
      · rw [sv_stS m4, decide_eq_false (show ¬ sv_op (c p) = 2 from sv_opne (k := 2) hd (by omega) (by omega) h2)]; simp
      · rw [show (p + 1) / 4 * 4 = p / 4 * 4 by omega, show (p + 1) % 4 = p % 4 + 1 by omega]; exact kd
/-- a literal's two cells -/
theorem sv_c2 {p a b : Nat} {m : Int32} (g : sv_gd c G p) (hd : sv_De (c p) 2 a b m) (ha : a < 7) (hf : p % 4 + 2 ≤ 4) (hp : p + 1 < 124) : sv_ck c G p 2 := by
  have s1 : sv_st c (p + 1) = false := by rw [sv_stS (by omega), g.1, decide_eq_true (show sv_op (c p) = 2 from hd.1)]; rfl
  have kd : sv_ds c G 7 (p / 4 * 4) (p % 4 + 1) = true := by
    rw [sv_dsN (o := 2) (a := a) (b := b) (m := m) (by rw [sv_pj]; exact hd) (by omega) (fun z => sv_a7ne ha)]
    exact g.2
  refine ⟨fun q h1 h4 hs => ?_, ?_⟩
  · by_cases z : q = p
    · subst z
      exact sv_fli hd (by omega) kd (by omega)
    · obtain rfl : q = p + 1 := by omega
      exact absurd (s1.symm.trans hs) (by decide)
  · by_cases m4 : (p + 2) % 4 = 0
    · exact sv_gd4 m4
    · refine ⟨?_, ?_⟩
      · rw [show p + 2 = (p + 1) + 1 from rfl, sv_stS (by omega), s1]; rfl
      · rw [show (p + 2) / 4 * 4 = p / 4 * 4 by omega, show (p + 2) % 4 = p % 4 + 1 + 1 by omega, sv_ds, if_neg ?_]
        · exact kd
        · rw [← Nat.add_assoc, sv_pj]
          unfold sv_wr
          rw [s1]; simp
/-- four cells of a bundle, none of them a literal's head -/
theorem sv_c4 {p : Nat} (h4 : p % 4 = 0) (hf : ∀ k, k < 4 → (∀ i, i ≤ k → sv_st c (p + i) = true) → sv_fa c G (p + k) = 0) (hn : ∀ k, k < 3 → ¬ sv_op (c (p + k)) = 2) : sv_ck c G p 4 := by
  have st : ∀ k, k < 4 → sv_st c (p + k) = true := by
    intro k hk
    induction k with
    | zero => exact sv_st4 h4
    | succ k ih =>
      rw [← Nat.add_assoc, sv_stS (by omega), decide_eq_false (hn k (by omega))]; simp
  refine ⟨fun q h1 h2 _ => ?_, sv_gd4 (by omega)⟩
  obtain ⟨k, rfl⟩ : ∃ k, q = p + k := ⟨q - p, by omega⟩
  exact hf k (by omega) (fun i hi => st i (by omega))
end AC
end
section
/-! the sequences of four cells, and the whole code -/
section AD
variable {c : Nat → Int32} {G : Int32}
theorem sv_fz {s j x : Nat} (hG : sv_gk G) (hs : sv_st c (s + j) = true) (hs1 : sv_st c (s + (j + 1)) = true) (d1 : sv_De (c (s + j)) 9 x 0 (G - 1)) (d2 : sv_De (c (s + (j + 1))) 10 x 0 G) : sv_ds c G (nI x) s (j + 2) = true := by
  obtain ⟨g1, g2, g3, g4⟩ := sv_gmm hG
  have w1 : sv_wr c (nI x) (s + j) = true := sv_wrY hs d1 (by omega) (by omega) rfl
  have w2 : sv_wr c (nI x) (s + (j + 1)) = true := sv_wrY hs1 d2 (by omega) (by omega) rfl
  have mk : sv_mk c G (nI x) s (j + 1) = true := by rw [sv_mk, if_pos w1]; exact sv_maN d1 rfl g3 g4
  rw [show j + 2 = (j + 1) + 1 from rfl, sv_ds, if_pos w2, mk, d2.1, d2.2.2.2, decide_eq_true (rfl : G = G)]; rfl
section AE
variable {p a b : Nat}
theorem sv_q12 (hG : sv_gk G) (h4 : p % 4 = 0) (hp : p + 3 < 124) (ha : a < 6) (d0 : sv_De (c p) 3 6 b 0) (d1 : sv_De (c (p + 1)) 9 6 0 (G - 1)) (d2 : sv_De (c (p + 2)) 10 6 0 G) (d3 : sv_De (c (p + 3)) 12 a 6 0) : sv_ck c G p 4 := by
  have n : ∀ k, k < 3 → ¬ sv_op (c (p + k)) = 2 := by
    intro k hk
    have : k = 0 ∨ k = 1 ∨ k = 2 := by omega
    rcases this with rfl | rfl | rfl
    · exact sv_opne (k := 2) d0 (by omega) (by omega) (by omega)
    · exact sv_opne (k := 2) d1 (by omega) (by omega) (by omega)
    · exact sv_opne (k := 2) d2 (by omega) (by omega) (by omega)
  refine sv_c4 h4 (fun k hk st => ?_) n
  have : k = 0 ∨ k = 1 ∨ k = 2 ∨ k = 3 := by omega
  rcases this with rfl | rfl | rfl | rfl
  · exact sv_fq (q := p) d0 (by omega) (by omega) (fun z => by omega) (fun z => by omega) (fun z => by omega) (fun z => by omega) (fun z => by omega) (by omega)
  · exact sv_fq (q := p + 1) d1 (by omega) (by omega) (fun z => by omega) (fun z => by omega) (fun z => by omega) (fun z => by omega) (fun z => by omega) (by omega)
  · exact sv_fq (q := p + 2) d2 (by omega) (by omega) (fun z => by omega) (fun z => by omega) (fun z => by omega) (fun z => by omega) (fun z => by omega) (by omega)
  · have e1 : (p + 3) / 4 * 4 = p := by omega
    have e2 : (p + 3) % 4 = 3 := by omega
    have k0 : sv_ds c G 7 p 0 = true := rfl
    have k1 : sv_ds c G 7 p 1 = true := by rw [sv_dsN (s := p) (j := 0) (G := G) (x := 7) d0 (by omega) (fun _ => sv_a7ne (by omega))]; exact k0
    have k2 : sv_ds c G 7 p 2 = true := by rw [sv_dsN (s := p) (j := 1) (G := G) (x := 7) d1 (by omega) (fun _ => sv_a7ne (by omega))]; exact k1
    have k3 : sv_ds c G 7 p 3 = true := by rw [sv_dsN (s := p) (j := 2) (G := G) (x := 7) d2 (by omega) (fun _ => sv_a7ne (by omega))]; exact k2
    have k4 : sv_ds c G 7 p 4 = true := by rw [sv_dsN (s := p) (j := 3) (G := G) (x := 7) d3 (by omega) (fun _ => sv_a7ne (by omega))]; exact k3
    exact sv_fq (q := p + 3) d3 (by omega) (by omega) (fun z => by omega) (fun z => by omega) (fun z => by omega) (fun z => by omega) (fun _ => by rw [e1, e2]; exact k4) (by omega)
theorem sv_q13 (hG : sv_gk G) (h4 : p % 4 = 0) (hp : p + 3 < 124) (d0 : sv_De (c p) 3 6 a 0) (d1 : sv_De (c (p + 1)) 9 6 0 (G - 1)) (d2 : sv_De (c (p + 2)) 10 6 0 G) (d3 : sv_De (c (p + 3)) 13 6 b 0) : sv_ck c G p 4 := by
  have n : ∀ k, k < 3 → ¬ sv_op (c (p + k)) = 2 := by
    intro k hk
    have : k = 0 ∨ k = 1 ∨ k = 2 := by omega
    rcases this with rfl | rfl | rfl
    · exact sv_opne (k := 2) d0 (by omega) (by omega) (by omega)
    · exact sv_opne (k := 2) d1 (by omega) (by omega) (by omega)
    · exact sv_opne (k := 2) d2 (by omega) (by omega) (by omega)
  refine sv_c4 h4 (fun k hk st => ?_) n
  have : k = 0 ∨ k = 1 ∨ k = 2 ∨ k = 3 := by omega
  rcases this with rfl | rfl | rfl | rfl
  · exact sv_fq (q := p) d0 (by omega) (by omega) (fun z => by omega) (fun z => by omega) (fun z => by omega) (fun z => by omega) (fun z => by omega) (by omega)
  · exact sv_fq (q := p + 1) d1 (by omega) (by omega) (fun z => by omega) (fun z => by omega) (fun z => by omega) (fun z => by omega) (fun z => by omega) (by omega)
  · exact sv_fq (q := p + 2) d2 (by omega) (by omega) (fun z => by omega) (fun z => by omega) (fun z => by omega) (fun z => by omega) (fun z => by omega) (by omega)
  · have e1 : (p + 3) / 4 * 4 = p := by omega
    have e2 : (p + 3) % 4 = 3 := by omega
    have k0 : sv_ds c G 7 p 0 = true := rfl
    have k1 : sv_ds c G 7 p 1 = true := by rw [sv_dsN (s := p) (j := 0) (G := G) (x := 7) d0 (by omega) (fun _ => sv_a7ne (by omega))]; exact k0
    have k2 : sv_ds c G 7 p 2 = true := by rw [sv_dsN (s := p) (j := 1) (G := G) (x := 7) d1 (by omega) (fun _ => sv_a7ne (by omega))]; exact k1
    have k3 : sv_ds c G 7 p 3 = true := by rw [sv_dsN (s := p) (j := 2) (G := G) (x := 7) d2 (by omega) (fun _ => sv_a7ne (by omega))]; exact k2
    have k4 : sv_ds c G 7 p 4 = true := by rw [sv_dsN (s := p) (j := 3) (G := G) (x := 7) d3 (by omega) (fun _ => sv_a7ne (by omega))]; exact k3
    have f6 : sv_ds c G (nI 6) p 3 = true := sv_fz (s := p) (j := 1) hG (st 1 (by omega)) (st 2 (by omega)) d1 d2
    exact sv_fq (q := p + 3) d3 (by omega) (by omega) (fun z => by omega) (fun z => by omega) (fun _ => by rw [e1, e2]; exact f6) (fun z => by omega) (fun _ => by rw [e1, e2]; exact k4) (by omega)
theorem sv_q17 (hG : sv_gk G) (h4 : p % 4 = 0) (hp : p + 3 < 124) (d0 : sv_De (c p) 3 6 a 0) (d1 : sv_De (c (p + 1)) 11 6 0 2) (d2 : sv_De (c (p + 2)) 9 6 0 28) (d3 : sv_De (c (p + 3)) 17 6 0 0) : sv_ck c G p 4 := by
  have n : ∀ k, k < 3 → ¬ sv_op (c (p + k)) = 2 := by
    intro k hk
    have : k = 0 ∨ k = 1 ∨ k = 2 := by omega
    rcases this with rfl | rfl | rfl
    · exact sv_opne (k := 2) d0 (by omega) (by omega) (by omega)
    · exact sv_opne (k := 2) d1 (by omega) (by omega) (by omega)
    · exact sv_opne (k := 2) d2 (by omega) (by omega) (by omega)
  refine sv_c4 h4 (fun k hk st => ?_) n
  have : k = 0 ∨ k = 1 ∨ k = 2 ∨ k = 3 := by omega
  rcases this with rfl | rfl | rfl | rfl
  · exact sv_fq (q := p) d0 (by omega) (by omega) (fun z => by omega) (fun z => by omega) (fun z => by omega) (fun z => by omega) (fun z => by omega) (by omega)
  · exact sv_fq (q := p + 1) d1 (by omega) (by omega) (fun z => by omega) (fun z => by omega) (fun z => by omega) (fun z => by omega) (fun z => by omega) (by omega)
  · exact sv_fq (q := p + 2) d2 (by omega) (by omega) (fun z => by omega) (fun z => by omega) (fun z => by omega) (fun z => by omega) (fun z => by omega) (by omega)
  · have e1 : (p + 3) / 4 * 4 = p := by omega
    have e2 : (p + 3) % 4 = 3 := by omega
    have k0 : sv_ds c G 7 p 0 = true := rfl
    have k1 : sv_ds c G 7 p 1 = true := by rw [sv_dsN (s := p) (j := 0) (G := G) (x := 7) d0 (by omega) (fun _ => sv_a7ne (by omega))]; exact k0
    have k2 : sv_ds c G 7 p 2 = true := by rw [sv_dsN (s := p) (j := 1) (G := G) (x := 7) d1 (by omega) (fun _ => sv_a7ne (by omega))]; exact k1
    have k3 : sv_ds c G 7 p 3 = true := by rw [sv_dsN (s := p) (j := 2) (G := G) (x := 7) d2 (by omega) (fun _ => sv_a7ne (by omega))]; exact k2
    have w2 : sv_wr c (nI 6) (p + 2) = true := sv_wrY (st 2 (by omega)) d2 (by omega) (by omega) rfl
    have f6 : sv_cs c (nI 6) p 3 = true := by
      rw [show (3 : Nat) = 2 + 1 from rfl, sv_cs, if_pos w2, d2.1, d2.2.2.2]; decide
    exact sv_fq (q := p + 3) d3 (by omega) (by omega) (fun z => by omega) (fun _ => by rw [e1, e2]; exact f6) (fun z => by omega) (fun _ => by rw [e1, e2]; exact k3) (fun z => by omega) (by omega)
theorem sv_q18 (hG : sv_gk G) (h4 : p % 4 = 0) (hp : p + 3 < 124) (d0 : sv_De (c p) 8 7 0 (-1)) (d1 : sv_De (c (p + 1)) 9 7 0 (G - 1)) (d2 : sv_De (c (p + 2)) 10 7 0 G) (d3 : sv_De (c (p + 3)) 13 7 a 0) : sv_ck c G p 4 := by
  have n : ∀ k, k < 3 → ¬ sv_op (c (p + k)) = 2 := by
    intro k hk
    have : k = 0 ∨ k = 1 ∨ k = 2 := by omega
    rcases this with rfl | rfl | rfl
    · exact sv_opne (k := 2) d0 (by omega) (by omega) (by omega)
    · exact sv_opne (k := 2) d1 (by omega) (by omega) (by omega)
    · exact sv_opne (k := 2) d2 (by omega) (by omega) (by omega)
  refine sv_c4 h4 (fun k hk st => ?_) n
  have : k = 0 ∨ k = 1 ∨ k = 2 ∨ k = 3 := by omega
  rcases this with rfl | rfl | rfl | rfl
  · exact sv_fq (q := p) d0 (by omega) (by omega) (fun z => by omega) (fun z => by omega) (fun z => by omega) (fun z => by omega) (fun z => by omega) (by omega)
  · exact sv_fq (q := p + 1) d1 (by omega) (by omega) (fun z => by omega) (fun z => by omega) (fun z => by omega) (fun z => by omega) (fun z => by omega) (by omega)
  · exact sv_fq (q := p + 2) d2 (by omega) (by omega) (fun z => by omega) (fun z => by omega) (fun z => by omega) (fun z => by omega) (fun z => by omega) (by omega)
  · have e1 : (p + 3) / 4 * 4 = p := by omega
    have e2 : (p + 3) % 4 = 3 := by omega
    have f6 : sv_ds c G (nI 7) p 3 = true := sv_fz (s := p) (j := 1) hG (st 1 (by omega)) (st 2 (by omega)) d1 d2
    have k4 : sv_ds c G 7 p 4 = true := by rw [sv_dsN (s := p) (j := 3) (G := G) (x := 7) d3 (by omega) (fun z => by omega)]; exact f6
    exact sv_fq (q := p + 3) d3 (by omega) (by omega) (fun z => by omega) (fun z => by omega) (fun _ => by rw [e1, e2]; exact f6) (fun z => by omega) (fun _ => by rw [e1, e2]; exact k4) (by omega)
theorem sv_q19 (hG : sv_gk G) (h4 : p % 4 = 0) (hp : p + 3 < 124) (ha : a < 6) (d0 : sv_De (c p) 12 a 7 0) (d1 : sv_De (c (p + 1)) 8 7 0 1) (d2 : sv_De (c (p + 2)) 9 7 0 (G - 1)) (d3 : sv_De (c (p + 3)) 10 7 0 G) : sv_ck c G p 4 := by
  have n : ∀ k, k < 3 → ¬ sv_op (c (p + k)) = 2 := by
    intro k hk
    have : k = 0 ∨ k = 1 ∨ k = 2 := by omega
    rcases this with rfl | rfl | rfl
    · exact sv_opne (k := 2) d0 (by omega) (by omega) (by omega)
    · exact sv_opne (k := 2) d1 (by omega) (by omega) (by omega)
    · exact sv_opne (k := 2) d2 (by omega) (by omega) (by omega)
  refine sv_c4 h4 (fun k hk st => ?_) n
  have : k = 0 ∨ k = 1 ∨ k = 2 ∨ k = 3 := by omega
  rcases this with rfl | rfl | rfl | rfl
  · exact sv_fq (q := p) d0 (by omega) (by omega) (fun z => by omega) (fun z => by omega) (fun z => by omega) (fun z => by omega) (fun z => by omega) (by omega)
  · exact sv_fq (q := p + 1) d1 (by omega) (by omega) (fun z => by omega) (fun z => by omega) (fun z => by omega) (fun z => by omega) (fun z => by omega) (by omega)
  · exact sv_fq (q := p + 2) d2 (by omega) (by omega) (fun z => by omega) (fun z => by omega) (fun z => by omega) (fun z => by omega) (fun z => by omega) (by omega)
  · have e1 : (p + 3) / 4 * 4 = p := by omega
    have e2 : (p + 3) % 4 = 3 := by omega
    have k4 : sv_ds c G (nI 7) p 4 = true := sv_fz (s := p) (j := 2) hG (st 2 (by omega)) (st 3 (by omega)) d2 d3
    exact sv_fq (q := p + 3) d3 (by omega) (by omega) (fun z => by omega) (fun z => by omega) (fun z => by omega) (fun z => by omega) (fun _ => by rw [e1, e2]; exact k4) (by omega)
end AE
theorem sv_bat : ∀ t, t < 128 → t % 4 = 0 → sv_ba (nI t) = true := by decide +kernel
end AD
def sv_Ls (m : Nat) (lO lA lB lI : Nat → Int32) : Prop := ∀ j, j < m → sv_src (lO j) ∧ (∃ a, a < 6 ∧ lA j = nI a) ∧ (∃ b, b < 6 ∧ lB j = nI b) ∧ (sv_dir (lO j) → ∃ k, k < 8 ∧ lI j = nI k)
section AF
variable {G LC N CU LD JD OU PC ST ES SR : Int32} {lO lA lB lI lb im cd sa la lt mk ds cs ce rg : Nat → Int32}
variable {m : Nat}
theorem sv_mm0 : sv_mm ((0 : Int32) <<< ((16 : Int32) &&& 31)) = 0 := by decide +kernel
theorem sv_mm1 : sv_mm ((1 : Int32) <<< ((16 : Int32) &&& 31)) = 1 := by decide +kernel
theorem sv_mm2 : sv_mm ((2 : Int32) <<< ((16 : Int32) &&& 31)) = 2 := by decide +kernel
theorem sv_mm28 : sv_mm ((28 : Int32) <<< ((16 : Int32) &&& 31)) = 28 := by decide +kernel
/-- a line's own cells -/
theorem sv_lchunk (hG : sv_gk G) (hm : m ≤ 20) (hl : sv_lbok lb m) (hL : sv_Ls m lO lA lB lI) (hC : sv_Cd G lO lA lB lI lb m cd) {i : Nat} (hi : i < m) (g : sv_gd cd G (sv_ad lO lb m i)) : sv_ck cd G (sv_ad lO lb m i) (sv_sz (lO i)) := by
  obtain ⟨hs, ⟨a, ha, ea⟩, ⟨b, hb, eb⟩, hd⟩ := hL i hi
  obtain ⟨g1, g2, g3, g4⟩ := sv_gmm hG
  have hc := hC.2.2.1 i hi
  have fit := sv_ad_fit (lO := lO) (lb := lb) hi
  have up := sv_ad_up (lO := lO) (lb := lb) hm (Nat.le_of_lt hi)
  have nx := sv_ad_mono2 (lO := lO) (lb := lb) hi (Nat.le_refl m)
  have um := sv_ad_up (lO := lO) (lb := lb) hm (Nat.le_refl m)
  unfold sv_cel at hc
  generalize sv_ad lO lb m i = p at *
  rw [ea, eb] at hc
  rcases sv_srcE hs with e | e | e | e | e | e | e | e | e | e | e | e | e | e | e
  · rw [e, sv_sz_0, sv_seq0] at hc
    rw [e, sv_sz_0] at fit nx ⊢
    have d0 : sv_De (cd p) 0 a b 0 := by rw [show cd p = _ from hc 0 (by omega)]; exact sv_dec (o := 0) (by omega) (by omega) (by omega) sv_mm0
    exact sv_c1 g d0 (by omega) (by omega) (by omega) (fun _ => by omega) (fun z => by omega) (by omega)
  · rw [e, sv_sz_2, sv_seq2] at hc
    rw [e, sv_sz_2] at fit nx ⊢
    have d0 : sv_De (cd p) 2 a 0 0 := by rw [show cd p = _ from hc 0 (by omega)]; exact sv_dec (o := 2) (a := a) (b := 0) (by omega) (by omega) (by omega) sv_mm0
    exact sv_c2 g d0 (by omega) fit (by omega)
  · rw [e, sv_sz_3, sv_seq3] at hc
    rw [e, sv_sz_3] at fit nx ⊢
    have d0 : sv_De (cd p) 3 a b 0 := by rw [show cd p = _ from hc 0 (by omega)]; exact sv_dec (o := 3) (by omega) (by omega) (by omega) sv_mm0
    exact sv_c1 g d0 (by omega) (by omega) (by omega) (fun _ => by omega) (fun z => by omega) (by omega)
  · rw [e, sv_sz_4, sv_seq4] at hc
    rw [e, sv_sz_4] at fit nx ⊢
    have d0 : sv_De (cd p) 4 a b 0 := by rw [show cd p = _ from hc 0 (by omega)]; exact sv_dec (o := 4) (by omega) (by omega) (by omega) sv_mm0
    exact sv_c1 g d0 (by omega) (by omega) (by omega) (fun _ => by omega) (fun z => by omega) (by omega)
  · rw [e, sv_sz_5, sv_seq5] at hc
    rw [e, sv_sz_5] at fit nx ⊢
    have d0 : sv_De (cd p) 5 a b 0 := by rw [show cd p = _ from hc 0 (by omega)]; exact sv_dec (o := 5) (by omega) (by omega) (by omega) sv_mm0
    exact sv_c1 g d0 (by omega) (by omega) (by omega) (fun _ => by omega) (fun z => by omega) (by omega)
  · rw [e, sv_sz_6, sv_seq6] at hc
    rw [e, sv_sz_6] at fit nx ⊢
    have d0 : sv_De (cd p) 6 a b 0 := by rw [show cd p = _ from hc 0 (by omega)]; exact sv_dec (o := 6) (by omega) (by omega) (by omega) sv_mm0
    exact sv_c1 g d0 (by omega) (by omega) (by omega) (fun _ => by omega) (fun z => by omega) (by omega)
  · rw [e, sv_sz_7, sv_seq7] at hc
    rw [e, sv_sz_7] at fit nx ⊢
    have d0 : sv_De (cd p) 7 a b 0 := by rw [show cd p = _ from hc 0 (by omega)]; exact sv_dec (o := 7) (by omega) (by omega) (by omega) sv_mm0
    exact sv_c1 g d0 (by omega) (by omega) (by omega) (fun _ => by omega) (fun z => by omega) (by omega)
  · rw [e, sv_sz_12, sv_seq12] at hc
    rw [e, sv_sz_12] at fit nx ⊢
    have d0 : sv_De (cd p) 3 6 b 0 := by rw [show cd p = _ from hc 0 (by omega)]; exact sv_dec (o := 3) (a := 6) (b := b) (by omega) (by omega) (by omega) sv_mm0
    have d1 : sv_De (cd (p + 1)) 9 6 0 (G - 1) := by rw [show cd (p + 1) = _ from hc 1 (by omega)]; exact sv_dec (o := 9) (a := 6) (b := 0) (by omega) (by omega) (by omega) g2
    have d2 : sv_De (cd (p + 2)) 10 6 0 G := by rw [show cd (p + 2) = _ from hc 2 (by omega)]; exact sv_dec (o := 10) (a := 6) (b := 0) (by omega) (by omega) (by omega) g1
    have d3 : sv_De (cd (p + 3)) 12 a 6 0 := by rw [show cd (p + 3) = _ from hc 3 (by omega)]; exact sv_dec (o := 12) (a := a) (b := 6) (by omega) (by omega) (by omega) sv_mm0
    exact sv_q12 hG (by omega) (by omega) ha d0 d1 d2 d3
  · rw [e, sv_sz_13, sv_seq13] at hc
    rw [e, sv_sz_13] at fit nx ⊢
    have d0 : sv_De (cd p) 3 6 a 0 := by rw [show cd p = _ from hc 0 (by omega)]; exact sv_dec (o := 3) (a := 6) (b := a) (by omega) (by omega) (by omega) sv_mm0
    have d1 : sv_De (cd (p + 1)) 9 6 0 (G - 1) := by rw [show cd (p + 1) = _ from hc 1 (by omega)]; exact sv_dec (o := 9) (a := 6) (b := 0) (by omega) (by omega) (by omega) g2
    have d2 : sv_De (cd (p + 2)) 10 6 0 G := by rw [show cd (p + 2) = _ from hc 2 (by omega)]; exact sv_dec (o := 10) (a := 6) (b := 0) (by omega) (by omega) (by omega) g1
    have d3 : sv_De (cd (p + 3)) 13 6 b 0 := by rw [show cd (p + 3) = _ from hc 3 (by omega)]; exact sv_dec (o := 13) (a := 6) (b := b) (by omega) (by omega) (by omega) sv_mm0
    exact sv_q13 hG (by omega) (by omega) d0 d1 d2 d3
  · rw [e, sv_sz_14, sv_seq14] at hc
    rw [e, sv_sz_14] at fit nx ⊢
    obtain ⟨k, hk, ek⟩ := hd (by rw [e]; exact ⟨by decide, by decide⟩)
    have ek2 : (lI i &&& 7).toNatClampNeg = k := by rw [ek, sv_a7 hk]; exact nI_clamp (by omega)
    rw [ek2] at hc
    have t4 := sv_tg4 (lO := lO) hl hm hk
    have tu := sv_ad_up (lO := lO) (lb := lb) hm (sv_tg_le hl hm hk)
    have d0 : sv_De (cd p) 14 a 0 (nI (sv_ad lO lb m (sv_tg lb m k))) := by rw [show cd p = _ from hc 0 (by omega)]; exact sv_dec (o := 14) (a := a) (b := 0) (by omega) (by omega) (by omega) (sv_mmN (by omega))
    exact sv_c1 g d0 (by omega) (by omega) (by omega) (fun z => by omega) (fun z => sv_bat _ (by omega) t4) (by omega)
  · rw [e, sv_sz_15, sv_seq15] at hc
    rw [e, sv_sz_15] at fit nx ⊢
    obtain ⟨k, hk, ek⟩ := hd (by rw [e]; exact ⟨by decide, by decide⟩)
    have ek2 : (lI i &&& 7).toNatClampNeg = k := by rw [ek, sv_a7 hk]; exact nI_clamp (by omega)
    rw [ek2] at hc
    have t4 := sv_tg4 (lO := lO) hl hm hk
    have tu := sv_ad_up (lO := lO) (lb := lb) hm (sv_tg_le hl hm hk)
    have d0 : sv_De (cd p) 15 a 0 (nI (sv_ad lO lb m (sv_tg lb m k))) := by rw [show cd p = _ from hc 0 (by omega)]; exact sv_dec (o := 15) (a := a) (b := 0) (by omega) (by omega) (by omega) (sv_mmN (by omega))
    exact sv_c1 g d0 (by omega) (by omega) (by omega) (fun z => by omega) (fun z => sv_bat _ (by omega) t4) (by omega)
  · rw [e, sv_sz_16, sv_seq16] at hc
    rw [e, sv_sz_16] at fit nx ⊢
    obtain ⟨k, hk, ek⟩ := hd (by rw [e]; exact ⟨by decide, by decide⟩)
    have ek2 : (lI i &&& 7).toNatClampNeg = k := by rw [ek, sv_a7 hk]; exact nI_clamp (by omega)
    rw [ek2] at hc
    have t4 := sv_tg4 (lO := lO) hl hm hk
    have tu := sv_ad_up (lO := lO) (lb := lb) hm (sv_tg_le hl hm hk)
    have d0 : sv_De (cd p) 16 a 0 (nI (sv_ad lO lb m (sv_tg lb m k))) := by rw [show cd p = _ from hc 0 (by omega)]; exact sv_dec (o := 16) (a := a) (b := 0) (by omega) (by omega) (by omega) (sv_mmN (by omega))
    exact sv_c1 g d0 (by omega) (by omega) (by omega) (fun z => by omega) (fun z => sv_bat _ (by omega) t4) (by omega)
  · rw [e, sv_sz_17, sv_seq17] at hc
    rw [e, sv_sz_17] at fit nx ⊢
    have d0 : sv_De (cd p) 3 6 a 0 := by rw [show cd p = _ from hc 0 (by omega)]; exact sv_dec (o := 3) (a := 6) (b := a) (by omega) (by omega) (by omega) sv_mm0
    have d1 : sv_De (cd (p + 1)) 11 6 0 2 := by rw [show cd (p + 1) = _ from hc 1 (by omega)]; exact sv_dec (o := 11) (a := 6) (b := 0) (by omega) (by omega) (by omega) sv_mm2
    have d2 : sv_De (cd (p + 2)) 9 6 0 28 := by rw [show cd (p + 2) = _ from hc 2 (by omega)]; exact sv_dec (o := 9) (a := 6) (b := 0) (by omega) (by omega) (by omega) sv_mm28
    have d3 : sv_De (cd (p + 3)) 17 6 0 0 := by rw [show cd (p + 3) = _ from hc 3 (by omega)]; exact sv_dec (o := 17) (a := 6) (b := 0) (by omega) (by omega) (by omega) sv_mm0
    exact sv_q17 hG (by omega) (by omega) d0 d1 d2 d3
  · rw [e, sv_sz_18, sv_seq18] at hc
    rw [e, sv_sz_18] at fit nx ⊢
    have d0 : sv_De (cd p) 8 7 0 (-1) := by rw [show cd p = _ from hc 0 (by omega)]; exact sv_dec (o := 8) (a := 7) (b := 0) (by omega) (by omega) (by omega) sv_mm_m1
    have d1 : sv_De (cd (p + 1)) 9 7 0 (G - 1) := by rw [show cd (p + 1) = _ from hc 1 (by omega)]; exact sv_dec (o := 9) (a := 7) (b := 0) (by omega) (by omega) (by omega) g2
    have d2 : sv_De (cd (p + 2)) 10 7 0 G := by rw [show cd (p + 2) = _ from hc 2 (by omega)]; exact sv_dec (o := 10) (a := 7) (b := 0) (by omega) (by omega) (by omega) g1
    have d3 : sv_De (cd (p + 3)) 13 7 a 0 := by rw [show cd (p + 3) = _ from hc 3 (by omega)]; exact sv_dec (o := 13) (a := 7) (b := a) (by omega) (by omega) (by omega) sv_mm0
    exact sv_q18 hG (by omega) (by omega) d0 d1 d2 d3
  · rw [e, sv_sz_19, sv_seq19] at hc
    rw [e, sv_sz_19] at fit nx ⊢
    have d0 : sv_De (cd p) 12 a 7 0 := by rw [show cd p = _ from hc 0 (by omega)]; exact sv_dec (o := 12) (a := a) (b := 7) (by omega) (by omega) (by omega) sv_mm0
    have d1 : sv_De (cd (p + 1)) 8 7 0 1 := by rw [show cd (p + 1) = _ from hc 1 (by omega)]; exact sv_dec (o := 8) (a := 7) (b := 0) (by omega) (by omega) (by omega) sv_mm1
    have d2 : sv_De (cd (p + 2)) 9 7 0 (G - 1) := by rw [show cd (p + 2) = _ from hc 2 (by omega)]; exact sv_dec (o := 9) (a := 7) (b := 0) (by omega) (by omega) (by omega) g2
    have d3 : sv_De (cd (p + 3)) 10 7 0 G := by rw [show cd (p + 3) = _ from hc 3 (by omega)]; exact sv_dec (o := 10) (a := 7) (b := 0) (by omega) (by omega) (by omega) g1
    exact sv_q19 hG (by omega) (by omega) ha d0 d1 d2 d3
theorem sv_hd0 {w : Int32} (h : w = 0) : sv_De w 0 0 0 0 := by subst h; exact ⟨by decide, by decide, by decide, by decide⟩
theorem sv_hd1 {w : Int32} (h : w = 1) : sv_De w 1 0 0 0 := by subst h; exact ⟨by decide, by decide, by decide, by decide⟩
def sv_CS (m : Nat) (lO lb : Nat → Int32) (p : Nat) : Prop := p < 32 ∨ (∃ i, i < m ∧ p = sv_ad lO lb m i) ∨ (∃ i, i < m ∧ sv_ad lO lb m i + sv_sz (lO i) ≤ p ∧ p < sv_ad lO lb m (i + 1)) ∨ sv_ad lO lb m m ≤ p
/-- behind a line -/
theorem sv_CSn {i p : Nat} (hi : i < m) (h1 : sv_ad lO lb m i + sv_sz (lO i) ≤ p) (h2 : p ≤ sv_ad lO lb m (i + 1)) : sv_CS m lO lb p := by
  by_cases z : p < sv_ad lO lb m (i + 1)
  · exact Or.inr (Or.inr (Or.inl ⟨i, hi, h1, z⟩))
  · have e : p = sv_ad lO lb m (i + 1) := by omega
    by_cases y : i + 1 < m
    · exact Or.inr (Or.inl ⟨i + 1, y, e⟩)
    · have e2 : i + 1 = m := by omega
      rw [e2] at e
      exact Or.inr (Or.inr (Or.inr (by omega)))
theorem sv_CS32 : sv_CS m lO lb 32 := by
  by_cases z : 0 < m
  · exact Or.inr (Or.inl ⟨0, z, sv_ad_0.symm⟩)
  · have e : m = 0 := by omega
    subst e
    exact Or.inr (Or.inr (Or.inr (by rw [sv_ad_0]; omega)))
theorem sv_chunk (hG : sv_gk G) (hm : m ≤ 20) (hl : sv_lbok lb m) (hL : sv_Ls m lO lA lB lI) (hC : sv_Cd G lO lA lB lI lb m cd) {p : Nat} (hp : p < 128) (hs : sv_CS m lO lb p) (g : sv_gd cd G p) : ∃ s, 0 < s ∧ sv_CS m lO lb (p + s) ∧ sv_ck cd G p s := by
  have um := sv_ad_up (lO := lO) (lb := lb) hm (Nat.le_refl m)
  rcases hs with h | ⟨i, hi, rfl⟩ | ⟨i, hi, h1, h2⟩ | h
  · refine ⟨1, by omega, ?_, ?_⟩
    · by_cases z : p + 1 < 32
      · exact Or.inl z
      · rw [show p + 1 = 32 by omega]; exact sv_CS32
    · by_cases h4 : p % 4 = 0
      · have hk : p / 4 < 8 := by omega
        have t4 := sv_tg4 (lO := lO) hl hm hk
        have tu := sv_ad_up (lO := lO) (lb := lb) hm (sv_tg_le hl hm hk)
        have e := hC.1 (p / 4) hk
        rw [show 4 * (p / 4) = p by omega] at e
        have d0 : sv_De (cd p) 14 0 0 (nI (sv_ad lO lb m (sv_tg lb m (p / 4)))) := by rw [e]; exact sv_dec (o := 14) (a := 0) (b := 0) (by omega) (by omega) (by omega) (sv_mmN (by omega))
        exact sv_c1 g d0 (by omega) (by omega) (by omega) (fun z => by omega) (fun _ => sv_bat _ (by omega) t4) (by omega)
      · exact sv_c1 g (sv_hd0 (hC.2.1 p h h4)) (by omega) (by omega) (by omega) (fun z => by omega) (fun z => by omega) (by omega)
  · have sz := sv_sz1 (lO i)
    have gp : sv_gap (sv_e lO lb (i + 1)) (sv_ad lO lb m (i + 1)) := sv_ad_gap
    rw [sv_ad_e hi] at gp
    exact ⟨sv_sz (lO i), by omega, sv_CSn hi (Nat.le_refl _) gp.1, sv_lchunk hG hm hl hL hC hi g⟩
  · have ui := sv_ad_up (lO := lO) (lb := lb) hm (Nat.le_of_lt hi)
    have u2 := sv_ad_up (lO := lO) (lb := lb) (i := i + 1) hm (by omega)
    have e1 : cd p = 1 := by
      refine hC.2.2.2.1 p (by omega) ?_ (fun j hj => ?_)
      · by_cases z : i + 1 < m
        · have := sv_ad_mono2 (lO := lO) (lb := lb) z (Nat.le_refl m); omega
        · rw [show i + 1 = m by omega] at h2; exact h2
      · rcases Nat.lt_trichotomy j i with z | z | z
        · have := sv_ad_mono2 (lO := lO) (lb := lb) z (Nat.le_of_lt hi); omega
        · rw [z]; omega
        · by_cases y : j = i + 1
          · rw [y]; omega
          · have := sv_ad_mono2 (lO := lO) (lb := lb) (i := i + 1) (j := j) (by omega) (Nat.le_of_lt hj); omega
    exact ⟨1, by omega, sv_CSn hi (by omega) (by omega), sv_c1 g (sv_hd1 e1) (by omega) (by omega) (by omega) (fun z => by omega) (fun z => by omega) (by omega)⟩
  · exact ⟨1, by omega, Or.inr (Or.inr (Or.inr (by omega))), sv_c1 g (sv_hd0 (hC.2.2.2.2 p h hp)) (by omega) (by omega) (by omega) (fun z => by omega) (fun z => by omega) (by omega)⟩
/-- no start has a fault -/
theorem sv_clean (hG : sv_gk G) (hm : m ≤ 20) (hl : sv_lbok lb m) (hL : sv_Ls m lO lA lB lI) (hC : sv_Cd G lO lA lB lI lb m cd) : ∀ (d p : Nat), 128 ≤ p + d → sv_CS m lO lb p → sv_gd cd G p → ∀ q, p ≤ q → q < 128 → sv_st cd q = true → sv_fa cd G q = 0 := by
  intro d
  induction d with
  | zero => intro p h1 h2 h3 q h4 h5; omega
  | succ d ih =>
    intro p h1 h2 h3 q h4 h5 h6
    obtain ⟨s, k1, k2, k3⟩ := sv_chunk hG hm hl hL hC (p := p) (by omega) h2 h3
    by_cases z : q < p + s
    · exact k3.1 q h4 z h6
    · exact ih (p + s) (by omega) k2 k3.2 q (by omega) h5 h6
theorem sv_vd_ok {c : Nat → Int32} (h : ∀ q, q < 128 → sv_st c q = true → sv_fa c G q = 0) : ∀ d, d ≤ 128 → sv_vd c G d = -1 := by
  intro d
  induction d with
  | zero => intro _; rfl
  | succ d ih =>
    intro hd
    rw [sv_vd, sv_iff (fun z => z.2 (h _ (by omega) z.1)), ih (by omega)]
theorem sv_accept (hG : sv_gk G) (hm : m ≤ 20) (hl : sv_lbok lb m) (hL : sv_Ls m lO lA lB lI) (hC : sv_Cd G lO lA lB lI lb m cd) : sv_vd cd G 128 = -1 :=
  sv_vd_ok (fun q hq hs => sv_clean hG hm hl hL hC 128 0 (by omega) (Or.inl (by omega)) (sv_gd4 rfl) q (by omega) hq hs) 128 (by omega)
end AF
end
section
/-! one source line on the component's machine -/
theorem sv_uu (f : Nat → Int32) (k : Nat) (a b : Int32) : upd (upd f k a) k b = upd f k b := by
  funext j
  unfold upd
  by_cases h : j = k
  · rw [if_pos h, if_pos h]
  · rw [if_neg h, if_neg h, if_neg h]
theorem sv_jr4 : ∀ k, k < 8 → nI (4 * k) &&& 28 = nI (4 * k) := by decide +kernel
theorem sv_jr (x : Int32) : ∃ k, k < 8 ∧ (x &&& 7).toNatClampNeg = k ∧ (x <<< (((2 : Int32) &&& 31) &&& 31)) &&& 28 = nI (4 * k) := by
  have e7 : x &&& 7 = nI (x.toBitVec.toNat % 2 ^ 3) := pk_and x 3 (by decide)
  refine ⟨x.toBitVec.toNat % 8, Nat.mod_lt _ (by omega), by rw [e7]; exact nI_clamp (by omega), ?_⟩
  have e1 : (x <<< (((2 : Int32) &&& 31) &&& 31)) &&& 31 = nI (4 * (x.toBitVec.toNat % 8)) := by
    rw [pk_and _ 5 (by decide), pk_shl _ _ 2 (by decide)]
    exact congrArg nI (by omega)
  have e2 : (x <<< (((2 : Int32) &&& 31) &&& 31)) &&& 28 = ((x <<< (((2 : Int32) &&& 31) &&& 31)) &&& 31) &&& 28 := by
    exact ((Int32.and_assoc (x <<< (((2 : Int32) &&& 31) &&& 31)) 31 28).trans (by rw [show (31 : Int32) &&& 28 = 28 by decide])).symm
  rw [e2, e1, sv_jr4 _ (Nat.mod_lt _ (by omega))]
section SX
variable {G LC N CU LD JD OU PC ST ES SR : Int32} {lO lA lB lI lb im cd sa la lt mk ds cs ce rg : Nat → Int32}
section SY
variable {post : SX → Prop} {p q k n j : Nat}
theorem sl_n34 (hS : ST = 1 ∨ ST = 2) : ¬ ST = 3 ∧ ¬ ST = 4 := by rcases hS with rfl | rfl <;> decide
theorem sx_arr (hS : ST = 1 ∨ ST = 2) (hq : q < 128) (hl : lt q = nI j) (hj : j < 2 ^ 31) (h : post (G, LC, N, CU, LD, JD, OU, nI q, ST, ES, SR, lO, lA, lB, lI, lb, im, cd, sa, la, lt, mk, ds, cs, ce, rg)) : wX_runLine_6 post (n + 1) (nI k) G LC N CU LD JD OU (nI q) ST ES SR lO lA lB lI lb im cd sa la lt mk ds cs ce rg :=
  br_c (fun _ => h) (fun _ => sx_end0 (sl_n34 hS).1 (sl_n34 hS).2 (br_t rfl (sx_here hq (br_f (by rw [hl]; exact nI_pos hj) h))))
theorem sx_arrE (hS : ST = 3 ∨ ST = 4) (h : post (G, LC, N, CU, LD, JD, OU, PC, ST, ES, SR, lO, lA, lB, lI, lb, im, cd, sa, la, lt, mk, ds, cs, ce, rg)) : wX_runLine_6 post (n + 1) (nI k) G LC N CU LD JD OU PC ST ES SR lO lA lB lI lb im cd sa la lt mk ds cs ce rg :=
  br_c (fun _ => h) (fun _ => sx_end1 hS (br_f sv_10 h))
theorem sx_mid {pc' st' es' : Int32} {ce' rg' : Nat → Int32} (hS : ST = 1 ∨ ST = 2) (hp : p < 128) (hk : k < 8) (hl : lt p = -1) (g : sv_go (G, LC, N, CU, LD, JD, OU, nI p, ST, ES, SR, lO, lA, lB, lI, lb, im, cd, sa, la, lt, mk, ds, cs, ce, rg) (G, LC, N, CU, LD, JD, OU, pc', st', es', SR, lO, lA, lB, lI, lb, im, cd, sa, la, lt, mk, ds, cs, ce', rg')) (h : wX_runLine_6 post n (nI (k + 1)) G LC N CU LD JD OU pc' st' es' SR lO lA lB lI lb im cd sa la lt mk ds cs ce' rg') : wX_runLine_6 post (n + 1) (nI k) G LC N CU LD JD OU (nI p) ST ES SR lO lA lB lI lb im cd sa la lt mk ds cs ce rg :=
  br_f (nI_ge (b := 8) hk (by decide)) (sx_end0 (sl_n34 hS).1 (sl_n34 hS).2 (br_t rfl (sx_here hp (br_t (by rw [hl]; decide) (g _ (nm_r (nI_1 k) h))))))
theorem sx_first {pc' st' es' : Int32} {ce' rg' : Nat → Int32} (g : sv_go (G, LC, N, CU, LD, JD, OU, PC, ST, ES, SR, lO, lA, lB, lI, lb, im, cd, sa, la, lt, mk, ds, cs, ce, rg) (G, LC, N, CU, LD, JD, OU, pc', st', es', SR, lO, lA, lB, lI, lb, im, cd, sa, la, lt, mk, ds, cs, ce', rg')) (h : wX_runLine_6 post n (nI 0) G LC N CU LD JD OU pc' st' es' SR lO lA lB lI lb im cd sa la lt mk ds cs ce' rg') : wpX_runLine post (G, LC, N, CU, LD, JD, OU, PC, ST, ES, SR, lO, lA, lB, lI, lb, im, cd, sa, la, lt, mk, ds, cs, ce, rg) := by
  unfold wpX_runLine
  exact g _ (Exists.intro n h)
theorem sx_gapw (hS : ST = 1 ∨ ST = 2) (hq : q < 128) (hl : lt q = nI j) (hj : j < 2 ^ 31) (h : post (G, LC, N, CU, LD, JD, OU, nI q, ST, ES, SR, lO, lA, lB, lI, lb, im, cd, sa, la, lt, mk, ds, cs, ce, rg)) : ∀ d p k n, p + d = q → k + d ≤ 8 → d < n → (∀ r, p ≤ r → r < q → cd r = 1 ∧ lt r = -1) → wX_runLine_6 post n (nI k) G LC N CU LD JD OU (nI p) ST ES SR lO lA lB lI lb im cd sa la lt mk ds cs ce rg := by
  intro d
  induction d with
  | zero =>
    intro p k n e1 e2 e3 hr
    obtain ⟨n, rfl⟩ : ∃ m, n = m + 1 := ⟨n - 1, by omega⟩
    obtain rfl : p = q := by omega
    exact sx_arr hS hq hl hj h
  | succ d ih =>
    intro p k n e1 e2 e3 hr
    obtain ⟨n, rfl⟩ : ∃ m, n = m + 1 := ⟨n - 1, by omega⟩
    obtain ⟨h1, h2⟩ := hr p (by omega) (by omega)
    exact sx_mid hS (by omega) (by omega) h2 (sx_s_nop (by omega) h1 (by decide)) (ih (p + 1) (k + 1) n (by omega) (by omega) (by omega) (fun r a b => hr r (by omega) b))
theorem sx_four {pc4 : Int32} {r1 r2 r3 r4 c4 : Nat → Int32} (hS : ST = 1 ∨ ST = 2) (hp : p + 3 < 128) (hl : ∀ r, p < r → r < p + 4 → lt r = -1) (g1 : sv_go (G, LC, N, CU, LD, JD, OU, nI p, ST, ES, SR, lO, lA, lB, lI, lb, im, cd, sa, la, lt, mk, ds, cs, ce, rg) (G, LC, N, CU, LD, JD, OU, nI (p + 1), ST, ES, SR, lO, lA, lB, lI, lb, im, cd, sa, la, lt, mk, ds, cs, ce, r1)) (g2 : sv_go (G, LC, N, CU, LD, JD, OU, nI (p + 1), ST, ES, SR, lO, lA, lB, lI, lb, im, cd, sa, la, lt, mk, ds, cs, ce, r1) (G, LC, N, CU, LD, JD, OU, nI (p + 2), ST, ES, SR, lO, lA, lB, lI, lb, im, cd, sa, la, lt, mk, ds, cs, ce, r2)) (g3 : sv_go (G, LC, N, CU, LD, JD, OU, nI (p + 2), ST, ES, SR, lO, lA, lB, lI, lb, im, cd, sa, la, lt, mk, ds, cs, ce, r2) (G, LC, N, CU, LD, JD, OU, nI (p + 3), ST, ES, SR, lO, lA, lB, lI, lb, im, cd, sa, la, lt, mk, ds, cs, ce, r3)) (g4 : sv_go (G, LC, N, CU, LD, JD, OU, nI (p + 3), ST, ES, SR, lO, lA, lB, lI, lb, im, cd, sa, la, lt, mk, ds, cs, ce, r3) (G, LC, N, CU, LD, JD, OU, pc4, ST, ES, SR, lO, lA, lB, lI, lb, im, cd, sa, la, lt, mk, ds, cs, c4, r4)) (h : wX_runLine_6 post 5 (nI 3) G LC N CU LD JD OU pc4 ST ES SR lO lA lB lI lb im cd sa la lt mk ds cs c4 r4) : wpX_runLine post (G, LC, N, CU, LD, JD, OU, nI p, ST, ES, SR, lO, lA, lB, lI, lb, im, cd, sa, la, lt, mk, ds, cs, ce, rg) :=
  sx_first g1 (sx_mid hS (by omega) (by omega) (hl _ (by omega) (by omega)) g2 (sx_mid hS (by omega) (by omega) (hl _ (by omega) (by omega)) g3 (sx_mid hS (by omega) (by omega) (hl _ (by omega) (by omega)) g4 h)))
/-- a step that writes a register, its result named -/
theorem sx_w {o a b : Nat} {m : Int32} {r' : Nat → Int32} (hG : sv_gk G) (hp : p < 128) (d : sv_De (cd p) o a b m) (ho : 3 ≤ o ∧ o ≤ 12) (ha : a < 8) (hb : b < 8) (hr : upd rg a (sv_cv (nI o) (rg a) (rg b) m (sv_me G ce (rg b))) = r') : sv_go (G, LC, N, CU, LD, JD, OU, nI p, ST, ES, SR, lO, lA, lB, lI, lb, im, cd, sa, la, lt, mk, ds, cs, ce, rg) (G, LC, N, CU, LD, JD, OU, nI (p + 1), ST, ES, SR, lO, lA, lB, lI, lb, im, cd, sa, la, lt, mk, ds, cs, ce, r') := by
  subst hr
  have h3 : nI o = 3 ∨ nI o = 4 ∨ nI o = 5 ∨ nI o = 6 ∨ nI o = 7 ∨ nI o = 8 ∨ nI o = 9 ∨ nI o = 10 ∨ nI o = 11 ∨ nI o = 12 := by
    have : o = 3 ∨ o = 4 ∨ o = 5 ∨ o = 6 ∨ o = 7 ∨ o = 8 ∨ o = 9 ∨ o = 10 ∨ o = 11 ∨ o = 12 := by omega
    rcases this with rfl | rfl | rfl | rfl | rfl | rfl | rfl | rfl | rfl | rfl <;> decide
  exact sx_s_wr hG hp rfl d.1 h3 ha d.2.1 hb d.2.2.1 (by rw [d.2.2.2])
/-- a store inside the guest region -/
theorem sx_ws {a b : Nat} {m y : Int32} (hG : sv_gk G) (hp : p < 128) (d : sv_De (cd p) 13 a b m) (ha : a < 8) (hb : b < 8) (hy : rg a = y) (h1 : ¬ y < G) (h2 : y < 2 * G) (h0 : ¬ y < 0) : sv_go (G, LC, N, CU, LD, JD, OU, nI p, ST, ES, SR, lO, lA, lB, lI, lb, im, cd, sa, la, lt, mk, ds, cs, ce, rg) (G, LC, N, CU, LD, JD, OU, nI (p + 1), ST, ES, SR, lO, lA, lB, lI, lb, im, cd, sa, la, lt, mk, ds, cs, upd ce y.toNatClampNeg (rg b), rg) := by
  have g := sx_s_st (G := G) (LC := LC) (N := N) (CU := CU) (LD := LD) (JD := JD) (OU := OU) (ST := ST) (ES := ES) (SR := SR) (lO := lO) (lA := lA) (lB := lB) (lI := lI) (lb := lb) (im := im) (cd := cd) (sa := sa) (la := la) (lt := lt) (mk := mk) (ds := ds) (cs := cs) (ce := ce) (rg := rg) hG hp rfl d.1 ha d.2.1 hb d.2.2.1
  rw [hy] at g
  unfold sv_es sv_ss sv_sc at g
  rw [if_neg h1, if_pos h2, if_neg h0, if_pos h2, if_neg h0, if_pos h2] at g
  exact g
end SY
/-! the lines -/
section SZ
variable {post : SX → Prop} {m i : Nat}
theorem sl_ltm (hm : m ≤ 20) (hA : sv_At m (sv_ad lO lb m) la lt) (hi : i < m) {r : Nat} (h1 : sv_ad lO lb m i < r) (h2 : r < sv_ad lO lb m (i + 1)) : lt r = -1 := by
  have u2 := sv_ad_up (lO := lO) (lb := lb) (i := i + 1) hm (by omega)
  refine hA.2.2 r (by omega) (fun j hj e => ?_)
  rcases Nat.lt_trichotomy j i with z | z | z
  · have := sv_ad_mono2 (lO := lO) (lb := lb) z (Nat.le_of_lt hi); omega
  · rw [z] at e; omega
  · by_cases y : j = i + 1
    · rw [y] at e; omega
    · have := sv_ad_mono2 (lO := lO) (lb := lb) (i := i + 1) (j := j) (by omega) hj; omega
theorem sl_cd1 (hm : m ≤ 20) (hC : sv_Cd G lO lA lB lI lb m cd) (hi : i < m) {r : Nat} (h1 : sv_ad lO lb m i + sv_sz (lO i) ≤ r) (h2 : r < sv_ad lO lb m (i + 1)) : cd r = 1 := by
  have ui := sv_ad_up (lO := lO) (lb := lb) hm (Nat.le_of_lt hi)
  have u2 := sv_ad_up (lO := lO) (lb := lb) (i := i + 1) hm (by omega)
  refine hC.2.2.2.1 r (by omega) ?_ (fun j hj => ?_)
  · by_cases z : i + 1 < m
    · have := sv_ad_mono2 (lO := lO) (lb := lb) z (Nat.le_refl m); omega
    · rw [show i + 1 = m by omega] at h2; exact h2
  · rcases Nat.lt_trichotomy j i with z | z | z
    · have := sv_ad_mono2 (lO := lO) (lb := lb) z (Nat.le_of_lt hi); omega
    · rw [z]; omega
    · by_cases y : j = i + 1
      · rw [y]; omega
      · have := sv_ad_mono2 (lO := lO) (lb := lb) (i := i + 1) (j := j) (by omega) (Nat.le_of_lt hj); omega
/-- behind a line the machine walks to the next one -/
theorem sl_fall (hS : ST = 1 ∨ ST = 2) (hm : m ≤ 20) (hA : sv_At m (sv_ad lO lb m) la lt) (hC : sv_Cd G lO lA lB lI lb m cd) (hi : i < m) {q k n : Nat} (hq : q = sv_ad lO lb m i + sv_sz (lO i)) (hk : k ≤ 5) (hn : 3 < n) (h : post (G, LC, N, CU, LD, JD, OU, nI (sv_ad lO lb m (i + 1)), ST, ES, SR, lO, lA, lB, lI, lb, im, cd, sa, la, lt, mk, ds, cs, ce, rg)) : wX_runLine_6 post n (nI k) G LC N CU LD JD OU (nI q) ST ES SR lO lA lB lI lb im cd sa la lt mk ds cs ce rg := by
  subst hq
  have gp : sv_gap (sv_e lO lb (i + 1)) (sv_ad lO lb m (i + 1)) := sv_ad_gap
  rw [sv_ad_e hi] at gp
  have u2 := sv_ad_up (lO := lO) (lb := lb) (i := i + 1) hm (by omega)
  have s1 := sv_sz1 (lO i)
  obtain ⟨g1, g2, g3⟩ := gp
  refine sx_gapw hS (by omega) (hA.2.1 (i + 1) (by omega)) (by omega) h (sv_ad lO lb m (i + 1) - (sv_ad lO lb m i + sv_sz (lO i))) _ k n (by omega) (by omega) (by omega) (fun r h1 h2 => ⟨sl_cd1 hm hC hi h1 h2, sl_ltm hm hA hi (by omega) h2⟩)
/-- a jump to a label's line -/
theorem sl_goto (hS : ST = 1 ∨ ST = 2) (hm : m ≤ 20) (hl : sv_lbok lb m) (hA : sv_At m (sv_ad lO lb m) la lt) {k n c : Nat} (hk : k < 8) (h : post (G, LC, N, CU, LD, JD, OU, nI (sv_ad lO lb m (sv_tg lb m k)), ST, ES, SR, lO, lA, lB, lI, lb, im, cd, sa, la, lt, mk, ds, cs, ce, rg)) : wX_runLine_6 post (n + 1) (nI c) G LC N CU LD JD OU (nI (sv_ad lO lb m (sv_tg lb m k))) ST ES SR lO lA lB lI lb im cd sa la lt mk ds cs ce rg := by
  have t := sv_tg_le hl hm hk
  have u := sv_ad_up (lO := lO) (lb := lb) hm t
  exact sx_arr hS (by omega) (hA.2.1 _ t) (by omega) h
theorem sx_l0 (hG : sv_gk G) (hS : ST = 1 ∨ ST = 2) (hm : m ≤ 20) (hl : sv_lbok lb m) (hA : sv_At m (sv_ad lO lb m) la lt) (hC : sv_Cd G lO lA lB lI lb m cd) (hi : i < m) {a b : Nat} (ha : a < 6) (hb : b < 6) (ea : lA i = nI a) (eb : lB i = nI b) (e : lO i = 0) (h : post (G, LC, N, CU, LD, JD, OU, nI (sv_ad lO lb m i), 3, ES, SR, lO, lA, lB, lI, lb, im, cd, sa, la, lt, mk, ds, cs, ce, rg)) : wpX_runLine post (G, LC, N, CU, LD, JD, OU, nI (sv_ad lO lb m i), ST, ES, SR, lO, lA, lB, lI, lb, im, cd, sa, la, lt, mk, ds, cs, ce, rg) := by
  have hc := hC.2.2.1 i hi
  have up := sv_ad_up (lO := lO) (lb := lb) hm (Nat.le_of_lt hi)
  have fit := sv_ad_fit (lO := lO) (lb := lb) hi
  have nx := sv_ad_mono2 (lO := lO) (lb := lb) (i := i) (j := i + 1) (by omega) hi
  unfold sv_cel at hc
  rw [ea, eb, e, sv_sz_0, sv_seq0] at hc
  rw [e, sv_sz_0] at fit nx
  have d0 : sv_De (cd (sv_ad lO lb m i)) 0 a b 0 := by rw [show cd (sv_ad lO lb m i) = _ from hc 0 (by omega)]; exact sv_dec (o := 0) (a := a) (b := b) (by omega) (by omega) (by omega) sv_mm0
  exact sx_first (sx_s_halt (by omega) rfl d0.1) (sx_arrE (n := 0) (Or.inl rfl) h)
theorem sx_l3 (hG : sv_gk G) (hS : ST = 1 ∨ ST = 2) (hm : m ≤ 20) (hl : sv_lbok lb m) (hA : sv_At m (sv_ad lO lb m) la lt) (hC : sv_Cd G lO lA lB lI lb m cd) (hi : i < m) {a b : Nat} (ha : a < 6) (hb : b < 6) (ea : lA i = nI a) (eb : lB i = nI b) (e : lO i = 3) (h : post (G, LC, N, CU, LD, JD, OU, nI (sv_ad lO lb m (i + 1)), ST, ES, SR, lO, lA, lB, lI, lb, im, cd, sa, la, lt, mk, ds, cs, ce, upd rg a (rg b))) : wpX_runLine post (G, LC, N, CU, LD, JD, OU, nI (sv_ad lO lb m i), ST, ES, SR, lO, lA, lB, lI, lb, im, cd, sa, la, lt, mk, ds, cs, ce, rg) := by
  have hc := hC.2.2.1 i hi
  have up := sv_ad_up (lO := lO) (lb := lb) hm (Nat.le_of_lt hi)
  have fit := sv_ad_fit (lO := lO) (lb := lb) hi
  have nx := sv_ad_mono2 (lO := lO) (lb := lb) (i := i) (j := i + 1) (by omega) hi
  unfold sv_cel at hc
  rw [ea, eb, e, sv_sz_3, sv_seq3] at hc
  rw [e, sv_sz_3] at fit nx
  have d0 : sv_De (cd (sv_ad lO lb m i)) 3 a b 0 := by rw [show cd (sv_ad lO lb m i) = _ from hc 0 (by omega)]; exact sv_dec (o := 3) (a := a) (b := b) (by omega) (by omega) (by omega) sv_mm0
  exact sx_first (sx_w hG (by omega) d0 (by omega) (by omega) (by omega) (congrArg (upd rg a) (sv_cv3 _ _ _ _))) (sl_fall (n := 4) hS hm hA hC hi (by rw [e, sv_sz_3]) (by omega) (by omega) h)
theorem sx_l4 (hG : sv_gk G) (hS : ST = 1 ∨ ST = 2) (hm : m ≤ 20) (hl : sv_lbok lb m) (hA : sv_At m (sv_ad lO lb m) la lt) (hC : sv_Cd G lO lA lB lI lb m cd) (hi : i < m) {a b : Nat} (ha : a < 6) (hb : b < 6) (ea : lA i = nI a) (eb : lB i = nI b) (e : lO i = 4) (h : post (G, LC, N, CU, LD, JD, OU, nI (sv_ad lO lb m (i + 1)), ST, ES, SR, lO, lA, lB, lI, lb, im, cd, sa, la, lt, mk, ds, cs, ce, upd rg a (rg a + rg b))) : wpX_runLine post (G, LC, N, CU, LD, JD, OU, nI (sv_ad lO lb m i), ST, ES, SR, lO, lA, lB, lI, lb, im, cd, sa, la, lt, mk, ds, cs, ce, rg) := by
  have hc := hC.2.2.1 i hi
  have up := sv_ad_up (lO := lO) (lb := lb) hm (Nat.le_of_lt hi)
  have fit := sv_ad_fit (lO := lO) (lb := lb) hi
  have nx := sv_ad_mono2 (lO := lO) (lb := lb) (i := i) (j := i + 1) (by omega) hi
  unfold sv_cel at hc
  rw [ea, eb, e, sv_sz_4, sv_seq4] at hc
  rw [e, sv_sz_4] at fit nx
  have d0 : sv_De (cd (sv_ad lO lb m i)) 4 a b 0 := by rw [show cd (sv_ad lO lb m i) = _ from hc 0 (by omega)]; exact sv_dec (o := 4) (a := a) (b := b) (by omega) (by omega) (by omega) sv_mm0
  exact sx_first (sx_w hG (by omega) d0 (by omega) (by omega) (by omega) (congrArg (upd rg a) (sv_cv4 _ _ _ _))) (sl_fall (n := 4) hS hm hA hC hi (by rw [e, sv_sz_4]) (by omega) (by omega) h)
theorem sx_l5 (hG : sv_gk G) (hS : ST = 1 ∨ ST = 2) (hm : m ≤ 20) (hl : sv_lbok lb m) (hA : sv_At m (sv_ad lO lb m) la lt) (hC : sv_Cd G lO lA lB lI lb m cd) (hi : i < m) {a b : Nat} (ha : a < 6) (hb : b < 6) (ea : lA i = nI a) (eb : lB i = nI b) (e : lO i = 5) (h : post (G, LC, N, CU, LD, JD, OU, nI (sv_ad lO lb m (i + 1)), ST, ES, SR, lO, lA, lB, lI, lb, im, cd, sa, la, lt, mk, ds, cs, ce, upd rg a (rg a - rg b))) : wpX_runLine post (G, LC, N, CU, LD, JD, OU, nI (sv_ad lO lb m i), ST, ES, SR, lO, lA, lB, lI, lb, im, cd, sa, la, lt, mk, ds, cs, ce, rg) := by
  have hc := hC.2.2.1 i hi
  have up := sv_ad_up (lO := lO) (lb := lb) hm (Nat.le_of_lt hi)
  have fit := sv_ad_fit (lO := lO) (lb := lb) hi
  have nx := sv_ad_mono2 (lO := lO) (lb := lb) (i := i) (j := i + 1) (by omega) hi
  unfold sv_cel at hc
  rw [ea, eb, e, sv_sz_5, sv_seq5] at hc
  rw [e, sv_sz_5] at fit nx
  have d0 : sv_De (cd (sv_ad lO lb m i)) 5 a b 0 := by rw [show cd (sv_ad lO lb m i) = _ from hc 0 (by omega)]; exact sv_dec (o := 5) (a := a) (b := b) (by omega) (by omega) (by omega) sv_mm0
  exact sx_first (sx_w hG (by omega) d0 (by omega) (by omega) (by omega) (congrArg (upd rg a) (sv_cv5 _ _ _ _))) (sl_fall (n := 4) hS hm hA hC hi (by rw [e, sv_sz_5]) (by omega) (by omega) h)
theorem sx_l6 (hG : sv_gk G) (hS : ST = 1 ∨ ST = 2) (hm : m ≤ 20) (hl : sv_lbok lb m) (hA : sv_At m (sv_ad lO lb m) la lt) (hC : sv_Cd G lO lA lB lI lb m cd) (hi : i < m) {a b : Nat} (ha : a < 6) (hb : b < 6) (ea : lA i = nI a) (eb : lB i = nI b) (e : lO i = 6) (h : post (G, LC, N, CU, LD, JD, OU, nI (sv_ad lO lb m (i + 1)), ST, ES, SR, lO, lA, lB, lI, lb, im, cd, sa, la, lt, mk, ds, cs, ce, upd rg a (rg a * rg b))) : wpX_runLine post (G, LC, N, CU, LD, JD, OU, nI (sv_ad lO lb m i), ST, ES, SR, lO, lA, lB, lI, lb, im, cd, sa, la, lt, mk, ds, cs, ce, rg) := by
  have hc := hC.2.2.1 i hi
  have up := sv_ad_up (lO := lO) (lb := lb) hm (Nat.le_of_lt hi)
  have fit := sv_ad_fit (lO := lO) (lb := lb) hi
  have nx := sv_ad_mono2 (lO := lO) (lb := lb) (i := i) (j := i + 1) (by omega) hi
  unfold sv_cel at hc
  rw [ea, eb, e, sv_sz_6, sv_seq6] at hc
  rw [e, sv_sz_6] at fit nx
  have d0 : sv_De (cd (sv_ad lO lb m i)) 6 a b 0 := by rw [show cd (sv_ad lO lb m i) = _ from hc 0 (by omega)]; exact sv_dec (o := 6) (a := a) (b := b) (by omega) (by omega) (by omega) sv_mm0
  exact sx_first (sx_w hG (by omega) d0 (by omega) (by omega) (by omega) (congrArg (upd rg a) (sv_cv6 _ _ _ _))) (sl_fall (n := 4) hS hm hA hC hi (by rw [e, sv_sz_6]) (by omega) (by omega) h)
theorem sx_l7 (hG : sv_gk G) (hS : ST = 1 ∨ ST = 2) (hm : m ≤ 20) (hl : sv_lbok lb m) (hA : sv_At m (sv_ad lO lb m) la lt) (hC : sv_Cd G lO lA lB lI lb m cd) (hi : i < m) {a b : Nat} (ha : a < 6) (hb : b < 6) (ea : lA i = nI a) (eb : lB i = nI b) (e : lO i = 7) (h : post (G, LC, N, CU, LD, JD, OU, nI (sv_ad lO lb m (i + 1)), ST, ES, SR, lO, lA, lB, lI, lb, im, cd, sa, la, lt, mk, ds, cs, ce, upd rg a (rg a &&& rg b))) : wpX_runLine post (G, LC, N, CU, LD, JD, OU, nI (sv_ad lO lb m i), ST, ES, SR, lO, lA, lB, lI, lb, im, cd, sa, la, lt, mk, ds, cs, ce, rg) := by
  have hc := hC.2.2.1 i hi
  have up := sv_ad_up (lO := lO) (lb := lb) hm (Nat.le_of_lt hi)
  have fit := sv_ad_fit (lO := lO) (lb := lb) hi
  have nx := sv_ad_mono2 (lO := lO) (lb := lb) (i := i) (j := i + 1) (by omega) hi
  unfold sv_cel at hc
  rw [ea, eb, e, sv_sz_7, sv_seq7] at hc
  rw [e, sv_sz_7] at fit nx
  have d0 : sv_De (cd (sv_ad lO lb m i)) 7 a b 0 := by rw [show cd (sv_ad lO lb m i) = _ from hc 0 (by omega)]; exact sv_dec (o := 7) (a := a) (b := b) (by omega) (by omega) (by omega) sv_mm0
  exact sx_first (sx_w hG (by omega) d0 (by omega) (by omega) (by omega) (congrArg (upd rg a) (sv_cv7 _ _ _ _))) (sl_fall (n := 4) hS hm hA hC hi (by rw [e, sv_sz_7]) (by omega) (by omega) h)
theorem sx_l2 (hG : sv_gk G) (hS : ST = 1 ∨ ST = 2) (hm : m ≤ 20) (hl : sv_lbok lb m) (hA : sv_At m (sv_ad lO lb m) la lt) (hC : sv_Cd G lO lA lB lI lb m cd) (hi : i < m) {a b : Nat} (ha : a < 6) (hb : b < 6) (ea : lA i = nI a) (eb : lB i = nI b) (e : lO i = 2) (h : post (G, LC, N, CU, LD, JD, OU, nI (sv_ad lO lb m (i + 1)), ST, ES, SR, lO, lA, lB, lI, lb, im, cd, sa, la, lt, mk, ds, cs, ce, upd rg a (lI i))) : wpX_runLine post (G, LC, N, CU, LD, JD, OU, nI (sv_ad lO lb m i), ST, ES, SR, lO, lA, lB, lI, lb, im, cd, sa, la, lt, mk, ds, cs, ce, rg) := by
  have hc := hC.2.2.1 i hi
  have up := sv_ad_up (lO := lO) (lb := lb) hm (Nat.le_of_lt hi)
  have fit := sv_ad_fit (lO := lO) (lb := lb) hi
  have nx := sv_ad_mono2 (lO := lO) (lb := lb) (i := i) (j := i + 1) (by omega) hi
  unfold sv_cel at hc
  rw [ea, eb, e, sv_sz_2, sv_seq2] at hc
  rw [e, sv_sz_2] at fit nx
  have d0 : sv_De (cd (sv_ad lO lb m i)) 2 a 0 0 := by rw [show cd (sv_ad lO lb m i) = _ from hc 0 (by omega)]; exact sv_dec (o := 2) (a := a) (b := 0) (by omega) (by omega) (by omega) sv_mm0
  have f1 : sv_ft cd (sv_ad lO lb m i + 1) = lI i := sv_ftp (by omega) (hc 1 (by omega))
  have g := sx_s_li (G := G) (LC := LC) (N := N) (CU := CU) (LD := LD) (JD := JD) (OU := OU) (ST := ST) (ES := ES) (SR := SR) (lO := lO) (lA := lA) (lB := lB) (lI := lI) (lb := lb) (im := im) (cd := cd) (sa := sa) (la := la) (lt := lt) (mk := mk) (ds := ds) (cs := cs) (ce := ce) (rg := rg) (by omega) rfl d0.1 (show a < 8 by omega) d0.2.1
  rw [f1] at g
  exact sx_first g (sl_fall (n := 4) hS hm hA hC hi (by rw [e, sv_sz_2]) (by omega) (by omega) h)
theorem sx_l12 (hG : sv_gk G) (hS : ST = 1 ∨ ST = 2) (hm : m ≤ 20) (hl : sv_lbok lb m) (hA : sv_At m (sv_ad lO lb m) la lt) (hC : sv_Cd G lO lA lB lI lb m cd) (hi : i < m) {a b : Nat} (ha : a < 6) (hb : b < 6) (ea : lA i = nI a) (eb : lB i = nI b) (e : lO i = 12) (h : post (G, LC, N, CU, LD, JD, OU, nI (sv_ad lO lb m (i + 1)), ST, ES, SR, lO, lA, lB, lI, lb, im, cd, sa, la, lt, mk, ds, cs, ce, upd (upd rg 6 (G + (rg b &&& (G - 1)))) a (ce (G + (rg b &&& (G - 1))).toNatClampNeg))) : wpX_runLine post (G, LC, N, CU, LD, JD, OU, nI (sv_ad lO lb m i), ST, ES, SR, lO, lA, lB, lI, lb, im, cd, sa, la, lt, mk, ds, cs, ce, rg) := by
  have hc := hC.2.2.1 i hi
  have up := sv_ad_up (lO := lO) (lb := lb) hm (Nat.le_of_lt hi)
  have fit := sv_ad_fit (lO := lO) (lb := lb) hi
  have nx := sv_ad_mono2 (lO := lO) (lb := lb) (i := i) (j := i + 1) (by omega) hi
  unfold sv_cel at hc
  rw [ea, eb, e, sv_sz_12, sv_seq12] at hc
  rw [e, sv_sz_12] at fit nx
  obtain ⟨m1, m2, m3, m4⟩ := sv_gmm hG
  have d0 : sv_De (cd (sv_ad lO lb m i)) 3 6 b 0 := by rw [show cd (sv_ad lO lb m i) = _ from hc 0 (by omega)]; exact sv_dec (o := 3) (a := 6) (b := b) (by omega) (by omega) (by omega) sv_mm0
  have d1 : sv_De (cd (sv_ad lO lb m i + 1)) 9 6 0 (G - 1) := by rw [show cd (sv_ad lO lb m i + 1) = _ from hc 1 (by omega)]; exact sv_dec (o := 9) (a := 6) (b := 0) (by omega) (by omega) (by omega) m2
  have d2 : sv_De (cd (sv_ad lO lb m i + 2)) 10 6 0 G := by rw [show cd (sv_ad lO lb m i + 2) = _ from hc 2 (by omega)]; exact sv_dec (o := 10) (a := 6) (b := 0) (by omega) (by omega) (by omega) m1
  have d3 : sv_De (cd (sv_ad lO lb m i + 3)) 12 a 6 0 := by rw [show cd (sv_ad lO lb m i + 3) = _ from hc 3 (by omega)]; exact sv_dec (o := 12) (a := a) (b := 6) (by omega) (by omega) (by omega) sv_mm0
  have hlt : ∀ r, sv_ad lO lb m i < r → r < sv_ad lO lb m i + 4 → lt r = -1 := fun r h1 h2 => sl_ltm hm hA hi h1 (by omega)
  obtain ⟨f1, f2, f3, f4⟩ := sv_fen hG (rg b)
  refine sx_four hS (by omega) hlt (r1 := upd rg 6 (rg b)) (r2 := upd rg 6 (rg b &&& (G - 1))) (r3 := upd rg 6 (G + (rg b &&& (G - 1)))) (sx_w hG (by omega) d0 (by omega) (by omega) (by omega) ?_) (sx_w hG (by omega) d1 (by omega) (by omega) (by omega) ?_) (sx_w hG (by omega) d2 (by omega) (by omega) (by omega) ?_) (sx_w hG (by omega) d3 (by omega) (by omega) (by omega) ?_) (sl_fall (k := 3) hS hm hA hC hi (by rw [e, sv_sz_12]) (by omega) (by omega) h)
  · exact congrArg (upd rg 6) (sv_cv3 _ _ _ _)
  · rw [show nI 9 = 9 from rfl, sv_cv9, pk_us, sv_uu]
  · rw [show nI 10 = 10 from rfl, sv_cv10, pk_us, sv_uu, f1]
  · rw [show nI 12 = 12 from rfl, sv_cv12, pk_us]
    unfold sv_me
    rw [if_neg f4, if_pos f3]
theorem sx_l13 (hG : sv_gk G) (hS : ST = 1 ∨ ST = 2) (hm : m ≤ 20) (hl : sv_lbok lb m) (hA : sv_At m (sv_ad lO lb m) la lt) (hC : sv_Cd G lO lA lB lI lb m cd) (hi : i < m) {a b : Nat} (ha : a < 6) (hb : b < 6) (ea : lA i = nI a) (eb : lB i = nI b) (e : lO i = 13) (h : post (G, LC, N, CU, LD, JD, OU, nI (sv_ad lO lb m (i + 1)), ST, ES, SR, lO, lA, lB, lI, lb, im, cd, sa, la, lt, mk, ds, cs, upd ce (G + (rg a &&& (G - 1))).toNatClampNeg (rg b), upd rg 6 (G + (rg a &&& (G - 1))))) : wpX_runLine post (G, LC, N, CU, LD, JD, OU, nI (sv_ad lO lb m i), ST, ES, SR, lO, lA, lB, lI, lb, im, cd, sa, la, lt, mk, ds, cs, ce, rg) := by
  have hc := hC.2.2.1 i hi
  have up := sv_ad_up (lO := lO) (lb := lb) hm (Nat.le_of_lt hi)
  have fit := sv_ad_fit (lO := lO) (lb := lb) hi
  have nx := sv_ad_mono2 (lO := lO) (lb := lb) (i := i) (j := i + 1) (by omega) hi
  unfold sv_cel at hc
  rw [ea, eb, e, sv_sz_13, sv_seq13] at hc
  rw [e, sv_sz_13] at fit nx
  obtain ⟨m1, m2, m3, m4⟩ := sv_gmm hG
  have d0 : sv_De (cd (sv_ad lO lb m i)) 3 6 a 0 := by rw [show cd (sv_ad lO lb m i) = _ from hc 0 (by omega)]; exact sv_dec (o := 3) (a := 6) (b := a) (by omega) (by omega) (by omega) sv_mm0
  have d1 : sv_De (cd (sv_ad lO lb m i + 1)) 9 6 0 (G - 1) := by rw [show cd (sv_ad lO lb m i + 1) = _ from hc 1 (by omega)]; exact sv_dec (o := 9) (a := 6) (b := 0) (by omega) (by omega) (by omega) m2
  have d2 : sv_De (cd (sv_ad lO lb m i + 2)) 10 6 0 G := by rw [show cd (sv_ad lO lb m i + 2) = _ from hc 2 (by omega)]; exact sv_dec (o := 10) (a := 6) (b := 0) (by omega) (by omega) (by omega) m1
  have d3 : sv_De (cd (sv_ad lO lb m i + 3)) 13 6 b 0 := by rw [show cd (sv_ad lO lb m i + 3) = _ from hc 3 (by omega)]; exact sv_dec (o := 13) (a := 6) (b := b) (by omega) (by omega) (by omega) sv_mm0
  have hlt : ∀ r, sv_ad lO lb m i < r → r < sv_ad lO lb m i + 4 → lt r = -1 := fun r h1 h2 => sl_ltm hm hA hi h1 (by omega)
  obtain ⟨f1, f2, f3, f4⟩ := sv_fen hG (rg a)
  have g4 := sx_ws (G := G) (LC := LC) (N := N) (CU := CU) (LD := LD) (JD := JD) (OU := OU) (ST := ST) (ES := ES) (SR := SR) (lO := lO) (lA := lA) (lB := lB) (lI := lI) (lb := lb) (im := im) (cd := cd) (sa := sa) (la := la) (lt := lt) (mk := mk) (ds := ds) (cs := cs) (ce := ce) (rg := upd rg 6 (G + (rg a &&& (G - 1)))) hG (by omega) d3 (by omega) (by omega) pk_us f2 f3 f4
  rw [pk_un (show b ≠ 6 by omega)] at g4
  refine sx_four hS (by omega) hlt (r1 := upd rg 6 (rg a)) (r2 := upd rg 6 (rg a &&& (G - 1))) (r3 := upd rg 6 (G + (rg a &&& (G - 1)))) (sx_w hG (by omega) d0 (by omega) (by omega) (by omega) ?_) (sx_w hG (by omega) d1 (by omega) (by omega) (by omega) ?_) (sx_w hG (by omega) d2 (by omega) (by omega) (by omega) ?_) g4 (sl_fall (k := 3) hS hm hA hC hi (by rw [e, sv_sz_13]) (by omega) (by omega) h)
  · exact congrArg (upd rg 6) (sv_cv3 _ _ _ _)
  · rw [show nI 9 = 9 from rfl, sv_cv9, pk_us, sv_uu]
  · rw [show nI 10 = 10 from rfl, sv_cv10, pk_us, sv_uu, f1]
theorem sx_l18 (hG : sv_gk G) (hS : ST = 1 ∨ ST = 2) (hm : m ≤ 20) (hl : sv_lbok lb m) (hA : sv_At m (sv_ad lO lb m) la lt) (hC : sv_Cd G lO lA lB lI lb m cd) (hi : i < m) {a b : Nat} (ha : a < 6) (hb : b < 6) (ea : lA i = nI a) (eb : lB i = nI b) (e : lO i = 18) (h : post (G, LC, N, CU, LD, JD, OU, nI (sv_ad lO lb m (i + 1)), ST, ES, SR, lO, lA, lB, lI, lb, im, cd, sa, la, lt, mk, ds, cs, upd ce (G + ((rg 7 + (-1)) &&& (G - 1))).toNatClampNeg (rg a), upd rg 7 (G + ((rg 7 + (-1)) &&& (G - 1))))) : wpX_runLine post (G, LC, N, CU, LD, JD, OU, nI (sv_ad lO lb m i), ST, ES, SR, lO, lA, lB, lI, lb, im, cd, sa, la, lt, mk, ds, cs, ce, rg) := by
  have hc := hC.2.2.1 i hi
  have up := sv_ad_up (lO := lO) (lb := lb) hm (Nat.le_of_lt hi)
  have fit := sv_ad_fit (lO := lO) (lb := lb) hi
  have nx := sv_ad_mono2 (lO := lO) (lb := lb) (i := i) (j := i + 1) (by omega) hi
  unfold sv_cel at hc
  rw [ea, eb, e, sv_sz_18, sv_seq18] at hc
  rw [e, sv_sz_18] at fit nx
  obtain ⟨m1, m2, m3, m4⟩ := sv_gmm hG
  have d0 : sv_De (cd (sv_ad lO lb m i)) 8 7 0 (-1) := by rw [show cd (sv_ad lO lb m i) = _ from hc 0 (by omega)]; exact sv_dec (o := 8) (a := 7) (b := 0) (by omega) (by omega) (by omega) sv_mm_m1
  have d1 : sv_De (cd (sv_ad lO lb m i + 1)) 9 7 0 (G - 1) := by rw [show cd (sv_ad lO lb m i + 1) = _ from hc 1 (by omega)]; exact sv_dec (o := 9) (a := 7) (b := 0) (by omega) (by omega) (by omega) m2
  have d2 : sv_De (cd (sv_ad lO lb m i + 2)) 10 7 0 G := by rw [show cd (sv_ad lO lb m i + 2) = _ from hc 2 (by omega)]; exact sv_dec (o := 10) (a := 7) (b := 0) (by omega) (by omega) (by omega) m1
  have d3 : sv_De (cd (sv_ad lO lb m i + 3)) 13 7 a 0 := by rw [show cd (sv_ad lO lb m i + 3) = _ from hc 3 (by omega)]; exact sv_dec (o := 13) (a := 7) (b := a) (by omega) (by omega) (by omega) sv_mm0
  have hlt : ∀ r, sv_ad lO lb m i < r → r < sv_ad lO lb m i + 4 → lt r = -1 := fun r h1 h2 => sl_ltm hm hA hi h1 (by omega)
  obtain ⟨f1, f2, f3, f4⟩ := sv_fen hG (rg 7 + (-1))
  have g4 := sx_ws (G := G) (LC := LC) (N := N) (CU := CU) (LD := LD) (JD := JD) (OU := OU) (ST := ST) (ES := ES) (SR := SR) (lO := lO) (lA := lA) (lB := lB) (lI := lI) (lb := lb) (im := im) (cd := cd) (sa := sa) (la := la) (lt := lt) (mk := mk) (ds := ds) (cs := cs) (ce := ce) (rg := upd rg 7 (G + ((rg 7 + (-1)) &&& (G - 1)))) hG (by omega) d3 (by omega) (by omega) pk_us f2 f3 f4
  rw [pk_un (show a ≠ 7 by omega)] at g4
  refine sx_four hS (by omega) hlt (r1 := upd rg 7 (rg 7 + (-1))) (r2 := upd rg 7 ((rg 7 + (-1)) &&& (G - 1))) (r3 := upd rg 7 (G + ((rg 7 + (-1)) &&& (G - 1)))) (sx_w hG (by omega) d0 (by omega) (by omega) (by omega) ?_) (sx_w hG (by omega) d1 (by omega) (by omega) (by omega) ?_) (sx_w hG (by omega) d2 (by omega) (by omega) (by omega) ?_) g4 (sl_fall (k := 3) hS hm hA hC hi (by rw [e, sv_sz_18]) (by omega) (by omega) h)
  · exact congrArg (upd rg 7) (sv_cv8 _ _ _ _)
  · rw [show nI 9 = 9 from rfl, sv_cv9, pk_us, sv_uu]
  · rw [show nI 10 = 10 from rfl, sv_cv10, pk_us, sv_uu, f1]
theorem sx_l19 (hG : sv_gk G) (hS : ST = 1 ∨ ST = 2) (hm : m ≤ 20) (hl : sv_lbok lb m) (hA : sv_At m (sv_ad lO lb m) la lt) (hC : sv_Cd G lO lA lB lI lb m cd) (hi : i < m) {a b : Nat} (ha : a < 6) (hb : b < 6) (ea : lA i = nI a) (eb : lB i = nI b) (e : lO i = 19) (h : post (G, LC, N, CU, LD, JD, OU, nI (sv_ad lO lb m (i + 1)), ST, ES, SR, lO, lA, lB, lI, lb, im, cd, sa, la, lt, mk, ds, cs, ce, upd (upd rg a (sv_me G ce (rg 7))) 7 (G + ((rg 7 + 1) &&& (G - 1))))) : wpX_runLine post (G, LC, N, CU, LD, JD, OU, nI (sv_ad lO lb m i), ST, ES, SR, lO, lA, lB, lI, lb, im, cd, sa, la, lt, mk, ds, cs, ce, rg) := by
  have hc := hC.2.2.1 i hi
  have up := sv_ad_up (lO := lO) (lb := lb) hm (Nat.le_of_lt hi)
  have fit := sv_ad_fit (lO := lO) (lb := lb) hi
  have nx := sv_ad_mono2 (lO := lO) (lb := lb) (i := i) (j := i + 1) (by omega) hi
  unfold sv_cel at hc
  rw [ea, eb, e, sv_sz_19, sv_seq19] at hc
  rw [e, sv_sz_19] at fit nx
  obtain ⟨m1, m2, m3, m4⟩ := sv_gmm hG
  have d0 : sv_De (cd (sv_ad lO lb m i)) 12 a 7 0 := by rw [show cd (sv_ad lO lb m i) = _ from hc 0 (by omega)]; exact sv_dec (o := 12) (a := a) (b := 7) (by omega) (by omega) (by omega) sv_mm0
  have d1 : sv_De (cd (sv_ad lO lb m i + 1)) 8 7 0 1 := by rw [show cd (sv_ad lO lb m i + 1) = _ from hc 1 (by omega)]; exact sv_dec (o := 8) (a := 7) (b := 0) (by omega) (by omega) (by omega) sv_mm1
  have d2 : sv_De (cd (sv_ad lO lb m i + 2)) 9 7 0 (G - 1) := by rw [show cd (sv_ad lO lb m i + 2) = _ from hc 2 (by omega)]; exact sv_dec (o := 9) (a := 7) (b := 0) (by omega) (by omega) (by omega) m2
  have d3 : sv_De (cd (sv_ad lO lb m i + 3)) 10 7 0 G := by rw [show cd (sv_ad lO lb m i + 3) = _ from hc 3 (by omega)]; exact sv_dec (o := 10) (a := 7) (b := 0) (by omega) (by omega) (by omega) m1
  have hlt : ∀ r, sv_ad lO lb m i < r → r < sv_ad lO lb m i + 4 → lt r = -1 := fun r h1 h2 => sl_ltm hm hA hi h1 (by omega)
  obtain ⟨f1, f2, f3, f4⟩ := sv_fen hG (rg 7 + 1)
  refine sx_four hS (by omega) hlt (r1 := upd rg a (sv_me G ce (rg 7))) (r2 := upd (upd rg a (sv_me G ce (rg 7))) 7 (rg 7 + 1)) (r3 := upd (upd rg a (sv_me G ce (rg 7))) 7 ((rg 7 + 1) &&& (G - 1))) (sx_w hG (by omega) d0 (by omega) (by omega) (by omega) ?_) (sx_w hG (by omega) d1 (by omega) (by omega) (by omega) ?_) (sx_w hG (by omega) d2 (by omega) (by omega) (by omega) ?_) (sx_w hG (by omega) d3 (by omega) (by omega) (by omega) ?_) (sl_fall (k := 3) hS hm hA hC hi (by rw [e, sv_sz_19]) (by omega) (by omega) h)
  · exact congrArg (upd rg a) (sv_cv12 _ _ _ _)
  · rw [show nI 8 = 8 from rfl, sv_cv8, pk_un (show 7 ≠ a by omega)]
  · rw [show nI 9 = 9 from rfl, sv_cv9, pk_us, sv_uu]
  · rw [show nI 10 = 10 from rfl, sv_cv10, pk_us, sv_uu, f1]
theorem sx_l17 (hG : sv_gk G) (hS : ST = 1 ∨ ST = 2) (hm : m ≤ 20) (hl : sv_lbok lb m) (hA : sv_At m (sv_ad lO lb m) la lt) (hC : sv_Cd G lO lA lB lI lb m cd) (hi : i < m) {a b : Nat} (ha : a < 6) (hb : b < 6) (ea : lA i = nI a) (eb : lB i = nI b) (e : lO i = 17) (h : post (G, LC, N, CU, LD, JD, OU, nI (sv_ad lO lb m (sv_tg lb m (rg a &&& 7).toNatClampNeg)), ST, ES, SR, lO, lA, lB, lI, lb, im, cd, sa, la, lt, mk, ds, cs, ce, upd rg 6 ((rg a <<< (((2 : Int32) &&& 31) &&& 31)) &&& 28))) : wpX_runLine post (G, LC, N, CU, LD, JD, OU, nI (sv_ad lO lb m i), ST, ES, SR, lO, lA, lB, lI, lb, im, cd, sa, la, lt, mk, ds, cs, ce, rg) := by
  have hc := hC.2.2.1 i hi
  have up := sv_ad_up (lO := lO) (lb := lb) hm (Nat.le_of_lt hi)
  have fit := sv_ad_fit (lO := lO) (lb := lb) hi
  have nx := sv_ad_mono2 (lO := lO) (lb := lb) (i := i) (j := i + 1) (by omega) hi
  unfold sv_cel at hc
  rw [ea, eb, e, sv_sz_17, sv_seq17] at hc
  rw [e, sv_sz_17] at fit nx
  have d0 : sv_De (cd (sv_ad lO lb m i)) 3 6 a 0 := by rw [show cd (sv_ad lO lb m i) = _ from hc 0 (by omega)]; exact sv_dec (o := 3) (a := 6) (b := a) (by omega) (by omega) (by omega) sv_mm0
  have d1 : sv_De (cd (sv_ad lO lb m i + 1)) 11 6 0 2 := by rw [show cd (sv_ad lO lb m i + 1) = _ from hc 1 (by omega)]; exact sv_dec (o := 11) (a := 6) (b := 0) (by omega) (by omega) (by omega) sv_mm2
  have d2 : sv_De (cd (sv_ad lO lb m i + 2)) 9 6 0 28 := by rw [show cd (sv_ad lO lb m i + 2) = _ from hc 2 (by omega)]; exact sv_dec (o := 9) (a := 6) (b := 0) (by omega) (by omega) (by omega) sv_mm28
  have d3 : sv_De (cd (sv_ad lO lb m i + 3)) 17 6 0 0 := by rw [show cd (sv_ad lO lb m i + 3) = _ from hc 3 (by omega)]; exact sv_dec (o := 17) (a := 6) (b := 0) (by omega) (by omega) (by omega) sv_mm0
  have hlt : ∀ r, sv_ad lO lb m i < r → r < sv_ad lO lb m i + 4 → lt r = -1 := fun r h1 h2 => sl_ltm hm hA hi h1 (by omega)
  obtain ⟨k, hk, k1, k2⟩ := sv_jr (rg a)
  rw [k1] at h
  have t := sv_tg_le hl hm hk
  have u := sv_ad_up (lO := lO) (lb := lb) hm t
  have g4 := sx_s_jr (G := G) (LC := LC) (N := N) (CU := CU) (LD := LD) (JD := JD) (OU := OU) (ST := ST) (ES := ES) (SR := SR) (lO := lO) (lA := lA) (lB := lB) (lI := lI) (lb := lb) (im := im) (cd := cd) (sa := sa) (la := la) (lt := lt) (mk := mk) (ds := ds) (cs := cs) (ce := ce) (rg := upd rg 6 ((rg a <<< (((2 : Int32) &&& 31) &&& 31)) &&& 28)) (show sv_ad lO lb m i + 3 < 128 by omega) rfl d3.1 (show 6 < 8 by omega) d3.2.1
  rw [pk_us, k2] at g4
  rw [k2] at h
  have p4 := hC.1 k hk
  have pm : sv_De (cd (4 * k)) 14 0 0 (nI (sv_ad lO lb m (sv_tg lb m k))) := by rw [p4]; exact sv_dec (o := 14) (a := 0) (b := 0) (by omega) (by omega) (by omega) (sv_mmN (by omega))
  have g5 := sx_s_jmp (G := G) (LC := LC) (N := N) (CU := CU) (LD := LD) (JD := JD) (OU := OU) (ST := ST) (ES := ES) (SR := SR) (lO := lO) (lA := lA) (lB := lB) (lI := lI) (lb := lb) (im := im) (cd := cd) (sa := sa) (la := la) (lt := lt) (mk := mk) (ds := ds) (cs := cs) (ce := ce) (rg := upd rg 6 (nI (4 * k))) (show 4 * k < 128 by omega) rfl pm.1
  rw [pm.2.2.2] at g5
  have hl4 : lt (4 * k) = -1 := hA.2.2 _ (by omega) (fun j hj z => by have := sv_ad_up (lO := lO) (lb := lb) hm hj; omega)
  refine sx_four hS (by omega) hlt (r1 := upd rg 6 (rg a)) (r2 := upd rg 6 (rg a <<< (((2 : Int32) &&& 31) &&& 31))) (r3 := upd rg 6 (nI (4 * k))) (sx_w hG (by omega) d0 (by omega) (by omega) (by omega) ?_) (sx_w hG (by omega) d1 (by omega) (by omega) (by omega) ?_) (sx_w hG (by omega) d2 (by omega) (by omega) (by omega) ?_) g4 (sx_mid hS (by omega) (by omega) hl4 g5 (sl_goto hS hm hl hA hk h))
  · exact congrArg (upd rg 6) (sv_cv3 _ _ _ _)
  · rw [show nI 11 = 11 from rfl, sv_cv11, pk_us, sv_uu]
  · rw [show nI 9 = 9 from rfl, sv_cv9, pk_us, sv_uu, k2]
theorem sx_l14 (hG : sv_gk G) (hS : ST = 1 ∨ ST = 2) (hm : m ≤ 20) (hl : sv_lbok lb m) (hA : sv_At m (sv_ad lO lb m) la lt) (hC : sv_Cd G lO lA lB lI lb m cd) (hi : i < m) {a b : Nat} (ha : a < 6) (hb : b < 6) (ea : lA i = nI a) (eb : lB i = nI b) (e : lO i = 14) {k : Nat} (hk : k < 8) (ek : lI i = nI k) (h : post (G, LC, N, CU, LD, JD, OU, nI (sv_ad lO lb m (sv_tg lb m k)), ST, ES, SR, lO, lA, lB, lI, lb, im, cd, sa, la, lt, mk, ds, cs, ce, rg)) : wpX_runLine post (G, LC, N, CU, LD, JD, OU, nI (sv_ad lO lb m i), ST, ES, SR, lO, lA, lB, lI, lb, im, cd, sa, la, lt, mk, ds, cs, ce, rg) := by
  have hc := hC.2.2.1 i hi
  have up := sv_ad_up (lO := lO) (lb := lb) hm (Nat.le_of_lt hi)
  have fit := sv_ad_fit (lO := lO) (lb := lb) hi
  have nx := sv_ad_mono2 (lO := lO) (lb := lb) (i := i) (j := i + 1) (by omega) hi
  unfold sv_cel at hc
  rw [ea, eb, e, sv_sz_14, sv_seq14] at hc
  rw [e, sv_sz_14] at fit nx
  have ek2 : (lI i &&& 7).toNatClampNeg = k := by rw [ek, sv_a7 hk]; exact nI_clamp (by omega)
  have t := sv_tg_le hl hm hk
  have u := sv_ad_up (lO := lO) (lb := lb) hm t
  rw [ek2] at hc
  have d0 : sv_De (cd (sv_ad lO lb m i)) 14 a 0 (nI (sv_ad lO lb m (sv_tg lb m k))) := by rw [show cd (sv_ad lO lb m i) = _ from hc 0 (by omega)]; exact sv_dec (o := 14) (a := a) (b := 0) (by omega) (by omega) (by omega) (sv_mmN (by omega))
  have g := sx_s_jmp (G := G) (LC := LC) (N := N) (CU := CU) (LD := LD) (JD := JD) (OU := OU) (ST := ST) (ES := ES) (SR := SR) (lO := lO) (lA := lA) (lB := lB) (lI := lI) (lb := lb) (im := im) (cd := cd) (sa := sa) (la := la) (lt := lt) (mk := mk) (ds := ds) (cs := cs) (ce := ce) (rg := rg) (show sv_ad lO lb m i < 128 by omega) rfl d0.1
  rw [d0.2.2.2] at g
  exact sx_first g (sl_goto (n := 0) hS hm hl hA hk h)
theorem sx_l15t (hG : sv_gk G) (hS : ST = 1 ∨ ST = 2) (hm : m ≤ 20) (hl : sv_lbok lb m) (hA : sv_At m (sv_ad lO lb m) la lt) (hC : sv_Cd G lO lA lB lI lb m cd) (hi : i < m) {a b : Nat} (ha : a < 6) (hb : b < 6) (ea : lA i = nI a) (eb : lB i = nI b) (e : lO i = 15) {k : Nat} (hk : k < 8) (ek : lI i = nI k) (hv : rg a = 0) (h : post (G, LC, N, CU, LD, JD, OU, nI (sv_ad lO lb m (sv_tg lb m k)), ST, ES, SR, lO, lA, lB, lI, lb, im, cd, sa, la, lt, mk, ds, cs, ce, rg)) : wpX_runLine post (G, LC, N, CU, LD, JD, OU, nI (sv_ad lO lb m i), ST, ES, SR, lO, lA, lB, lI, lb, im, cd, sa, la, lt, mk, ds, cs, ce, rg) := by
  have hc := hC.2.2.1 i hi
  have up := sv_ad_up (lO := lO) (lb := lb) hm (Nat.le_of_lt hi)
  have fit := sv_ad_fit (lO := lO) (lb := lb) hi
  have nx := sv_ad_mono2 (lO := lO) (lb := lb) (i := i) (j := i + 1) (by omega) hi
  unfold sv_cel at hc
  rw [ea, eb, e, sv_sz_15, sv_seq15] at hc
  rw [e, sv_sz_15] at fit nx
  have ek2 : (lI i &&& 7).toNatClampNeg = k := by rw [ek, sv_a7 hk]; exact nI_clamp (by omega)
  have t := sv_tg_le hl hm hk
  have u := sv_ad_up (lO := lO) (lb := lb) hm t
  rw [ek2] at hc
  have d0 : sv_De (cd (sv_ad lO lb m i)) 15 a 0 (nI (sv_ad lO lb m (sv_tg lb m k))) := by rw [show cd (sv_ad lO lb m i) = _ from hc 0 (by omega)]; exact sv_dec (o := 15) (a := a) (b := 0) (by omega) (by omega) (by omega) (sv_mmN (by omega))
  have g := sx_s_bzt (G := G) (LC := LC) (N := N) (CU := CU) (LD := LD) (JD := JD) (OU := OU) (ST := ST) (ES := ES) (SR := SR) (lO := lO) (lA := lA) (lB := lB) (lI := lI) (lb := lb) (im := im) (cd := cd) (sa := sa) (la := la) (lt := lt) (mk := mk) (ds := ds) (cs := cs) (ce := ce) (rg := rg) (show sv_ad lO lb m i < 128 by omega) rfl d0.1 (show a < 8 by omega) d0.2.1 hv
  rw [d0.2.2.2] at g
  exact sx_first g (sl_goto (n := 0) hS hm hl hA hk h)
theorem sx_l15f (hG : sv_gk G) (hS : ST = 1 ∨ ST = 2) (hm : m ≤ 20) (hl : sv_lbok lb m) (hA : sv_At m (sv_ad lO lb m) la lt) (hC : sv_Cd G lO lA lB lI lb m cd) (hi : i < m) {a b : Nat} (ha : a < 6) (hb : b < 6) (ea : lA i = nI a) (eb : lB i = nI b) (e : lO i = 15) {k : Nat} (hk : k < 8) (ek : lI i = nI k) (hv : ¬ rg a = 0) (h : post (G, LC, N, CU, LD, JD, OU, nI (sv_ad lO lb m (i + 1)), ST, ES, SR, lO, lA, lB, lI, lb, im, cd, sa, la, lt, mk, ds, cs, ce, rg)) : wpX_runLine post (G, LC, N, CU, LD, JD, OU, nI (sv_ad lO lb m i), ST, ES, SR, lO, lA, lB, lI, lb, im, cd, sa, la, lt, mk, ds, cs, ce, rg) := by
  have hc := hC.2.2.1 i hi
  have up := sv_ad_up (lO := lO) (lb := lb) hm (Nat.le_of_lt hi)
  have fit := sv_ad_fit (lO := lO) (lb := lb) hi
  have nx := sv_ad_mono2 (lO := lO) (lb := lb) (i := i) (j := i + 1) (by omega) hi
  unfold sv_cel at hc
  rw [ea, eb, e, sv_sz_15, sv_seq15] at hc
  rw [e, sv_sz_15] at fit nx
  have ek2 : (lI i &&& 7).toNatClampNeg = k := by rw [ek, sv_a7 hk]; exact nI_clamp (by omega)
  have t := sv_tg_le hl hm hk
  have u := sv_ad_up (lO := lO) (lb := lb) hm t
  rw [ek2] at hc
  have d0 : sv_De (cd (sv_ad lO lb m i)) 15 a 0 (nI (sv_ad lO lb m (sv_tg lb m k))) := by rw [show cd (sv_ad lO lb m i) = _ from hc 0 (by omega)]; exact sv_dec (o := 15) (a := a) (b := 0) (by omega) (by omega) (by omega) (sv_mmN (by omega))
  exact sx_first (sx_s_bzf (by omega) rfl d0.1 (show a < 8 by omega) d0.2.1 hv) (sl_fall (n := 4) hS hm hA hC hi (by rw [e, sv_sz_15]) (by omega) (by omega) h)
theorem sx_l16t (hG : sv_gk G) (hS : ST = 1 ∨ ST = 2) (hm : m ≤ 20) (hl : sv_lbok lb m) (hA : sv_At m (sv_ad lO lb m) la lt) (hC : sv_Cd G lO lA lB lI lb m cd) (hi : i < m) {a b : Nat} (ha : a < 6) (hb : b < 6) (ea : lA i = nI a) (eb : lB i = nI b) (e : lO i = 16) {k : Nat} (hk : k < 8) (ek : lI i = nI k) (hv : ¬ 0 ≤ rg a) (h : post (G, LC, N, CU, LD, JD, OU, nI (sv_ad lO lb m (sv_tg lb m k)), ST, ES, SR, lO, lA, lB, lI, lb, im, cd, sa, la, lt, mk, ds, cs, ce, rg)) : wpX_runLine post (G, LC, N, CU, LD, JD, OU, nI (sv_ad lO lb m i), ST, ES, SR, lO, lA, lB, lI, lb, im, cd, sa, la, lt, mk, ds, cs, ce, rg) := by
  have hc := hC.2.2.1 i hi
  have up := sv_ad_up (lO := lO) (lb := lb) hm (Nat.le_of_lt hi)
  have fit := sv_ad_fit (lO := lO) (lb := lb) hi
  have nx := sv_ad_mono2 (lO := lO) (lb := lb) (i := i) (j := i + 1) (by omega) hi
  unfold sv_cel at hc
  rw [ea, eb, e, sv_sz_16, sv_seq16] at hc
  rw [e, sv_sz_16] at fit nx
  have ek2 : (lI i &&& 7).toNatClampNeg = k := by rw [ek, sv_a7 hk]; exact nI_clamp (by omega)
  have t := sv_tg_le hl hm hk
  have u := sv_ad_up (lO := lO) (lb := lb) hm t
  rw [ek2] at hc
  have d0 : sv_De (cd (sv_ad lO lb m i)) 16 a 0 (nI (sv_ad lO lb m (sv_tg lb m k))) := by rw [show cd (sv_ad lO lb m i) = _ from hc 0 (by omega)]; exact sv_dec (o := 16) (a := a) (b := 0) (by omega) (by omega) (by omega) (sv_mmN (by omega))
  have g := sx_s_bnt (G := G) (LC := LC) (N := N) (CU := CU) (LD := LD) (JD := JD) (OU := OU) (ST := ST) (ES := ES) (SR := SR) (lO := lO) (lA := lA) (lB := lB) (lI := lI) (lb := lb) (im := im) (cd := cd) (sa := sa) (la := la) (lt := lt) (mk := mk) (ds := ds) (cs := cs) (ce := ce) (rg := rg) (show sv_ad lO lb m i < 128 by omega) rfl d0.1 (show a < 8 by omega) d0.2.1 hv
  rw [d0.2.2.2] at g
  exact sx_first g (sl_goto (n := 0) hS hm hl hA hk h)
theorem sx_l16f (hG : sv_gk G) (hS : ST = 1 ∨ ST = 2) (hm : m ≤ 20) (hl : sv_lbok lb m) (hA : sv_At m (sv_ad lO lb m) la lt) (hC : sv_Cd G lO lA lB lI lb m cd) (hi : i < m) {a b : Nat} (ha : a < 6) (hb : b < 6) (ea : lA i = nI a) (eb : lB i = nI b) (e : lO i = 16) {k : Nat} (hk : k < 8) (ek : lI i = nI k) (hv : 0 ≤ rg a) (h : post (G, LC, N, CU, LD, JD, OU, nI (sv_ad lO lb m (i + 1)), ST, ES, SR, lO, lA, lB, lI, lb, im, cd, sa, la, lt, mk, ds, cs, ce, rg)) : wpX_runLine post (G, LC, N, CU, LD, JD, OU, nI (sv_ad lO lb m i), ST, ES, SR, lO, lA, lB, lI, lb, im, cd, sa, la, lt, mk, ds, cs, ce, rg) := by
  have hc := hC.2.2.1 i hi
  have up := sv_ad_up (lO := lO) (lb := lb) hm (Nat.le_of_lt hi)
  have fit := sv_ad_fit (lO := lO) (lb := lb) hi
  have nx := sv_ad_mono2 (lO := lO) (lb := lb) (i := i) (j := i + 1) (by omega) hi
  unfold sv_cel at hc
  rw [ea, eb, e, sv_sz_16, sv_seq16] at hc
  rw [e, sv_sz_16] at fit nx
  have ek2 : (lI i &&& 7).toNatClampNeg = k := by rw [ek, sv_a7 hk]; exact nI_clamp (by omega)
  have t := sv_tg_le hl hm hk
  have u := sv_ad_up (lO := lO) (lb := lb) hm t
  rw [ek2] at hc
  have d0 : sv_De (cd (sv_ad lO lb m i)) 16 a 0 (nI (sv_ad lO lb m (sv_tg lb m k))) := by rw [show cd (sv_ad lO lb m i) = _ from hc 0 (by omega)]; exact sv_dec (o := 16) (a := a) (b := 0) (by omega) (by omega) (by omega) (sv_mmN (by omega))
  exact sx_first (sx_s_bnf (by omega) rfl d0.1 (show a < 8 by omega) d0.2.1 hv) (sl_fall (n := 4) hS hm hA hC hi (by rw [e, sv_sz_16]) (by omega) (by omega) h)
end SZ
end SX
end
section
/-! one source line of the reference -/
section YS
variable {G LC N CU LD JD OU PC ST ES SR : Int32} {lO lA lB lI lb im cd sa la lt mk ds cs ce rg : Nat → Int32} {PO : Int32} {rh : Nat → Int32}
theorem sy_target {post : Int32 → Prop} {m k : Nat} {x : Int32} (hm : m ≤ 20) (hl : sv_lbok lb m) (hk : (x &&& 7).toNatClampNeg = k) (h : post (nI (sv_tg lb m k))) : wpY_target post (G, LC, nI m, CU, ST, LD, PO, ES, SR, lO, lA, lB, lI, lb, im, ce, rh) x := by
  obtain ⟨k', hk', e⟩ := pk_andE x (m := 7) 3 (by decide)
  have ek : k' = k := by rw [e, nI_clamp (by omega)] at hk; exact hk
  subst ek
  unfold sv_tg at h
  refine And.intro (sv_in7 x) ?_
  rw [hk]
  by_cases h0 : 0 ≤ lb k'
  · rw [if_pos h0] at h
    rcases hl k' hk' with z | ⟨l, h1, e1⟩
    · exact absurd h0 z
    · refine br_t h0 (And.intro (sv_in7 x) ?_)
      rw [e1, nI_clamp (by omega)] at h
      rw [e1]; exact h
  · rw [if_neg h0] at h
    exact br_f h0 h
section YT
variable {post : SY → Prop} {m i a b : Nat}
theorem sy_l0 (hG : sv_gk G) (hm : m ≤ 20) (hl : sv_lbok lb m) (hi : i < m) (ha : a < 6) (hb : b < 6) (ea : lA i = nI a) (eb : lB i = nI b) (e : lO i = 0) (h : post (G, LC, nI m, CU, 3, LD, nI (i + 1), ES, SR, lO, lA, lB, lI, lb, im, ce, rh)) : wpY_doLine post (G, LC, nI m, CU, ST, LD, nI i, ES, SR, lO, lA, lB, lI, lb, im, ce, rh) := by
  have va : vp_in (nI a) 8 := vp_in_nI (by omega) (by omega)
  have vb : vp_in (nI b) 8 := vp_in_nI (by omega) (by omega)
  have qa : (nI a).toNatClampNeg = a := nI_clamp (by omega)
  have qb : (nI b).toNatClampNeg = b := nI_clamp (by omega)
  have vi : vp_in (nI i) 20 := vp_in_nI (by omega) (by omega)
  have qi : (nI i).toNatClampNeg = i := nI_clamp (by omega)
  refine And.intro vi (nm_r (e' := 0) (by rw [qi, e]) (And.intro vi (nm_r (e' := nI a) (by rw [qi, ea]) (And.intro vi (nm_r (e' := nI b) (by rw [qi, eb]) (And.intro vi (nm_r (e' := lI i) (by rw [qi]) (nm_r (nI_1 i) ?_))))))))
  exact br_t rfl (br_f (by decide) (br_f (by decide) (br_f (by decide) (br_f (by decide) (br_f (by decide) (br_f (by decide) (br_f (by decide) (br_f (by decide) (br_f (by decide) (br_f (by decide) (br_f (by decide) (br_f (by decide) (br_f (by decide) (br_f (by decide) (h)))))))))))))))
theorem sy_l3 (hG : sv_gk G) (hm : m ≤ 20) (hl : sv_lbok lb m) (hi : i < m) (ha : a < 6) (hb : b < 6) (ea : lA i = nI a) (eb : lB i = nI b) (e : lO i = 3) (h : post (G, LC, nI m, CU, ST, LD, nI (i + 1), ES, SR, lO, lA, lB, lI, lb, im, ce, upd rh a (rh b))) : wpY_doLine post (G, LC, nI m, CU, ST, LD, nI i, ES, SR, lO, lA, lB, lI, lb, im, ce, rh) := by
  have va : vp_in (nI a) 8 := vp_in_nI (by omega) (by omega)
  have vb : vp_in (nI b) 8 := vp_in_nI (by omega) (by omega)
  have qa : (nI a).toNatClampNeg = a := nI_clamp (by omega)
  have qb : (nI b).toNatClampNeg = b := nI_clamp (by omega)
  have vi : vp_in (nI i) 20 := vp_in_nI (by omega) (by omega)
  have qi : (nI i).toNatClampNeg = i := nI_clamp (by omega)
  refine And.intro vi (nm_r (e' := 3) (by rw [qi, e]) (And.intro vi (nm_r (e' := nI a) (by rw [qi, ea]) (And.intro vi (nm_r (e' := nI b) (by rw [qi, eb]) (And.intro vi (nm_r (e' := lI i) (by rw [qi]) (nm_r (nI_1 i) ?_))))))))
  exact br_f (by decide) (br_t rfl (And.intro vb (And.intro va (nm_r (e' := upd rh a (rh b)) (by rw [qa, qb]) (br_f (by decide) (br_f (by decide) (br_f (by decide) (br_f (by decide) (br_f (by decide) (br_f (by decide) (br_f (by decide) (br_f (by decide) (br_f (by decide) (br_f (by decide) (br_f (by decide) (br_f (by decide) (br_f (by decide) (h))))))))))))))))))
theorem sy_l4 (hG : sv_gk G) (hm : m ≤ 20) (hl : sv_lbok lb m) (hi : i < m) (ha : a < 6) (hb : b < 6) (ea : lA i = nI a) (eb : lB i = nI b) (e : lO i = 4) (h : post (G, LC, nI m, CU, ST, LD, nI (i + 1), ES, SR, lO, lA, lB, lI, lb, im, ce, upd rh a (rh a + rh b))) : wpY_doLine post (G, LC, nI m, CU, ST, LD, nI i, ES, SR, lO, lA, lB, lI, lb, im, ce, rh) := by
  have va : vp_in (nI a) 8 := vp_in_nI (by omega) (by omega)
  have vb : vp_in (nI b) 8 := vp_in_nI (by omega) (by omega)
  have qa : (nI a).toNatClampNeg = a := nI_clamp (by omega)
  have qb : (nI b).toNatClampNeg = b := nI_clamp (by omega)
  have vi : vp_in (nI i) 20 := vp_in_nI (by omega) (by omega)
  have qi : (nI i).toNatClampNeg = i := nI_clamp (by omega)
  refine And.intro vi (nm_r (e' := 4) (by rw [qi, e]) (And.intro vi (nm_r (e' := nI a) (by rw [qi, ea]) (And.intro vi (nm_r (e' := nI b) (by rw [qi, eb]) (And.intro vi (nm_r (e' := lI i) (by rw [qi]) (nm_r (nI_1 i) ?_))))))))
  exact br_f (by decide) (br_f (by decide) (br_t rfl (And.intro va (And.intro vb (And.intro va (nm_r (e' := upd rh a (rh a + rh b)) (by rw [qa, qb]) (br_f (by decide) (br_f (by decide) (br_f (by decide) (br_f (by decide) (br_f (by decide) (br_f (by decide) (br_f (by decide) (br_f (by decide) (br_f (by decide) (br_f (by decide) (br_f (by decide) (br_f (by decide) (h)))))))))))))))))))
theorem sy_l5 (hG : sv_gk G) (hm : m ≤ 20) (hl : sv_lbok lb m) (hi : i < m) (ha : a < 6) (hb : b < 6) (ea : lA i = nI a) (eb : lB i = nI b) (e : lO i = 5) (h : post (G, LC, nI m, CU, ST, LD, nI (i + 1), ES, SR, lO, lA, lB, lI, lb, im, ce, upd rh a (rh a - rh b))) : wpY_doLine post (G, LC, nI m, CU, ST, LD, nI i, ES, SR, lO, lA, lB, lI, lb, im, ce, rh) := by
  have va : vp_in (nI a) 8 := vp_in_nI (by omega) (by omega)
  have vb : vp_in (nI b) 8 := vp_in_nI (by omega) (by omega)
  have qa : (nI a).toNatClampNeg = a := nI_clamp (by omega)
  have qb : (nI b).toNatClampNeg = b := nI_clamp (by omega)
  have vi : vp_in (nI i) 20 := vp_in_nI (by omega) (by omega)
  have qi : (nI i).toNatClampNeg = i := nI_clamp (by omega)
  refine And.intro vi (nm_r (e' := 5) (by rw [qi, e]) (And.intro vi (nm_r (e' := nI a) (by rw [qi, ea]) (And.intro vi (nm_r (e' := nI b) (by rw [qi, eb]) (And.intro vi (nm_r (e' := lI i) (by rw [qi]) (nm_r (nI_1 i) ?_))))))))
  exact br_f (by decide) (br_f (by decide) (br_f (by decide) (br_t rfl (And.intro va (And.intro vb (And.intro va (nm_r (e' := upd rh a (rh a - rh b)) (by rw [qa, qb]) (br_f (by decide) (br_f (by decide) (br_f (by decide) (br_f (by decide) (br_f (by decide) (br_f (by decide) (br_f (by decide) (br_f (by decide) (br_f (by decide) (br_f (by decide) (br_f (by decide) (h)))))))))))))))))))
theorem sy_l6 (hG : sv_gk G) (hm : m ≤ 20) (hl : sv_lbok lb m) (hi : i < m) (ha : a < 6) (hb : b < 6) (ea : lA i = nI a) (eb : lB i = nI b) (e : lO i = 6) (h : post (G, LC, nI m, CU, ST, LD, nI (i + 1), ES, SR, lO, lA, lB, lI, lb, im, ce, upd rh a (rh a * rh b))) : wpY_doLine post (G, LC, nI m, CU, ST, LD, nI i, ES, SR, lO, lA, lB, lI, lb, im, ce, rh) := by
  have va : vp_in (nI a) 8 := vp_in_nI (by omega) (by omega)
  have vb : vp_in (nI b) 8 := vp_in_nI (by omega) (by omega)
  have qa : (nI a).toNatClampNeg = a := nI_clamp (by omega)
  have qb : (nI b).toNatClampNeg = b := nI_clamp (by omega)
  have vi : vp_in (nI i) 20 := vp_in_nI (by omega) (by omega)
  have qi : (nI i).toNatClampNeg = i := nI_clamp (by omega)
  refine And.intro vi (nm_r (e' := 6) (by rw [qi, e]) (And.intro vi (nm_r (e' := nI a) (by rw [qi, ea]) (And.intro vi (nm_r (e' := nI b) (by rw [qi, eb]) (And.intro vi (nm_r (e' := lI i) (by rw [qi]) (nm_r (nI_1 i) ?_))))))))
  exact br_f (by decide) (br_f (by decide) (br_f (by decide) (br_f (by decide) (br_t rfl (And.intro va (And.intro vb (And.intro va (nm_r (e' := upd rh a (rh a * rh b)) (by rw [qa, qb]) (br_f (by decide) (br_f (by decide) (br_f (by decide) (br_f (by decide) (br_f (by decide) (br_f (by decide) (br_f (by decide) (br_f (by decide) (br_f (by decide) (br_f (by decide) (h)))))))))))))))))))
theorem sy_l7 (hG : sv_gk G) (hm : m ≤ 20) (hl : sv_lbok lb m) (hi : i < m) (ha : a < 6) (hb : b < 6) (ea : lA i = nI a) (eb : lB i = nI b) (e : lO i = 7) (h : post (G, LC, nI m, CU, ST, LD, nI (i + 1), ES, SR, lO, lA, lB, lI, lb, im, ce, upd rh a (rh a &&& rh b))) : wpY_doLine post (G, LC, nI m, CU, ST, LD, nI i, ES, SR, lO, lA, lB, lI, lb, im, ce, rh) := by
  have va : vp_in (nI a) 8 := vp_in_nI (by omega) (by omega)
  have vb : vp_in (nI b) 8 := vp_in_nI (by omega) (by omega)
  have qa : (nI a).toNatClampNeg = a := nI_clamp (by omega)
  have qb : (nI b).toNatClampNeg = b := nI_clamp (by omega)
  have vi : vp_in (nI i) 20 := vp_in_nI (by omega) (by omega)
  have qi : (nI i).toNatClampNeg = i := nI_clamp (by omega)
  refine And.intro vi (nm_r (e' := 7) (by rw [qi, e]) (And.intro vi (nm_r (e' := nI a) (by rw [qi, ea]) (And.intro vi (nm_r (e' := nI b) (by rw [qi, eb]) (And.intro vi (nm_r (e' := lI i) (by rw [qi]) (nm_r (nI_1 i) ?_))))))))
  exact br_f (by decide) (br_f (by decide) (br_f (by decide) (br_f (by decide) (br_f (by decide) (br_t rfl (And.intro va (And.intro vb (And.intro va (nm_r (e' := upd rh a (rh a &&& rh b)) (by rw [qa, qb]) (br_f (by decide) (br_f (by decide) (br_f (by decide) (br_f (by decide) (br_f (by decide) (br_f (by decide) (br_f (by decide) (br_f (by decide) (br_f (by decide) (h)))))))))))))))))))
theorem sy_l2 (hG : sv_gk G) (hm : m ≤ 20) (hl : sv_lbok lb m) (hi : i < m) (ha : a < 6) (hb : b < 6) (ea : lA i = nI a) (eb : lB i = nI b) (e : lO i = 2) (h : post (G, LC, nI m, CU, ST, LD, nI (i + 1), ES, SR, lO, lA, lB, lI, lb, im, ce, upd rh a (lI i))) : wpY_doLine post (G, LC, nI m, CU, ST, LD, nI i, ES, SR, lO, lA, lB, lI, lb, im, ce, rh) := by
  have va : vp_in (nI a) 8 := vp_in_nI (by omega) (by omega)
  have vb : vp_in (nI b) 8 := vp_in_nI (by omega) (by omega)
  have qa : (nI a).toNatClampNeg = a := nI_clamp (by omega)
  have qb : (nI b).toNatClampNeg = b := nI_clamp (by omega)
  have vi : vp_in (nI i) 20 := vp_in_nI (by omega) (by omega)
  have qi : (nI i).toNatClampNeg = i := nI_clamp (by omega)
  refine And.intro vi (nm_r (e' := 2) (by rw [qi, e]) (And.intro vi (nm_r (e' := nI a) (by rw [qi, ea]) (And.intro vi (nm_r (e' := nI b) (by rw [qi, eb]) (And.intro vi (nm_r (e' := lI i) (by rw [qi]) (nm_r (nI_1 i) ?_))))))))
  exact br_f (by decide) (br_f (by decide) (br_f (by decide) (br_f (by decide) (br_f (by decide) (br_f (by decide) (br_t rfl (And.intro va (nm_r (e' := upd rh a (lI i)) (by rw [qa]) (br_f (by decide) (br_f (by decide) (br_f (by decide) (br_f (by decide) (br_f (by decide) (br_f (by decide) (br_f (by decide) (br_f (by decide) (h)))))))))))))))))
theorem sy_l12 (hG : sv_gk G) (hm : m ≤ 20) (hl : sv_lbok lb m) (hi : i < m) (ha : a < 6) (hb : b < 6) (ea : lA i = nI a) (eb : lB i = nI b) (e : lO i = 12) (h : post (G, LC, nI m, CU, ST, LD, nI (i + 1), ES, SR, lO, lA, lB, lI, lb, im, ce, upd rh a (ce (G + (rh b &&& (G - 1))).toNatClampNeg))) : wpY_doLine post (G, LC, nI m, CU, ST, LD, nI i, ES, SR, lO, lA, lB, lI, lb, im, ce, rh) := by
  have va : vp_in (nI a) 8 := vp_in_nI (by omega) (by omega)
  have vb : vp_in (nI b) 8 := vp_in_nI (by omega) (by omega)
  have qa : (nI a).toNatClampNeg = a := nI_clamp (by omega)
  have qb : (nI b).toNatClampNeg = b := nI_clamp (by omega)
  have vi : vp_in (nI i) 20 := vp_in_nI (by omega) (by omega)
  have qi : (nI i).toNatClampNeg = i := nI_clamp (by omega)
  refine And.intro vi (nm_r (e' := 12) (by rw [qi, e]) (And.intro vi (nm_r (e' := nI a) (by rw [qi, ea]) (And.intro vi (nm_r (e' := nI b) (by rw [qi, eb]) (And.intro vi (nm_r (e' := lI i) (by rw [qi]) (nm_r (nI_1 i) ?_))))))))
  obtain ⟨f1, f2, f3, f4⟩ := sv_fen hG (rh b)
  have vy : vp_in (G + (rh b &&& (G - 1))) 64 := sv_in64 hG f4 f3
  exact br_f (by decide) (br_f (by decide) (br_f (by decide) (br_f (by decide) (br_f (by decide) (br_f (by decide) (br_f (by decide) (br_t rfl (And.intro vb (And.intro (by rw [qb]; exact vy) (And.intro va (nm_r (e' := upd rh a (ce (G + (rh b &&& (G - 1))).toNatClampNeg)) (by rw [qa, qb]) (br_f (by decide) (br_f (by decide) (br_f (by decide) (br_f (by decide) (br_f (by decide) (br_f (by decide) (br_f (by decide) (h)))))))))))))))))))
theorem sy_l13 (hG : sv_gk G) (hm : m ≤ 20) (hl : sv_lbok lb m) (hi : i < m) (ha : a < 6) (hb : b < 6) (ea : lA i = nI a) (eb : lB i = nI b) (e : lO i = 13) (h : post (G, LC, nI m, CU, ST, LD, nI (i + 1), ES, SR, lO, lA, lB, lI, lb, im, upd ce (G + (rh a &&& (G - 1))).toNatClampNeg (rh b), rh)) : wpY_doLine post (G, LC, nI m, CU, ST, LD, nI i, ES, SR, lO, lA, lB, lI, lb, im, ce, rh) := by
  have va : vp_in (nI a) 8 := vp_in_nI (by omega) (by omega)
  have vb : vp_in (nI b) 8 := vp_in_nI (by omega) (by omega)
  have qa : (nI a).toNatClampNeg = a := nI_clamp (by omega)
  have qb : (nI b).toNatClampNeg = b := nI_clamp (by omega)
  have vi : vp_in (nI i) 20 := vp_in_nI (by omega) (by omega)
  have qi : (nI i).toNatClampNeg = i := nI_clamp (by omega)
  refine And.intro vi (nm_r (e' := 13) (by rw [qi, e]) (And.intro vi (nm_r (e' := nI a) (by rw [qi, ea]) (And.intro vi (nm_r (e' := nI b) (by rw [qi, eb]) (And.intro vi (nm_r (e' := lI i) (by rw [qi]) (nm_r (nI_1 i) ?_))))))))
  obtain ⟨f1, f2, f3, f4⟩ := sv_fen hG (rh a)
  have vy : vp_in (G + (rh a &&& (G - 1))) 64 := sv_in64 hG f4 f3
  exact br_f (by decide) (br_f (by decide) (br_f (by decide) (br_f (by decide) (br_f (by decide) (br_f (by decide) (br_f (by decide) (br_f (by decide) (br_t rfl (And.intro va (And.intro vb (And.intro (by rw [qa]; exact vy) (nm_r (e' := upd ce (G + (rh a &&& (G - 1))).toNatClampNeg (rh b)) (by rw [qa, qb]) (br_f (by decide) (br_f (by decide) (br_f (by decide) (br_f (by decide) (br_f (by decide) (br_f (by decide) (h)))))))))))))))))))
theorem sy_l18 (hG : sv_gk G) (hm : m ≤ 20) (hl : sv_lbok lb m) (hi : i < m) (ha : a < 6) (hb : b < 6) (ea : lA i = nI a) (eb : lB i = nI b) (e : lO i = 18) (h : post (G, LC, nI m, CU, ST, LD, nI (i + 1), ES, SR, lO, lA, lB, lI, lb, im, upd ce (G + ((rh 7 - 1) &&& (G - 1))).toNatClampNeg (rh a), upd rh 7 (G + ((rh 7 - 1) &&& (G - 1))))) : wpY_doLine post (G, LC, nI m, CU, ST, LD, nI i, ES, SR, lO, lA, lB, lI, lb, im, ce, rh) := by
  have va : vp_in (nI a) 8 := vp_in_nI (by omega) (by omega)
  have vb : vp_in (nI b) 8 := vp_in_nI (by omega) (by omega)
  have qa : (nI a).toNatClampNeg = a := nI_clamp (by omega)
  have qb : (nI b).toNatClampNeg = b := nI_clamp (by omega)
  have vi : vp_in (nI i) 20 := vp_in_nI (by omega) (by omega)
  have qi : (nI i).toNatClampNeg = i := nI_clamp (by omega)
  refine And.intro vi (nm_r (e' := 18) (by rw [qi, e]) (And.intro vi (nm_r (e' := nI a) (by rw [qi, ea]) (And.intro vi (nm_r (e' := nI b) (by rw [qi, eb]) (And.intro vi (nm_r (e' := lI i) (by rw [qi]) (nm_r (nI_1 i) ?_))))))))
  obtain ⟨f1, f2, f3, f4⟩ := sv_fen hG (rh 7 - 1)
  have vy : vp_in (G + ((rh 7 - 1) &&& (G - 1))) 64 := sv_in64 hG f4 f3
  have y7 : upd rh 7 (G + ((rh 7 - 1) &&& (G - 1))) 7 = G + ((rh 7 - 1) &&& (G - 1)) := pk_us
  have ya : upd rh 7 (G + ((rh 7 - 1) &&& (G - 1))) (nI a).toNatClampNeg = rh a := by rw [qa]; exact pk_un (by omega)
  exact br_f (by decide) (br_f (by decide) (br_f (by decide) (br_f (by decide) (br_f (by decide) (br_f (by decide) (br_f (by decide) (br_f (by decide) (br_f (by decide) (br_t rfl (nm_e (And.intro va (And.intro (by rw [y7]; exact vy) (nm_r (e' := upd ce (G + ((rh 7 - 1) &&& (G - 1))).toNatClampNeg (rh a)) (by rw [y7, ya]) (br_f (by decide) (br_f (by decide) (br_f (by decide) (br_f (by decide) (br_f (by decide) (h)))))))))))))))))))
theorem sy_l19 (hG : sv_gk G) (hm : m ≤ 20) (hl : sv_lbok lb m) (hi : i < m) (ha : a < 6) (hb : b < 6) (ea : lA i = nI a) (eb : lB i = nI b) (e : lO i = 19) (h : post (G, LC, nI m, CU, ST, LD, nI (i + 1), ES, SR, lO, lA, lB, lI, lb, im, ce, upd (upd rh a (sv_me G ce (rh 7))) 7 (G + ((rh 7 + 1) &&& (G - 1))))) : wpY_doLine post (G, LC, nI m, CU, ST, LD, nI i, ES, SR, lO, lA, lB, lI, lb, im, ce, rh) := by
  have va : vp_in (nI a) 8 := vp_in_nI (by omega) (by omega)
  have vb : vp_in (nI b) 8 := vp_in_nI (by omega) (by omega)
  have qa : (nI a).toNatClampNeg = a := nI_clamp (by omega)
  have qb : (nI b).toNatClampNeg = b := nI_clamp (by omega)
  have vi : vp_in (nI i) 20 := vp_in_nI (by omega) (by omega)
  have qi : (nI i).toNatClampNeg = i := nI_clamp (by omega)
  refine And.intro vi (nm_r (e' := 19) (by rw [qi, e]) (And.intro vi (nm_r (e' := nI a) (by rw [qi, ea]) (And.intro vi (nm_r (e' := nI b) (by rw [qi, eb]) (And.intro vi (nm_r (e' := lI i) (by rw [qi]) (nm_r (nI_1 i) ?_))))))))
  have y7 : upd rh a (sv_me G ce (rh 7)) 7 = rh 7 := pk_un (by omega)
  exact br_f (by decide) (br_f (by decide) (br_f (by decide) (br_f (by decide) (br_f (by decide) (br_f (by decide) (br_f (by decide) (br_f (by decide) (br_f (by decide) (br_f (by decide) (br_t rfl (sy_mem hG (And.intro va (nm_r (e' := upd rh a (sv_me G ce (rh 7))) (by rw [qa]) (nm_r (e' := upd (upd rh a (sv_me G ce (rh 7))) 7 (G + ((rh 7 + 1) &&& (G - 1)))) (by rw [y7]) (br_f (by decide) (br_f (by decide) (br_f (by decide) (br_f (by decide) (h)))))))))))))))))))
theorem sy_l14 (hG : sv_gk G) (hm : m ≤ 20) (hl : sv_lbok lb m) (hi : i < m) (ha : a < 6) (hb : b < 6) (ea : lA i = nI a) (eb : lB i = nI b) (e : lO i = 14) {k : Nat} (hk : k < 8) (ek : lI i = nI k) (h : post (G, LC, nI m, CU, ST, LD, nI (sv_tg lb m k), ES, SR, lO, lA, lB, lI, lb, im, ce, rh)) : wpY_doLine post (G, LC, nI m, CU, ST, LD, nI i, ES, SR, lO, lA, lB, lI, lb, im, ce, rh) := by
  have va : vp_in (nI a) 8 := vp_in_nI (by omega) (by omega)
  have vb : vp_in (nI b) 8 := vp_in_nI (by omega) (by omega)
  have qa : (nI a).toNatClampNeg = a := nI_clamp (by omega)
  have qb : (nI b).toNatClampNeg = b := nI_clamp (by omega)
  have vi : vp_in (nI i) 20 := vp_in_nI (by omega) (by omega)
  have qi : (nI i).toNatClampNeg = i := nI_clamp (by omega)
  refine And.intro vi (nm_r (e' := 14) (by rw [qi, e]) (And.intro vi (nm_r (e' := nI a) (by rw [qi, ea]) (And.intro vi (nm_r (e' := nI b) (by rw [qi, eb]) (And.intro vi (nm_r (e' := lI i) (by rw [qi]) (nm_r (nI_1 i) ?_))))))))
  have ek2 : (lI i &&& 7).toNatClampNeg = k := by rw [ek, sv_a7 hk]; exact nI_clamp (by omega)
  refine br_f (by decide) (br_f (by decide) (br_f (by decide) (br_f (by decide) (br_f (by decide) (br_f (by decide) (br_f (by decide) (br_f (by decide) (br_f (by decide) (br_f (by decide) (br_f (by decide) (br_t rfl ?_)))))))))))
  unfold wY_doLine_278
  exact sy_target hm hl ek2 (br_f (by decide) h)
theorem sy_l15t (hG : sv_gk G) (hm : m ≤ 20) (hl : sv_lbok lb m) (hi : i < m) (ha : a < 6) (hb : b < 6) (ea : lA i = nI a) (eb : lB i = nI b) (e : lO i = 15) {k : Nat} (hk : k < 8) (ek : lI i = nI k) (hv : rh a = 0) (h : post (G, LC, nI m, CU, ST, LD, nI (sv_tg lb m k), ES, SR, lO, lA, lB, lI, lb, im, ce, rh)) : wpY_doLine post (G, LC, nI m, CU, ST, LD, nI i, ES, SR, lO, lA, lB, lI, lb, im, ce, rh) := by
  have va : vp_in (nI a) 8 := vp_in_nI (by omega) (by omega)
  have vb : vp_in (nI b) 8 := vp_in_nI (by omega) (by omega)
  have qa : (nI a).toNatClampNeg = a := nI_clamp (by omega)
  have qb : (nI b).toNatClampNeg = b := nI_clamp (by omega)
  have vi : vp_in (nI i) 20 := vp_in_nI (by omega) (by omega)
  have qi : (nI i).toNatClampNeg = i := nI_clamp (by omega)
  refine And.intro vi (nm_r (e' := 15) (by rw [qi, e]) (And.intro vi (nm_r (e' := nI a) (by rw [qi, ea]) (And.intro vi (nm_r (e' := nI b) (by rw [qi, eb]) (And.intro vi (nm_r (e' := lI i) (by rw [qi]) (nm_r (nI_1 i) ?_))))))))
  have ek2 : (lI i &&& 7).toNatClampNeg = k := by rw [ek, sv_a7 hk]; exact nI_clamp (by omega)
  refine br_f (by decide) (br_f (by decide) (br_f (by decide) (br_f (by decide) (br_f (by decide) (br_f (by decide) (br_f (by decide) (br_f (by decide) (br_f (by decide) (br_f (by decide) (br_f (by decide) (br_f (by decide) (br_t rfl (And.intro va (br_t (by rw [qa]; exact hv) ?_))))))))))))))
  unfold wY_doLine_278
  exact sy_target hm hl ek2 (br_f (by decide) h)
theorem sy_l15f (hG : sv_gk G) (hm : m ≤ 20) (hl : sv_lbok lb m) (hi : i < m) (ha : a < 6) (hb : b < 6) (ea : lA i = nI a) (eb : lB i = nI b) (e : lO i = 15) {k : Nat} (hk : k < 8) (ek : lI i = nI k) (hv : ¬ rh a = 0) (h : post (G, LC, nI m, CU, ST, LD, nI (i + 1), ES, SR, lO, lA, lB, lI, lb, im, ce, rh)) : wpY_doLine post (G, LC, nI m, CU, ST, LD, nI i, ES, SR, lO, lA, lB, lI, lb, im, ce, rh) := by
  have va : vp_in (nI a) 8 := vp_in_nI (by omega) (by omega)
  have vb : vp_in (nI b) 8 := vp_in_nI (by omega) (by omega)
  have qa : (nI a).toNatClampNeg = a := nI_clamp (by omega)
  have qb : (nI b).toNatClampNeg = b := nI_clamp (by omega)
  have vi : vp_in (nI i) 20 := vp_in_nI (by omega) (by omega)
  have qi : (nI i).toNatClampNeg = i := nI_clamp (by omega)
  refine And.intro vi (nm_r (e' := 15) (by rw [qi, e]) (And.intro vi (nm_r (e' := nI a) (by rw [qi, ea]) (And.intro vi (nm_r (e' := nI b) (by rw [qi, eb]) (And.intro vi (nm_r (e' := lI i) (by rw [qi]) (nm_r (nI_1 i) ?_))))))))
  have ek2 : (lI i &&& 7).toNatClampNeg = k := by rw [ek, sv_a7 hk]; exact nI_clamp (by omega)
  exact br_f (by decide) (br_f (by decide) (br_f (by decide) (br_f (by decide) (br_f (by decide) (br_f (by decide) (br_f (by decide) (br_f (by decide) (br_f (by decide) (br_f (by decide) (br_f (by decide) (br_f (by decide) (br_t rfl (And.intro va (br_f (by rw [qa]; exact hv) (br_f (by decide) (br_f (by decide) h))))))))))))))))
theorem sy_l16t (hG : sv_gk G) (hm : m ≤ 20) (hl : sv_lbok lb m) (hi : i < m) (ha : a < 6) (hb : b < 6) (ea : lA i = nI a) (eb : lB i = nI b) (e : lO i = 16) {k : Nat} (hk : k < 8) (ek : lI i = nI k) (hv : ¬ 0 ≤ rh a) (h : post (G, LC, nI m, CU, ST, LD, nI (sv_tg lb m k), ES, SR, lO, lA, lB, lI, lb, im, ce, rh)) : wpY_doLine post (G, LC, nI m, CU, ST, LD, nI i, ES, SR, lO, lA, lB, lI, lb, im, ce, rh) := by
  have va : vp_in (nI a) 8 := vp_in_nI (by omega) (by omega)
  have vb : vp_in (nI b) 8 := vp_in_nI (by omega) (by omega)
  have qa : (nI a).toNatClampNeg = a := nI_clamp (by omega)
  have qb : (nI b).toNatClampNeg = b := nI_clamp (by omega)
  have vi : vp_in (nI i) 20 := vp_in_nI (by omega) (by omega)
  have qi : (nI i).toNatClampNeg = i := nI_clamp (by omega)
  refine And.intro vi (nm_r (e' := 16) (by rw [qi, e]) (And.intro vi (nm_r (e' := nI a) (by rw [qi, ea]) (And.intro vi (nm_r (e' := nI b) (by rw [qi, eb]) (And.intro vi (nm_r (e' := lI i) (by rw [qi]) (nm_r (nI_1 i) ?_))))))))
  have ek2 : (lI i &&& 7).toNatClampNeg = k := by rw [ek, sv_a7 hk]; exact nI_clamp (by omega)
  refine br_f (by decide) (br_f (by decide) (br_f (by decide) (br_f (by decide) (br_f (by decide) (br_f (by decide) (br_f (by decide) (br_f (by decide) (br_f (by decide) (br_f (by decide) (br_f (by decide) (br_f (by decide) (br_f (by decide) (br_t rfl (And.intro va (br_f (by rw [qa]; exact hv) ?_)))))))))))))))
  unfold wY_doLine_278
  exact sy_target hm hl ek2 (br_f (by decide) h)
theorem sy_l16f (hG : sv_gk G) (hm : m ≤ 20) (hl : sv_lbok lb m) (hi : i < m) (ha : a < 6) (hb : b < 6) (ea : lA i = nI a) (eb : lB i = nI b) (e : lO i = 16) {k : Nat} (hk : k < 8) (ek : lI i = nI k) (hv : 0 ≤ rh a) (h : post (G, LC, nI m, CU, ST, LD, nI (i + 1), ES, SR, lO, lA, lB, lI, lb, im, ce, rh)) : wpY_doLine post (G, LC, nI m, CU, ST, LD, nI i, ES, SR, lO, lA, lB, lI, lb, im, ce, rh) := by
  have va : vp_in (nI a) 8 := vp_in_nI (by omega) (by omega)
  have vb : vp_in (nI b) 8 := vp_in_nI (by omega) (by omega)
  have qa : (nI a).toNatClampNeg = a := nI_clamp (by omega)
  have qb : (nI b).toNatClampNeg = b := nI_clamp (by omega)
  have vi : vp_in (nI i) 20 := vp_in_nI (by omega) (by omega)
  have qi : (nI i).toNatClampNeg = i := nI_clamp (by omega)
  refine And.intro vi (nm_r (e' := 16) (by rw [qi, e]) (And.intro vi (nm_r (e' := nI a) (by rw [qi, ea]) (And.intro vi (nm_r (e' := nI b) (by rw [qi, eb]) (And.intro vi (nm_r (e' := lI i) (by rw [qi]) (nm_r (nI_1 i) ?_))))))))
  have ek2 : (lI i &&& 7).toNatClampNeg = k := by rw [ek, sv_a7 hk]; exact nI_clamp (by omega)
  exact br_f (by decide) (br_f (by decide) (br_f (by decide) (br_f (by decide) (br_f (by decide) (br_f (by decide) (br_f (by decide) (br_f (by decide) (br_f (by decide) (br_f (by decide) (br_f (by decide) (br_f (by decide) (br_f (by decide) (br_t rfl (And.intro va (br_t (by rw [qa]; exact hv) (br_f (by decide) h))))))))))))))))
theorem sy_l17 (hG : sv_gk G) (hm : m ≤ 20) (hl : sv_lbok lb m) (hi : i < m) (ha : a < 6) (hb : b < 6) (ea : lA i = nI a) (eb : lB i = nI b) (e : lO i = 17) (h : post (G, LC, nI m, CU, ST, LD, nI (sv_tg lb m (rh a &&& 7).toNatClampNeg), ES, SR, lO, lA, lB, lI, lb, im, ce, rh)) : wpY_doLine post (G, LC, nI m, CU, ST, LD, nI i, ES, SR, lO, lA, lB, lI, lb, im, ce, rh) := by
  have va : vp_in (nI a) 8 := vp_in_nI (by omega) (by omega)
  have vb : vp_in (nI b) 8 := vp_in_nI (by omega) (by omega)
  have qa : (nI a).toNatClampNeg = a := nI_clamp (by omega)
  have qb : (nI b).toNatClampNeg = b := nI_clamp (by omega)
  have vi : vp_in (nI i) 20 := vp_in_nI (by omega) (by omega)
  have qi : (nI i).toNatClampNeg = i := nI_clamp (by omega)
  refine And.intro vi (nm_r (e' := 17) (by rw [qi, e]) (And.intro vi (nm_r (e' := nI a) (by rw [qi, ea]) (And.intro vi (nm_r (e' := nI b) (by rw [qi, eb]) (And.intro vi (nm_r (e' := lI i) (by rw [qi]) (nm_r (nI_1 i) ?_))))))))
  exact br_f (by decide) (br_f (by decide) (br_f (by decide) (br_f (by decide) (br_f (by decide) (br_f (by decide) (br_f (by decide) (br_f (by decide) (br_f (by decide) (br_f (by decide) (br_f (by decide) (br_f (by decide) (br_f (by decide) (br_f (by decide) (br_t rfl (And.intro va (by rw [qa]; exact sy_target hm hl rfl h))))))))))))))))
end YT
end YS
end
section
/-! source lines: both machines, line by line -/
def sv_e6 (r r' : Nat → Int32) : Prop := ∀ x, x ≠ 6 → r x = r' x
theorem sv_e6u {r r' : Nat → Int32} {a : Nat} {v : Int32} (h : sv_e6 r r') : sv_e6 (upd r a v) (upd r' a v) := by
  intro x hx
  by_cases e : x = a
  · rw [e, pk_us, pk_us]
  · rw [pk_un e, pk_un e]; exact h x hx
theorem sv_e6s {r r' : Nat → Int32} {v : Int32} (h : sv_e6 r r') : sv_e6 r (upd r' 6 v) := by
  intro x hx
  rw [pk_un hx]; exact h x hx
section SL
variable {G LC N CU LD JD OU PC ST ES SR : Int32} {lO lA lB lI lb im cd sa la lt mk ds cs ce rg : Nat → Int32} {PO : Int32} {rh : Nat → Int32}
variable {m : Nat}
theorem sl_line {i : Nat} (hG : sv_gk G) (hS : ST = 1 ∨ ST = 2) (hm : m ≤ 20) (hl : sv_lbok lb m) (hL : sv_Ls m lO lA lB lI) (hA : sv_At m (sv_ad lO lb m) la lt) (hC : sv_Cd G lO lA lB lI lb m cd) (hi : i < m) (hr : sv_e6 rh rg) :
    ∃ (st' pc' po' : Int32) (ce' rg' rh' : Nat → Int32), ((st' = ST ∧ ∃ j, j ≤ m ∧ po' = nI j ∧ pc' = nI (sv_ad lO lb m j)) ∨ st' = 3) ∧ sv_e6 rh' rg' ∧ (∀ post : SX → Prop, post (G, LC, nI m, CU, LD, JD, OU, pc', st', ES, SR, lO, lA, lB, lI, lb, im, cd, sa, la, lt, mk, ds, cs, ce', rg') → wpX_runLine post (G, LC, nI m, CU, LD, JD, OU, nI (sv_ad lO lb m i), ST, ES, SR, lO, lA, lB, lI, lb, im, cd, sa, la, lt, mk, ds, cs, ce, rg)) ∧ (∀ post : SY → Prop, post (G, LC, nI m, CU, st', LD, po', ES, SR, lO, lA, lB, lI, lb, im, ce', rh') → wpY_doLine post (G, LC, nI m, CU, ST, LD, nI i, ES, SR, lO, lA, lB, lI, lb, im, ce, rh)) := by
  obtain ⟨hs, ⟨a, ha, ea⟩, ⟨b, hb, eb⟩, hd⟩ := hL i hi
  have ra : rh a = rg a := hr a (by omega)
  have rb : rh b = rg b := hr b (by omega)
  have r7 : rh 7 = rg 7 := hr 7 (by omega)
  have e7 : rh 7 - 1 = rg 7 + (-1) := by rw [r7]; exact Int32.sub_eq_add_neg _ _
  rcases sv_srcE hs with e | e | e | e | e | e | e | e | e | e | e | e | e | e | e
  · exact ⟨3, nI (sv_ad lO lb m i), nI (i + 1), ce, rg, rh, Or.inr rfl, hr, fun post h => sx_l0 hG hS hm hl hA hC hi ha hb ea eb e h, fun post h => sy_l0 hG hm hl hi ha hb ea eb e h⟩
  · exact ⟨ST, nI (sv_ad lO lb m (i + 1)), nI (i + 1), ce, upd rg a (lI i), upd rh a (lI i), Or.inl ⟨rfl, i + 1, hi, rfl, rfl⟩, sv_e6u hr, fun post h => sx_l2 hG hS hm hl hA hC hi ha hb ea eb e h, fun post h => sy_l2 hG hm hl hi ha hb ea eb e h⟩
  · exact ⟨ST, nI (sv_ad lO lb m (i + 1)), nI (i + 1), ce, upd rg a (rg b), upd rh a (rg b), Or.inl ⟨rfl, i + 1, hi, rfl, rfl⟩, sv_e6u hr, fun post h => sx_l3 hG hS hm hl hA hC hi ha hb ea eb e h, fun post h => sy_l3 hG hm hl hi ha hb ea eb e (by rw [rb]; exact h)⟩
  · exact ⟨ST, nI (sv_ad lO lb m (i + 1)), nI (i + 1), ce, upd rg a (rg a + rg b), upd rh a (rg a + rg b), Or.inl ⟨rfl, i + 1, hi, rfl, rfl⟩, sv_e6u hr, fun post h => sx_l4 hG hS hm hl hA hC hi ha hb ea eb e h, fun post h => sy_l4 hG hm hl hi ha hb ea eb e (by rw [ra, rb]; exact h)⟩
  · exact ⟨ST, nI (sv_ad lO lb m (i + 1)), nI (i + 1), ce, upd rg a (rg a - rg b), upd rh a (rg a - rg b), Or.inl ⟨rfl, i + 1, hi, rfl, rfl⟩, sv_e6u hr, fun post h => sx_l5 hG hS hm hl hA hC hi ha hb ea eb e h, fun post h => sy_l5 hG hm hl hi ha hb ea eb e (by rw [ra, rb]; exact h)⟩
  · exact ⟨ST, nI (sv_ad lO lb m (i + 1)), nI (i + 1), ce, upd rg a (rg a * rg b), upd rh a (rg a * rg b), Or.inl ⟨rfl, i + 1, hi, rfl, rfl⟩, sv_e6u hr, fun post h => sx_l6 hG hS hm hl hA hC hi ha hb ea eb e h, fun post h => sy_l6 hG hm hl hi ha hb ea eb e (by rw [ra, rb]; exact h)⟩
  · exact ⟨ST, nI (sv_ad lO lb m (i + 1)), nI (i + 1), ce, upd rg a (rg a &&& rg b), upd rh a (rg a &&& rg b), Or.inl ⟨rfl, i + 1, hi, rfl, rfl⟩, sv_e6u hr, fun post h => sx_l7 hG hS hm hl hA hC hi ha hb ea eb e h, fun post h => sy_l7 hG hm hl hi ha hb ea eb e (by rw [ra, rb]; exact h)⟩
  · exact ⟨ST, nI (sv_ad lO lb m (i + 1)), nI (i + 1), ce, upd (upd rg 6 (G + (rg b &&& (G - 1)))) a (ce (G + (rg b &&& (G - 1))).toNatClampNeg), upd rh a (ce (G + (rg b &&& (G - 1))).toNatClampNeg), Or.inl ⟨rfl, i + 1, hi, rfl, rfl⟩, sv_e6u (sv_e6s hr), fun post h => sx_l12 hG hS hm hl hA hC hi ha hb ea eb e h, fun post h => sy_l12 hG hm hl hi ha hb ea eb e (by rw [rb]; exact h)⟩
  · exact ⟨ST, nI (sv_ad lO lb m (i + 1)), nI (i + 1), upd ce (G + (rg a &&& (G - 1))).toNatClampNeg (rg b), upd rg 6 (G + (rg a &&& (G - 1))), rh, Or.inl ⟨rfl, i + 1, hi, rfl, rfl⟩, sv_e6s hr, fun post h => sx_l13 hG hS hm hl hA hC hi ha hb ea eb e h, fun post h => sy_l13 hG hm hl hi ha hb ea eb e (by rw [ra, rb]; exact h)⟩
  · obtain ⟨k, hk, ek⟩ := hd (by rw [e]; exact ⟨by decide, by decide⟩)
    exact ⟨ST, nI (sv_ad lO lb m (sv_tg lb m k)), nI (sv_tg lb m k), ce, rg, rh, Or.inl ⟨rfl, sv_tg lb m k, sv_tg_le hl hm hk, rfl, rfl⟩, hr, fun post h => sx_l14 hG hS hm hl hA hC hi ha hb ea eb e hk ek h, fun post h => sy_l14 hG hm hl hi ha hb ea eb e hk ek h⟩
  · obtain ⟨k, hk, ek⟩ := hd (by rw [e]; exact ⟨by decide, by decide⟩)
    by_cases hv : rg a = 0
    · exact ⟨ST, nI (sv_ad lO lb m (sv_tg lb m k)), nI (sv_tg lb m k), ce, rg, rh, Or.inl ⟨rfl, sv_tg lb m k, sv_tg_le hl hm hk, rfl, rfl⟩, hr, fun post h => sx_l15t hG hS hm hl hA hC hi ha hb ea eb e hk ek hv h, fun post h => sy_l15t hG hm hl hi ha hb ea eb e hk ek (by rw [ra]; exact hv) h⟩
    · exact ⟨ST, nI (sv_ad lO lb m (i + 1)), nI (i + 1), ce, rg, rh, Or.inl ⟨rfl, i + 1, hi, rfl, rfl⟩, hr, fun post h => sx_l15f hG hS hm hl hA hC hi ha hb ea eb e hk ek hv h, fun post h => sy_l15f hG hm hl hi ha hb ea eb e hk ek (by rw [ra]; exact hv) h⟩
  · obtain ⟨k, hk, ek⟩ := hd (by rw [e]; exact ⟨by decide, by decide⟩)
    by_cases hv : 0 ≤ rg a
    · exact ⟨ST, nI (sv_ad lO lb m (i + 1)), nI (i + 1), ce, rg, rh, Or.inl ⟨rfl, i + 1, hi, rfl, rfl⟩, hr, fun post h => sx_l16f hG hS hm hl hA hC hi ha hb ea eb e hk ek hv h, fun post h => sy_l16f hG hm hl hi ha hb ea eb e hk ek (by rw [ra]; exact hv) h⟩
    · exact ⟨ST, nI (sv_ad lO lb m (sv_tg lb m k)), nI (sv_tg lb m k), ce, rg, rh, Or.inl ⟨rfl, sv_tg lb m k, sv_tg_le hl hm hk, rfl, rfl⟩, hr, fun post h => sx_l16t hG hS hm hl hA hC hi ha hb ea eb e hk ek hv h, fun post h => sy_l16t hG hm hl hi ha hb ea eb e hk ek (by rw [ra]; exact hv) h⟩
  · obtain ⟨k, hk, k1, _⟩ := sv_jr (rg a)
    exact ⟨ST, nI (sv_ad lO lb m (sv_tg lb m (rg a &&& 7).toNatClampNeg)), nI (sv_tg lb m (rg a &&& 7).toNatClampNeg), ce, upd rg 6 ((rg a <<< (((2 : Int32) &&& 31) &&& 31)) &&& 28), rh, Or.inl ⟨rfl, sv_tg lb m (rg a &&& 7).toNatClampNeg, sv_tg_le hl hm (by rw [k1]; exact hk), rfl, rfl⟩, sv_e6s hr, fun post h => sx_l17 hG hS hm hl hA hC hi ha hb ea eb e h, fun post h => sy_l17 hG hm hl hi ha hb ea eb e (by rw [ra]; exact h)⟩
  · exact ⟨ST, nI (sv_ad lO lb m (i + 1)), nI (i + 1), upd ce (G + ((rg 7 + (-1)) &&& (G - 1))).toNatClampNeg (rg a), upd rg 7 (G + ((rg 7 + (-1)) &&& (G - 1))), upd rh 7 (G + ((rg 7 + (-1)) &&& (G - 1))), Or.inl ⟨rfl, i + 1, hi, rfl, rfl⟩, sv_e6u hr, fun post h => sx_l18 hG hS hm hl hA hC hi ha hb ea eb e h, fun post h => sy_l18 hG hm hl hi ha hb ea eb e (by rw [e7, ra]; exact h)⟩
  · exact ⟨ST, nI (sv_ad lO lb m (i + 1)), nI (i + 1), ce, upd (upd rg a (sv_me G ce (rg 7))) 7 (G + ((rg 7 + 1) &&& (G - 1))), upd (upd rh a (sv_me G ce (rg 7))) 7 (G + ((rg 7 + 1) &&& (G - 1))), Or.inl ⟨rfl, i + 1, hi, rfl, rfl⟩, sv_e6u (sv_e6u hr), fun post h => sx_l19 hG hS hm hl hA hC hi ha hb ea eb e h, fun post h => sy_l19 hG hm hl hi ha hb ea eb e (by rw [r7]; exact h)⟩
theorem sl_loop {lim : Nat} (hlim : lim ≤ 400) (hG : sv_gk G) (hL0 : LD = 0) (hm : m ≤ 20) (hl : sv_lbok lb m) (hL : sv_Ls m lO lA lB lI) (hA : sv_At m (sv_ad lO lb m) la lt) (hC : sv_Cd G lO lA lB lI lb m cd) : ∀ (d k n : Nat), k + d = lim → d < n → ∀ (i : Nat) (ST : Int32) (ce rg rh : Nat → Int32), i ≤ m → (ST = 1 ∨ ST = 2) → sv_e6 rh rg →
    ∃ (st' pc' po' : Int32) (ce' rg' rh' : Nat → Int32), ((st' = 2 ∧ ∃ j, j ≤ m ∧ po' = nI j ∧ pc' = nI (sv_ad lO lb m j)) ∨ st' = 3) ∧ sv_e6 rh' rg' ∧ (∀ post : SX → Prop, post (G, LC, nI m, CU, LD, JD, OU, pc', st', ES, SR, lO, lA, lB, lI, lb, im, cd, sa, la, lt, mk, ds, cs, ce', rg') → wX_runSource_2 post (nI lim) n (nI k) G LC (nI m) CU LD JD OU (nI (sv_ad lO lb m i)) ST ES SR lO lA lB lI lb im cd sa la lt mk ds cs ce rg) ∧ (∀ post : Int32 → SY → Prop, post st' (G, LC, nI m, CU, st', LD, po', ES, SR, lO, lA, lB, lI, lb, im, ce', rh') → wY_run_58 post (nI lim) n (nI k) G LC (nI m) CU ST LD (nI i) ES SR lO lA lB lI lb im ce rh) := by
  subst hL0
  intro d
  induction d with
  | zero =>
    intro k n e hn i ST ce rg rh hi hS hr
    obtain ⟨n, rfl⟩ : ∃ m, n = m + 1 := ⟨n - 1, by omega⟩
    obtain rfl : k = lim := by omega
    have l1 : ¬ nI k < nI k := nI_nlt (Nat.le_refl _) (by omega)
    have ui := sv_ad_up (lO := lO) (lb := lb) hm hi
    have hlt := hA.2.1 i hi
    by_cases him : i = m
    · subst him
      exact ⟨3, nI (sv_ad lO lb i i), nI i, ce, rg, rh, Or.inr rfl, hr, fun post h => br_f l1 (sx_here (by omega) (br_t hlt h)), fun post h => br_f l1 (br_t rfl (br_f (nI_nlt (Nat.le_refl _) (by omega)) h))⟩
    · have ne : ¬ lt (sv_ad lO lb m i) = nI m := by
        rw [hlt]
        exact fun z => him ((nI_eq (by omega) (by omega)).mp z)
      exact ⟨2, nI (sv_ad lO lb m i), nI i, ce, rg, rh, Or.inl ⟨rfl, i, hi, rfl, rfl⟩, hr, fun post h => br_f l1 (sx_here (by omega) (br_f ne (br_t rfl h))), fun post h => br_f l1 (br_t rfl (br_t (nI_lt (by omega) (by omega)) (br_f (by decide) (br_t rfl h))))⟩
  | succ d ih =>
    intro k n e hn i ST ce rg rh hi hS hr
    obtain ⟨n, rfl⟩ : ∃ m, n = m + 1 := ⟨n - 1, by omega⟩
    have l1 : ¬ nI lim < nI k := nI_nlt (by omega) (by omega)
    have l2 : ¬ nI k = nI lim := fun z => by have := (nI_eq (by omega) (by omega)).mp z; omega
    have ui := sv_ad_up (lO := lO) (lb := lb) hm hi
    have hlt := hA.2.1 i hi
    by_cases him : i = m
    · subst him
      exact ⟨3, nI (sv_ad lO lb i i), nI i, ce, rg, rh, Or.inr rfl, hr, fun post h => br_f l1 (sx_here (by omega) (br_t hlt h)), fun post h => br_f l1 (br_t rfl (br_f (nI_nlt (Nat.le_refl _) (by omega)) h))⟩
    · have ne : ¬ lt (sv_ad lO lb m i) = nI m := by
        rw [hlt]
        exact fun z => him ((nI_eq (by omega) (by omega)).mp z)
      obtain ⟨st, pc, po, ce1, rg1, rh1, hst, hr1, hX, hY⟩ := sl_line (G := G) (LC := LC) (CU := CU) (JD := JD) (OU := OU) (ST := ST) (ES := ES) (SR := SR) (lO := lO) (lA := lA) (lB := lB) (lI := lI) (lb := lb) (im := im) (cd := cd) (sa := sa) (la := la) (lt := lt) (mk := mk) (ds := ds) (cs := cs) (ce := ce) (rg := rg) (LD := 0) (rh := rh) (i := i) hG hS hm hl hL hA hC (by omega) hr
      have preX : ∀ post : SX → Prop, wpX_hasEnded (fun r_58 => ((r_58 = 0 → (∀ x2_86 : Int32, x2_86 = nI k + 1 → (wX_runSource_2 post (nI lim) n x2_86 G LC (nI m) CU 0 JD OU pc st ES SR lO lA lB lI lb im cd sa la lt mk ds cs ce1 rg1))) ∧ (¬ r_58 = 0 → (post (G, LC, nI m, CU, 0, JD, OU, pc, st, ES, SR, lO, lA, lB, lI, lb, im, cd, sa, la, lt, mk, ds, cs, ce1, rg1))))) (G, LC, nI m, CU, 0, JD, OU, pc, st, ES, SR, lO, lA, lB, lI, lb, im, cd, sa, la, lt, mk, ds, cs, ce1, rg1) → wX_runSource_2 post (nI lim) (n + 1) (nI k) G LC (nI m) CU 0 JD OU (nI (sv_ad lO lb m i)) ST ES SR lO lA lB lI lb im cd sa la lt mk ds cs ce rg := by
        intro post h
        exact br_f l1 (sx_here (by omega) (br_f ne (br_f l2 (hX _ h))))
      have preY : ∀ post : Int32 → SY → Prop, wY_run_171 post (wY_run_58 post (nI lim) n) (nI lim) (nI k) G LC (nI m) CU st 0 po ES SR lO lA lB lI lb im ce1 rh1 → wY_run_58 post (nI lim) (n + 1) (nI k) G LC (nI m) CU ST 0 (nI i) ES SR lO lA lB lI lb im ce rh := by
        intro post h
        exact br_f l1 (br_t rfl (br_t (nI_lt (by omega) (by omega)) (br_f (by decide) (br_f l2 (br_t rfl (hY _ h))))))
      rcases hst with ⟨rfl, j, hj, rfl, rfl⟩ | rfl
      · obtain ⟨st2, pc2, po2, ce2, rg2, rh2, g1, g2, g3, g4⟩ := ih (k + 1) n (by omega) (by omega) j st ce1 rg1 rh1 hj hS hr1
        have n34 := sl_n34 hS
        refine ⟨st2, pc2, po2, ce2, rg2, rh2, g1, g2, fun post h => preX post ?_, fun post h => preY post ?_⟩
        · exact sx_end0 n34.1 n34.2 (br_t rfl (nm_r (nI_1 k) (g3 post h)))
        · exact br_f n34.1 (br_f n34.2 (nm_r (nI_1 k) (g4 post h)))
      · refine ⟨3, pc, po, ce1, rg1, rh1, Or.inr rfl, hr1, fun post h => preX post ?_, fun post h => preY post ?_⟩
        · exact sx_end1 (Or.inl rfl) (br_f sv_10 h)
        · exact br_t rfl h
end SL
end
section
/-! entering lines -/
def sv_lok (LC N o a b i : Int32) : Prop := ¬ LC ≤ N ∧ sv_src o ∧ (¬ a < 0 ∧ ¬ 6 ≤ a) ∧ (¬ b < 0 ∧ ¬ 6 ≤ b) ∧ (sv_dir o → ¬ i < 0 ∧ ¬ 8 ≤ i)
theorem sv_nor {a b : Prop} (h : a ∨ b) : ¬ (¬ a ∧ ¬ b) := fun q => h.elim q.1 q.2
section CA
variable {G LC N CU LD JD OU PC ST ES SR : Int32} {lO lA lB lI lb im cd sa la lt mk ds cs ce rg : Nat → Int32} {PO : Int32} {rh : Nat → Int32}
theorem sx_line64 {post : Int32 → SX → Prop} {n : Nat} {o a b i : Int32} (hn : n < 20) (h : post 1 (G, LC, nI (n + 1), CU, LD, JD, OU, PC, 0, ES, SR, upd lO n o, upd lA n a, upd lB n b, upd lI n i, lb, im, cd, sa, la, lt, mk, ds, cs, ce, rg)) : wX_line_64 post o a b i G LC (nI n) CU LD JD OU PC ST ES SR lO lA lB lI lb im cd sa la lt mk ds cs ce rg := by
  have q : (nI n).toNatClampNeg = n := nI_clamp (by omega)
  have v : vp_in (nI n) 20 := vp_in_nI hn (by omega)
  exact And.intro v (nm_r (e' := upd lO n o) (by rw [q]) (And.intro v (nm_r (e' := upd lA n a) (by rw [q]) (And.intro v (nm_r (e' := upd lB n b) (by rw [q]) (And.intro v (nm_r (e' := upd lI n i) (by rw [q]) (nm_r (nI_1 n) h))))))))
theorem sx_line {post : Int32 → SX → Prop} {n : Nat} {o a b i : Int32} (hn : ¬ LC ≤ nI n → n < 20) (h1 : sv_lok LC (nI n) o a b i → post 1 (G, LC, nI (n + 1), CU, LD, JD, OU, PC, 0, ES, SR, upd lO n o, upd lA n a, upd lB n b, upd lI n i, lb, im, cd, sa, la, lt, mk, ds, cs, ce, rg)) (h0 : ¬ sv_lok LC (nI n) o a b i → post 0 (G, LC, nI n, CU, LD, JD, OU, PC, ST, ES, SR, lO, lA, lB, lI, lb, im, cd, sa, la, lt, mk, ds, cs, ce, rg)) : wpX_line post (G, LC, nI n, CU, LD, JD, OU, PC, ST, ES, SR, lO, lA, lB, lI, lb, im, cd, sa, la, lt, mk, ds, cs, ce, rg) o a b i := by
  by_cases c1 : LC ≤ nI n
  · exact br_t c1 (h0 fun z => z.1 c1)
  refine br_f c1 (sx_src (fun hs => br_f sv_10 ?_) (fun hs => br_t rfl (h0 fun z => hs z.2.1)))
  refine sx_wc (fun a0 a1 => br_f sv_10 ?_) (fun hh => br_t rfl (h0 fun z => sv_nor hh z.2.2.1))
  refine sx_wc (fun b0 b1 => br_f sv_10 ?_) (fun hh => br_t rfl (h0 fun z => sv_nor hh z.2.2.2.1))
  refine sx_dir (fun hd => br_f sv_10 ?_) (fun hd => br_t rfl (sx_line64 (hn c1) (h1 ⟨c1, hs, ⟨a0, a1⟩, ⟨b0, b1⟩, fun z => absurd z hd⟩)))
  exact sx_wc (fun i0 i1 => br_f sv_10 (sx_line64 (hn c1) (h1 ⟨c1, hs, ⟨a0, a1⟩, ⟨b0, b1⟩, fun _ => ⟨i0, i1⟩⟩))) (fun hh => br_t rfl (h0 fun z => sv_nor hh (z.2.2.2.2 hd)))
theorem sy_line96 {post : Int32 → SY → Prop} {n : Nat} {o a b i : Int32} (hn : n < 20) (h : post 1 (G, LC, nI (n + 1), CU, 0, LD, PO, ES, SR, upd lO n o, upd lA n a, upd lB n b, upd lI n i, lb, im, ce, rh)) : wY_line_96 post o a b i G LC (nI n) CU ST LD PO ES SR lO lA lB lI lb im ce rh := by
  have q : (nI n).toNatClampNeg = n := nI_clamp (by omega)
  have v : vp_in (nI n) 20 := vp_in_nI hn (by omega)
  exact And.intro v (nm_r (e' := upd lO n o) (by rw [q]) (And.intro v (nm_r (e' := upd lA n a) (by rw [q]) (And.intro v (nm_r (e' := upd lB n b) (by rw [q]) (And.intro v (nm_r (e' := upd lI n i) (by rw [q]) (nm_r (nI_1 n) h))))))))
theorem sy_line32 {post : Int32 → SY → Prop} {n : Nat} {o a b i z0 : Int32} (hz : (z0 = 0 ∧ ¬ sv_src o) ∨ (¬ z0 = 0 ∧ sv_src o)) (hn : ¬ LC ≤ nI n → n < 20) (h1 : sv_lok LC (nI n) o a b i → post 1 (G, LC, nI (n + 1), CU, 0, LD, PO, ES, SR, upd lO n o, upd lA n a, upd lB n b, upd lI n i, lb, im, ce, rh)) (h0 : ¬ sv_lok LC (nI n) o a b i → post 0 (G, LC, nI n, CU, ST, LD, PO, ES, SR, lO, lA, lB, lI, lb, im, ce, rh)) : wY_line_32 post o a b i z0 G LC (nI n) CU ST LD PO ES SR lO lA lB lI lb im ce rh := by
  by_cases c1 : LC ≤ nI n
  · exact br_t c1 (h0 fun z => z.1 c1)
  refine br_f c1 ?_
  rcases hz with ⟨hz, hs⟩ | ⟨hz, hs⟩
  · exact br_t hz (h0 fun z => hs z.2.1)
  refine br_f hz (br_c (fun a0 => h0 fun z => z.2.2.1.1 a0) (fun a0 => br_c (fun a1 => h0 fun z => z.2.2.1.2 ((sv_65 a).mpr a1)) (fun a1 => br_c (fun b0 => h0 fun z => z.2.2.2.1.1 b0) (fun b0 => br_c (fun b1 => ?_) (fun b1 => h0 fun z => z.2.2.2.1.2 ((sv_65 b).mpr (Int32.not_le.mp b1)))))))
  have b1' : ¬ 6 ≤ b := fun z => absurd ((sv_65 b).mp z) (Int32.not_lt.mpr b1)
  have a1' : ¬ 6 ≤ a := fun z => a1 ((sv_65 a).mp z)
  have good : (sv_dir o → ¬ i < 0 ∧ ¬ 8 ≤ i) → wY_line_96 post o a b i G LC (nI n) CU ST LD PO ES SR lO lA lB lI lb im ce rh := fun hd => sy_line96 (hn c1) (h1 ⟨c1, hs, ⟨a0, a1'⟩, ⟨b0, b1'⟩, hd⟩)
  refine br_c (fun d0 => good fun z => absurd d0 z.1) (fun d0 => br_c (fun d1 => good fun z => absurd d1 z.2) (fun d1 => br_c (fun i0 => h0 fun z => (z.2.2.2.2 ⟨d0, d1⟩).1 i0) (fun i0 => br_c (fun i1 => good fun _ => ⟨i0, fun z => absurd ((sv_87 i).mp z) (Int32.not_lt.mpr i1)⟩) (fun i1 => h0 fun z => (z.2.2.2.2 ⟨d0, d1⟩).2 ((sv_87 i).mpr (Int32.not_le.mp i1))))))
theorem sy_line {post : Int32 → SY → Prop} {n : Nat} {o a b i : Int32} (hn : ¬ LC ≤ nI n → n < 20) (h1 : sv_lok LC (nI n) o a b i → post 1 (G, LC, nI (n + 1), CU, 0, LD, PO, ES, SR, upd lO n o, upd lA n a, upd lB n b, upd lI n i, lb, im, ce, rh)) (h0 : ¬ sv_lok LC (nI n) o a b i → post 0 (G, LC, nI n, CU, ST, LD, PO, ES, SR, lO, lA, lB, lI, lb, im, ce, rh)) : wpY_line post (G, LC, nI n, CU, ST, LD, PO, ES, SR, lO, lA, lB, lI, lb, im, ce, rh) o a b i := by
  have y27 : sv_src o → wY_line_27 post o a b i G LC (nI n) CU ST LD PO ES SR lO lA lB lI lb im ce rh := fun hs => sy_line32 (Or.inr ⟨sv_10, hs⟩) hn h1 h0
  have y31 : ¬ sv_src o → wY_line_31 post o a b i G LC (nI n) CU ST LD PO ES SR lO lA lB lI lb im ce rh := fun hs => sy_line32 (Or.inl ⟨rfl, hs⟩) hn h1 h0
  have y15 : ¬ o = 0 → ¬ (¬ o < 2 ∧ o ≤ 7) → wY_line_15 post o a b i G LC (nI n) CU ST LD PO ES SR lO lA lB lI lb im ce rh := fun z y =>
    br_c (fun w => y31 fun q => q.elim z (fun q => q.elim y (fun q => q.1 w))) (fun w => br_c (fun v => y31 fun q => q.elim z (fun q => q.elim y (fun q => q.2 v))) (fun v => y27 (Or.inr (Or.inr ⟨w, v⟩))))
  exact br_c (fun z => y27 (Or.inl z)) (fun z => br_c (fun y => y15 z fun q => q.1 y) (fun y => br_c (fun w => y27 (Or.inr (Or.inl ⟨y, w⟩))) (fun w => y15 z fun q => w q.2)))
/-! clearing, loading: the reference -/
theorem sy_unset38 {post : SY → Prop} (h : post (G, LC, N, CU, ST, LD, PO, ES, SR, lO, lA, lB, lI, lb, sv_fl im 0 128, ce, rh)) : ∃ n, wY_clear_38 post G LC N CU ST LD PO ES SR n 0 lO lA lB lI lb im ce rh := by
  have key : ∀ d k n, k + d = 128 → d < n → wY_clear_38 post G LC N CU ST LD PO ES SR n (nI k) lO lA lB lI lb (sv_fl im 0 k) ce rh := by
    intro d
    induction d with
    | zero =>
      intro k n e hn
      obtain ⟨n, rfl⟩ : ∃ m, n = m + 1 := ⟨n - 1, by omega⟩
      obtain rfl : k = 128 := by omega
      exact br_t (by decide) h
    | succ d ih =>
      intro k n e hn
      obtain ⟨n, rfl⟩ : ∃ m, n = m + 1 := ⟨n - 1, by omega⟩
      have ek : (nI k).toNatClampNeg = k := nI_clamp (by omega)
      exact br_f (nI_ge (b := 128) (by omega) (by decide)) (And.intro (vp_in_nI (by omega) (by omega)) (nm_r (e' := sv_fl im 0 (k + 1)) (by rw [ek, sv_fls]) (nm_r (nI_1 k) (ih (k + 1) n (by omega) (by omega)))))
  have h2 := key 128 0 129 rfl (by omega)
  rw [sv_fl0] at h2
  exact Exists.intro 129 h2
theorem sy_clear {post : SY → Prop} (h : post (G, LC, 0, 0, 0, LD, PO, ES, SR, lO, lA, lB, lI, sv_fl lb (-1) 8, sv_fl im 0 128, ce, rh)) : wpY_clear post (G, LC, N, CU, ST, LD, PO, ES, SR, lO, lA, lB, lI, lb, im, ce, rh) := by
  have key : ∀ d k n, k + d = 8 → d < n → wY_clear_17 post G LC 0 0 0 LD PO ES SR n (nI k) lO lA lB lI (sv_fl lb (-1) k) im ce rh := by
    intro d
    induction d with
    | zero =>
      intro k n e hn
      obtain ⟨n, rfl⟩ : ∃ m, n = m + 1 := ⟨n - 1, by omega⟩
      obtain rfl : k = 8 := by omega
      exact br_t (by decide) (sy_unset38 h)
    | succ d ih =>
      intro k n e hn
      obtain ⟨n, rfl⟩ : ∃ m, n = m + 1 := ⟨n - 1, by omega⟩
      have ek : (nI k).toNatClampNeg = k := nI_clamp (by omega)
      exact br_f (nI_ge (b := 8) (by omega) (by decide)) (And.intro (vp_in_nI (by omega) (by omega)) (nm_r (e' := sv_fl lb (-1) (k + 1)) (by rw [ek, sv_fls]) (nm_r (nI_1 k) (ih (k + 1) n (by omega) (by omega)))))
  have h2 := key 8 0 9 rfl (by omega)
  rw [sv_fl0] at h2
  exact Exists.intro 9 h2
theorem sy_init121 {post : SY → Prop} (h : post (G, LC, N, CU, ST, LD, PO, ES, SR, lO, lA, lB, lI, sv_fl lb (-1) 8, im, ce, rh)) : ∃ n, wY_init_121 post G LC N CU ST LD PO ES SR n 0 lO lA lB lI lb im ce rh := by
  have key : ∀ d k n, k + d = 8 → d < n → wY_init_121 post G LC N CU ST LD PO ES SR n (nI k) lO lA lB lI (sv_fl lb (-1) k) im ce rh := by
    intro d
    induction d with
    | zero =>
      intro k n e hn
      obtain ⟨n, rfl⟩ : ∃ m, n = m + 1 := ⟨n - 1, by omega⟩
      obtain rfl : k = 8 := by omega
      exact br_t (by decide) h
    | succ d ih =>
      intro k n e hn
      obtain ⟨n, rfl⟩ : ∃ m, n = m + 1 := ⟨n - 1, by omega⟩
      have ek : (nI k).toNatClampNeg = k := nI_clamp (by omega)
      exact br_f (nI_ge (b := 8) (by omega) (by decide)) (And.intro (vp_in_nI (by omega) (by omega)) (nm_r (e' := sv_fl lb (-1) (k + 1)) (by rw [ek, sv_fls]) (nm_r (nI_1 k) (ih (k + 1) n (by omega) (by omega)))))
  have h2 := key 8 0 9 rfl (by omega)
  rw [sv_fl0] at h2
  exact Exists.intro 9 h2
theorem sy_load18 {post : Int32 → SY → Prop} (h : post 1 (G, LC, N, CU, 1, LD, 0, 0, 0, lO, lA, lB, lI, lb, im, ce, upd (sv_fl rh 0 7) 7 G)) : ∃ n, wY_load_18 post G LC N CU ST LD PO ES SR n 0 lO lA lB lI lb im ce rh := by
  have key : ∀ d k n, k + d = 7 → d < n → wY_load_18 post G LC N CU ST LD PO ES SR n (nI k) lO lA lB lI lb im ce (sv_fl rh 0 k) := by
    intro d
    induction d with
    | zero =>
      intro k n e hn
      obtain ⟨n, rfl⟩ : ∃ m, n = m + 1 := ⟨n - 1, by omega⟩
      obtain rfl : k = 7 := by omega
      exact br_t (by decide) (nm_e h)
    | succ d ih =>
      intro k n e hn
      obtain ⟨n, rfl⟩ : ∃ m, n = m + 1 := ⟨n - 1, by omega⟩
      have ek : (nI k).toNatClampNeg = k := nI_clamp (by omega)
      exact br_f (nI_ge (b := 7) (by omega) (by decide)) (And.intro (vp_in_nI (by omega) (by omega)) (nm_r (e' := sv_fl rh 0 (k + 1)) (by rw [ek, sv_fls]) (nm_r (nI_1 k) (ih (k + 1) n (by omega) (by omega)))))
  have h2 := key 7 0 8 rfl (by omega)
  rw [sv_fl0] at h2
  exact Exists.intro 8 h2
theorem sv_e6l {r r' : Nat → Int32} (h : sv_e6 r r') (g : Int32) : upd (sv_fl r 0 7) 7 g = upd (sv_fl r' 0 7) 7 g := by
  funext x
  by_cases e : x = 7
  · rw [e, pk_us, pk_us]
  · rw [pk_un e, pk_un e]
    unfold sv_fl
    by_cases z : x < 7
    · rw [if_pos z, if_pos z]
    · rw [if_neg z, if_neg z]; exact h x (by omega)
end CA
/-! clamped numbers -/
theorem sv_clE {x lo hi : Int32} {a b : Nat} (hlo : lo = nI a) (hhi : hi = nI b) (hab : a ≤ b) (hb : b < 2 ^ 31) : ∃ j, a ≤ j ∧ j ≤ b ∧ sv_cl x lo hi = nI j := by
  subst hlo hhi
  unfold sv_cl
  by_cases h1 : nI a ≤ x
  · rw [if_pos h1]
    by_cases h2 : x ≤ nI b
    · rw [if_pos h2]
      have h0 : ¬ x < 0 := by
        have e0 : (0 : Int32).toInt = 0 := by decide
        rw [Int32.le_iff_toInt_le, nI_toInt (by omega)] at h1
        rw [Int32.lt_iff_toInt_lt]
        omega
      obtain ⟨j, hj, rfl⟩ := nI_of h0
      rw [nI_leI (by omega) hj] at h1
      rw [nI_leI hj hb] at h2
      exact ⟨j, h1, h2, rfl⟩
    · rw [if_neg h2]; exact ⟨b, hab, Nat.le_refl _, rfl⟩
  · rw [if_neg h1]; exact ⟨a, Nat.le_refl _, hab, rfl⟩
end
section
/-! the relation -/
def sv_Bs (m : Nat) (G LC N CU : Int32) (lO lA lB lI lb : Nat → Int32) : Prop :=
  sv_gk G ∧ (∃ cap, cap ≤ 20 ∧ m ≤ cap ∧ LC = nI cap) ∧ N = nI m ∧ (∃ cu, cu ≤ 128 ∧ CU = nI cu) ∧ sv_lbok lb m ∧ sv_Ls m lO lA lB lI
def sv_Sr (m : Nat) (G LD JD PC ST PO : Int32) (lO lA lB lI lb cd la lt : Nat → Int32) : Prop :=
  LD = 0 ∧ JD = -1 ∧ sv_At m (sv_ad lO lb m) la lt ∧ sv_Cd G lO lA lB lI lb m cd ∧ ((ST = 1 ∨ ST = 2) → ∃ i, i ≤ m ∧ PO = nI i ∧ PC = nI (sv_ad lO lb m i))
def sv_Na (G LD JD PC ST PO : Int32) (im cd sa rg rh : Nat → Int32) : Prop :=
  LD = 1 ∧ JD = sv_vd im G 128 ∧ (∀ q, q < 128 → cd q = im q) ∧ (∀ q, q < 128 → sa q = sv_bi (sv_st im q)) ∧ rh = rg ∧ ((ST = 1 ∨ ST = 2) → PO = PC)
def i_Rel (k : Nat) (u : SX) (v : SY) : Prop := match u with
  | (G, LC, N, CU, LD, JD, _, PC, ST, ES, SR, lO, lA, lB, lI, lb, im, cd, sa, la, lt, _, _, _, ce, rg) => ∃ (PO : Int32) (rh : Nat → Int32) (m : Nat), v = (G, LC, N, CU, ST, LD, PO, ES, SR, lO, lA, lB, lI, lb, im, ce, rh) ∧ sv_Bs m G LC N CU lO lA lB lI lb ∧ sv_e6 rh rg ∧ (ST = 0 ∨ sv_Sr m G LD JD PC ST PO lO lA lB lI lb cd la lt ∨ sv_Na G LD JD PC ST PO im cd sa rg rh)
theorem i_up {k : Nat} {u : SX} {v : SY} (h : i_Rel k u v) : i_Rel (k + 5) u v := h
theorem sr_el {P : SX → SY → Prop} {k : Nat} {u : SX} {v : SY} (I : i_Rel k u v) (h : ∀ (G LC N CU LD JD OU PC ST ES SR : Int32) (lO lA lB lI lb im cd sa la lt mk ds cs ce rg : Nat → Int32) (PO : Int32) (rh : Nat → Int32) (m : Nat), sv_Bs m G LC N CU lO lA lB lI lb → sv_e6 rh rg → (ST = 0 ∨ sv_Sr m G LD JD PC ST PO lO lA lB lI lb cd la lt ∨ sv_Na G LD JD PC ST PO im cd sa rg rh) → P (G, LC, N, CU, LD, JD, OU, PC, ST, ES, SR, lO, lA, lB, lI, lb, im, cd, sa, la, lt, mk, ds, cs, ce, rg) (G, LC, N, CU, ST, LD, PO, ES, SR, lO, lA, lB, lI, lb, im, ce, rh)) : P u v := by
  obtain ⟨G, LC, N, CU, LD, JD, OU, PC, ST, ES, SR, lO, lA, lB, lI, lb, im, cd, sa, la, lt, mk, ds, cs, ce, rg⟩ := u
  obtain ⟨PO, rh, m, rfl, h1, h2, h3⟩ := I
  exact h _ _ _ _ _ _ _ _ _ _ _ _ _ _ _ _ _ _ _ _ _ _ _ _ _ _ PO rh m h1 h2 h3
section RE
variable {G LC N CU LD JD OU PC ST ES SR : Int32} {lO lA lB lI lb im cd sa la lt mk ds cs ce rg : Nat → Int32} {PO : Int32} {rh : Nat → Int32}
variable {m : Nat}
theorem sr_in {k : Nat} (h1 : sv_Bs m G LC N CU lO lA lB lI lb) (h2 : sv_e6 rh rg) (h3 : ST = 0 ∨ sv_Sr m G LD JD PC ST PO lO lA lB lI lb cd la lt ∨ sv_Na G LD JD PC ST PO im cd sa rg rh) : i_Rel k (G, LC, N, CU, LD, JD, OU, PC, ST, ES, SR, lO, lA, lB, lI, lb, im, cd, sa, la, lt, mk, ds, cs, ce, rg) (G, LC, N, CU, ST, LD, PO, ES, SR, lO, lA, lB, lI, lb, im, ce, rh) := ⟨PO, rh, m, rfl, h1, h2, h3⟩
theorem sy_init90 {post : SY → Prop} {x z : Int32} (h : post ((1 : Int32) <<< (z &&& 31), sv_cl x 4 20, 0, 0, 0, 0, 0, 0, 0, fun _ => 0, fun _ => 0, fun _ => 0, fun _ => 0, sv_fl (fun _ => 0) (-1) 8, fun _ => 0, fun _ => 0, fun _ => 0)) : wY_init_90 post x z 1 0 0 0 0 0 0 0 0 0 (fun _ => 0) (fun _ => 0) (fun _ => 0) (fun _ => 0) (fun _ => 0) (fun _ => 0) (fun _ => 0) (fun _ => 0) := by
  refine nm_e ?_
  unfold sv_cl at h
  refine br_c (fun e1 => br_c (fun e2 => sy_init121 ?_) (fun e2 => sy_init121 ?_)) (fun e1 => sy_init121 ?_)
  · rwa [if_pos e1, if_pos e2] at h
  · rwa [if_pos e1, if_neg e2] at h
  · rwa [if_neg e1] at h
theorem sy_init {post : SY → Prop} {x z : Int32} (h : post ((1 : Int32) <<< (sv_cl z 2 5 &&& 31), sv_cl x 4 20, 0, 0, 0, 0, 0, 0, 0, fun _ => 0, fun _ => 0, fun _ => 0, fun _ => 0, sv_fl (fun _ => 0) (-1) 8, fun _ => 0, fun _ => 0, fun _ => 0)) : wpY_init post z x := by
  refine br_c (fun e1 => br_c (fun e2 => sy_init90 ?_) (fun e2 => sy_init90 ?_)) (fun e1 => sy_init90 ?_)
  · rwa [show sv_cl z 2 5 = z by unfold sv_cl; rw [if_pos e1, if_pos e2]] at h
  · rwa [show sv_cl z 2 5 = 5 by unfold sv_cl; rw [if_pos e1, if_neg e2]] at h
  · rwa [show sv_cl z 2 5 = 2 by unfold sv_cl; rw [if_neg e1]] at h
end RE
theorem sv_fl8 (f : Nat → Int32) (m : Nat) : sv_lbok (sv_fl f (-1) 8) m := fun k hk => Or.inl (by rw [sv_fl_lo hk]; decide)
theorem i_vc0 (k0 : Int32) (k1 : Int32) : wpX_init (fun u => wpY_init (fun v => i_Rel 2 u v) k0 k1) k0 k1 := by
  obtain ⟨j, j1, j2, ej⟩ := sv_clE (x := k0) (lo := 2) (hi := 5) (a := 2) (b := 5) rfl rfl (by omega) (by omega)
  obtain ⟨c, c1, c2, ec⟩ := sv_clE (x := k1) (lo := 4) (hi := 20) (a := 4) (b := 20) rfl rfl (by omega) (by omega)
  unfold wpX_init
  refine sx_clamp (nm_e (sx_clamp (sx_unset (sy_init ?_))))
  refine sr_in (m := 0) ⟨?_, ⟨c, c2, by omega, ec⟩, rfl, ⟨0, by omega, rfl⟩, sv_fl8 _ _, fun j hj => absurd hj (by omega)⟩ (fun _ _ => rfl) (Or.inl rfl)
  rw [ej]
  have : j = 2 ∨ j = 3 ∨ j = 4 ∨ j = 5 := by omega
  rcases this with rfl | rfl | rfl | rfl
  · exact Or.inl (by decide)
  · exact Or.inr (Or.inl (by decide))
  · exact Or.inr (Or.inr (Or.inl (by decide)))
  · exact Or.inr (Or.inr (Or.inr (by decide)))
theorem i_vc_line {k : Nat} {u : SX} {v : SY} (I : i_Rel k u v) (hk : k + 5 ≤ 2562) (v1 : Int32) (v2 : Int32) (v3 : Int32) (v4 : Int32) : wpX_line (fun r u' => wpY_line (fun r' v' => r' = r ∧ i_Rel (k + 5) u' v') v v1 v2 v3 v4) u v1 v2 v3 v4 := by
  refine sr_el (P := fun u v => wpX_line (fun r u' => wpY_line (fun r' v' => r' = r ∧ i_Rel (k + 5) u' v') v v1 v2 v3 v4) u v1 v2 v3 v4) I ?_
  intro G LC N CU LD JD OU PC ST ES SR lO lA lB lI lb im cd sa la lt mk ds cs ce rg PO rh m hB h6 hL
  have K : ∀ k, i_Rel k (G, LC, N, CU, LD, JD, OU, PC, ST, ES, SR, lO, lA, lB, lI, lb, im, cd, sa, la, lt, mk, ds, cs, ce, rg) (G, LC, N, CU, ST, LD, PO, ES, SR, lO, lA, lB, lI, lb, im, ce, rh) := fun k => sr_in hB h6 hL
  obtain ⟨hG, ⟨cap, hc, hmc, rfl⟩, rfl, hcu, hlb, hls⟩ := hB
  have hn : ¬ nI cap ≤ nI m → m < cap := fun z => by
    rcases Nat.lt_or_ge m cap with q | q
    · exact q
    · exact absurd (nI_le q (by omega)) z
  refine sx_line (fun z => by have := hn z; omega) (fun ok => sy_line (fun z => by have := hn z; omega) (fun _ => ⟨rfl, ?_⟩) (fun z => absurd ok z)) (fun nok => sy_line (fun z => by have := hn z; omega) (fun ok => absurd ok nok) (fun _ => ⟨rfl, K _⟩))
  obtain ⟨c1, c2, ⟨a0, a1⟩, ⟨b0, b1⟩, c5⟩ := ok
  have hm := hn c1
  refine sr_in (m := m + 1) ⟨hG, ⟨cap, hc, hm, rfl⟩, rfl, hcu, fun k hk => ?_, fun j hj => ?_⟩ h6 (Or.inl rfl)
  · rcases hlb k hk with z | ⟨l, h1, h2⟩
    · exact Or.inl z
    · exact Or.inr ⟨l, by omega, h2⟩
  · by_cases e : j = m
    · subst e
      rw [pk_us, pk_us, pk_us, pk_us]
      refine ⟨c2, sv_ofr (n := 6) (by omega) a0 a1, sv_ofr (n := 6) (by omega) b0 b1, fun hd => sv_ofr (n := 8) (by omega) (c5 hd).1 (c5 hd).2⟩
    · rw [pk_un e, pk_un e, pk_un e, pk_un e]
      exact hls j (by omega)
theorem i_vc_label {k : Nat} {u : SX} {v : SY} (I : i_Rel k u v) (hk : k + 5 ≤ 2562) (v1 : Int32) : wpX_label (fun r u' => wpY_label (fun r' v' => r' = r ∧ i_Rel (k + 5) u' v') v v1) u v1 := by
  refine sr_el (P := fun u v => wpX_label (fun r u' => wpY_label (fun r' v' => r' = r ∧ i_Rel (k + 5) u' v') v v1) u v1) I ?_
  intro G LC N CU LD JD OU PC ST ES SR lO lA lB lI lb im cd sa la lt mk ds cs ce rg PO rh m hB h6 hL
  have K : ∀ k, i_Rel k (G, LC, N, CU, LD, JD, OU, PC, ST, ES, SR, lO, lA, lB, lI, lb, im, cd, sa, la, lt, mk, ds, cs, ce, rg) (G, LC, N, CU, ST, LD, PO, ES, SR, lO, lA, lB, lI, lb, im, ce, rh) := fun k => sr_in hB h6 hL
  obtain ⟨hG, ⟨cap, hc, hmc, rfl⟩, rfl, hcu, hlb, hls⟩ := hB
  unfold wpX_label
  refine sx_wc (fun h0 h1 => br_f sv_10 ?_) (fun hh => br_t rfl ?_)
  · obtain ⟨j, hj, rfl⟩ := sv_ofr (n := 8) (by omega) h0 h1
    have v : vp_in (nI j) 8 := vp_in_nI hj (by omega)
    have q : (nI j).toNatClampNeg = j := nI_clamp (by omega)
    refine And.intro v (nm_r (e' := upd lb j (nI m)) (by rw [q]) (br_f h0 (br_t (nI_le (b := 7) (by omega) (by decide)) (And.intro v (nm_r (e' := upd lb j (nI m)) (by rw [q]) ⟨rfl, ?_⟩)))))
    refine sr_in (m := m) ⟨hG, ⟨cap, hc, hmc, rfl⟩, rfl, hcu, fun k hk => ?_, hls⟩ h6 (Or.inl rfl)
    by_cases e : k = j
    · rw [e, pk_us]; exact Or.inr ⟨m, Nat.le_refl _, rfl⟩
    · rw [pk_un e]; exact hlb k hk
  · refine br_c (fun _ => ⟨rfl, K _⟩) (fun h0 => br_f (fun z => ?_) ⟨rfl, K _⟩)
    rcases hh with hh | hh
    · exact h0 hh
    · exact absurd ((sv_87 v1).mp hh) (Int32.not_lt.mpr z)
theorem i_vc_put {k : Nat} {u : SX} {v : SY} (I : i_Rel k u v) (hk : k + 5 ≤ 2562) (v1 : Int32) (v2 : Int32) : wpX_put (fun r u' => wpY_put (fun r' v' => r' = r ∧ i_Rel (k + 5) u' v') v v1 v2) u v1 v2 := by
  refine sr_el (P := fun u v => wpX_put (fun r u' => wpY_put (fun r' v' => r' = r ∧ i_Rel (k + 5) u' v') v v1 v2) u v1 v2) I ?_
  intro G LC N CU LD JD OU PC ST ES SR lO lA lB lI lb im cd sa la lt mk ds cs ce rg PO rh m hB h6 hL
  have K : ∀ k, i_Rel k (G, LC, N, CU, LD, JD, OU, PC, ST, ES, SR, lO, lA, lB, lI, lb, im, cd, sa, la, lt, mk, ds, cs, ce, rg) (G, LC, N, CU, ST, LD, PO, ES, SR, lO, lA, lB, lI, lb, im, ce, rh) := fun k => sr_in hB h6 hL
  obtain ⟨hG, hcap, hN, hcu, hlb, hls⟩ := hB
  unfold wpX_put
  refine sx_wc (fun h0 h1 => br_f sv_10 ?_) (fun hh => br_t rfl ?_)
  · obtain ⟨j, hj, rfl⟩ := sv_ofr (n := 128) (by omega) h0 h1
    have v : vp_in (nI j) 128 := vp_in_nI hj (by omega)
    have q : (nI j).toNatClampNeg = j := nI_clamp (by omega)
    refine And.intro v (nm_e (nm_r (nI_1 j) (br_f h0 (br_t (nI_lt (b := 128) hj (by decide)) (And.intro v (nm_e (nm_r (nI_1 j) ⟨rfl, ?_⟩)))))))
    exact sr_in (m := m) ⟨hG, hcap, hN, ⟨j + 1, by omega, rfl⟩, hlb, hls⟩ h6 (Or.inl rfl)
  · refine br_c (fun _ => ⟨rfl, K _⟩) (fun h0 => br_f (fun z => ?_) ⟨rfl, K _⟩)
    rcases hh with hh | hh
    · exact h0 hh
    · exact absurd hh (Int32.not_le.mpr z)
theorem i_vc_emit {k : Nat} {u : SX} {v : SY} (I : i_Rel k u v) (hk : k + 5 ≤ 2562) (v1 : Int32) (v2 : Int32) (v3 : Int32) (v4 : Int32) : wpX_emit (fun r u' => wpY_emit (fun r' v' => r' = r ∧ i_Rel (k + 5) u' v') v v1 v2 v3 v4) u v1 v2 v3 v4 := by
  refine sr_el (P := fun u v => wpX_emit (fun r u' => wpY_emit (fun r' v' => r' = r ∧ i_Rel (k + 5) u' v') v v1 v2 v3 v4) u v1 v2 v3 v4) I ?_
  intro G LC N CU LD JD OU PC ST ES SR lO lA lB lI lb im cd sa la lt mk ds cs ce rg PO rh m hB h6 hL
  have K : ∀ k, i_Rel k (G, LC, N, CU, LD, JD, OU, PC, ST, ES, SR, lO, lA, lB, lI, lb, im, cd, sa, la, lt, mk, ds, cs, ce, rg) (G, LC, N, CU, ST, LD, PO, ES, SR, lO, lA, lB, lI, lb, im, ce, rh) := fun k => sr_in hB h6 hL
  obtain ⟨hG, hcap, hN, ⟨cu, hcu, rfl⟩, hlb, hls⟩ := hB
  have y0 : ¬ nI cu < 0 := nI_pos (by omega)
  by_cases hj : cu < 128
  · have v : vp_in (nI cu) 128 := vp_in_nI hj (by omega)
    have lt1 : nI cu < 128 := nI_lt (b := 128) hj (by decide)
    refine br_t lt1 (sx_pack (And.intro v (nm_e (nm_r (nI_1 cu) ?_))))
    unfold wpY_emit
    refine br_f y0 (br_t lt1 (And.intro v (nm_e (nm_r (nI_1 cu) (And.intro narrow_b1 ⟨rfl, ?_⟩)))))
    exact sr_in (m := m) ⟨hG, hcap, hN, ⟨cu + 1, by omega, rfl⟩, hlb, hls⟩ h6 (Or.inl rfl)
  · have lt1 : ¬ nI cu < 128 := nI_nlt (b := 128) (by omega) (by omega)
    refine br_f lt1 ?_
    unfold wpY_emit
    exact br_f y0 (br_f lt1 (And.intro narrow_b0 ⟨rfl, K _⟩))
theorem i_vc_clear {k : Nat} {u : SX} {v : SY} (I : i_Rel k u v) (hk : k + 5 ≤ 2562) : wpX_clear (fun u' => wpY_clear (fun v' => i_Rel (k + 5) u' v') v) u := by
  refine sr_el (P := fun u v => wpX_clear (fun u' => wpY_clear (fun v' => i_Rel (k + 5) u' v') v) u) I ?_
  intro G LC N CU LD JD OU PC ST ES SR lO lA lB lI lb im cd sa la lt mk ds cs ce rg PO rh m hB h6 hL
  obtain ⟨hG, ⟨cap, hc, hmc, rfl⟩, hN, hcu, hlb, hls⟩ := hB
  unfold wpX_clear
  refine sx_unset (sx_clear11 (sy_clear ?_))
  exact sr_in (m := 0) ⟨hG, ⟨cap, hc, by omega, rfl⟩, rfl, ⟨0, by omega, rfl⟩, sv_fl8 _ _, fun j hj => absurd hj (by omega)⟩ h6 (Or.inl rfl)
end
section
theorem i_vc_load {k : Nat} {u : SX} {v : SY} (I : i_Rel k u v) (hk : k + 5 ≤ 2562) (v1 : Int32) : wpX_load (fun r u' => wpY_load (fun r' v' => r' = r ∧ i_Rel (k + 5) u' v') v v1) u v1 := by
  refine sr_el (P := fun u v => wpX_load (fun r u' => wpY_load (fun r' v' => r' = r ∧ i_Rel (k + 5) u' v') v v1) u v1) I ?_
  intro G LC N CU LD JD OU PC ST ES SR lO lA lB lI lb im cd sa la lt mk ds cs ce rg PO rh m hB h6 hL
  have K : ∀ k, i_Rel k (G, LC, N, CU, LD, JD, OU, PC, ST, ES, SR, lO, lA, lB, lI, lb, im, cd, sa, la, lt, mk, ds, cs, ce, rg) (G, LC, N, CU, ST, LD, PO, ES, SR, lO, lA, lB, lI, lb, im, ce, rh) := fun k => sr_in hB h6 hL
  obtain ⟨hG, ⟨cap, hc, hmc, rfl⟩, rfl, hcu, hlb, hls⟩ := hB
  have hm : m ≤ 20 := by omega
  have hB2 : sv_Bs m G (nI cap) (nI m) CU lO lA lB lI lb := ⟨hG, ⟨cap, hc, hmc, rfl⟩, rfl, hcu, hlb, hls⟩
  by_cases e0 : v1 = 0
  · subst e0
    refine br_t rfl ?_
    refine br_t rfl (sx_layout hm (fun la' lt' hA => sx_rewrite hm hlb (fun j hj => (hls j hj).1) hA.1 (fun ou cd' hC => nm_r (e' := 32) (by rw [hA.1 0 (by omega), sv_ad_0]; rfl) ?_)))
    unfold wX_load_50
    refine sx_marks (c := cd') (fun q hq => rfl) (fun sa' hs => sx_verify (c := cd') (fun q hq => rfl) hs (fun mk' ds' cs' => ?_))
    rw [sv_accept hG hm hlb hls hC]
    refine sx_reset (br_t rfl (sy_load18 ⟨rfl, ?_⟩))
    rw [sv_e6l h6 G]
    exact sr_in hB2 (fun _ _ => rfl) (Or.inr (Or.inl ⟨rfl, rfl, hA, hC, fun _ => ⟨0, by omega, rfl, by rw [sv_ad_0]; rfl⟩⟩))
  · by_cases e1 : v1 = 1
    · subst e1
      refine br_f e0 (br_t rfl (br_f e0 (sx_copy ?_)))
      unfold wX_load_50
      have hc2 : ∀ q, q < 128 → sv_cp cd im 128 q = im q := fun q hq => if_pos hq
      refine sx_marks (c := im) hc2 (fun sa' hs => sx_verify (c := im) hc2 hs (fun mk' ds' cs' => sx_reset (br_f e0 (br_t rfl (sy_load18 ⟨rfl, ?_⟩)))))
      rw [sv_e6l h6 G]
      exact sr_in hB2 (fun _ _ => rfl) (Or.inr (Or.inr ⟨rfl, rfl, hc2, hs, rfl, fun _ => rfl⟩))
    · exact br_f e0 (br_f e1 (br_f e0 (br_f e1 ⟨rfl, K _⟩)))
theorem i_vc_verdict {k : Nat} {u : SX} {v : SY} (I : i_Rel k u v) (hk : k + 5 ≤ 2562) : wpX_verdict (fun r => wpY_verdict (fun r' => r' = r ∧ i_Rel (k + 5) u v) v) u := by
  refine sr_el (P := fun u v => wpX_verdict (fun r => wpY_verdict (fun r' => r' = r ∧ i_Rel (k + 5) u v) v) u) I ?_
  intro G LC N CU LD JD OU PC ST ES SR lO lA lB lI lb im cd sa la lt mk ds cs ce rg PO rh m hB h6 hL
  have K : ∀ k, i_Rel k (G, LC, N, CU, LD, JD, OU, PC, ST, ES, SR, lO, lA, lB, lI, lb, im, cd, sa, la, lt, mk, ds, cs, ce, rg) (G, LC, N, CU, ST, LD, PO, ES, SR, lO, lA, lB, lI, lb, im, ce, rh) := fun k => sr_in hB h6 hL
  by_cases s0 : ST = 0
  · exact br_t s0 (br_t s0 ⟨rfl, K _⟩)
  · refine br_f s0 ?_
    rcases hL with z | ⟨l0, j0, _⟩ | ⟨l1, j1, _⟩
    · exact absurd z s0
    · exact br_f s0 (br_t l0 ⟨j0.symm, K _⟩)
    · exact sy_verdict s0 (by rw [l1]; decide) ⟨j1.symm, K _⟩
theorem i_vc_setReg {k : Nat} {u : SX} {v : SY} (I : i_Rel k u v) (hk : k + 5 ≤ 2562) (v1 : Int32) (v2 : Int32) : wpX_setReg (fun r u' => wpY_setReg (fun r' v' => r' = r ∧ i_Rel (k + 5) u' v') v v1 v2) u v1 v2 := by
  refine sr_el (P := fun u v => wpX_setReg (fun r u' => wpY_setReg (fun r' v' => r' = r ∧ i_Rel (k + 5) u' v') v v1 v2) u v1 v2) I ?_
  intro G LC N CU LD JD OU PC ST ES SR lO lA lB lI lb im cd sa la lt mk ds cs ce rg PO rh m hB h6 hL
  have K : ∀ k, i_Rel k (G, LC, N, CU, LD, JD, OU, PC, ST, ES, SR, lO, lA, lB, lI, lb, im, cd, sa, la, lt, mk, ds, cs, ce, rg) (G, LC, N, CU, ST, LD, PO, ES, SR, lO, lA, lB, lI, lb, im, ce, rh) := fun k => sr_in hB h6 hL
  by_cases s1 : ST = 1
  · have hR : ∀ (j : Nat) (x : Int32), ¬ (LD = 0 ∧ j = 6) → i_Rel (k + 5) (G, LC, N, CU, LD, JD, OU, PC, ST, ES, SR, lO, lA, lB, lI, lb, im, cd, sa, la, lt, mk, ds, cs, ce, upd rg j x) (G, LC, N, CU, ST, LD, PO, ES, SR, lO, lA, lB, lI, lb, im, ce, upd rh j x) := by
      intro j x hj
      refine sr_in hB (sv_e6u h6) ?_
      rcases hL with z | z | ⟨z1, z2, z3, z4, z5, z6⟩
      · exact Or.inl z
      · exact Or.inr (Or.inl z)
      · exact Or.inr (Or.inr ⟨z1, z2, z3, z4, by rw [z5], z6⟩)
    refine br_t s1 (sx_wc (fun h0 h1 => br_f sv_10 ?_) (fun hh => br_t rfl (br_t s1 ?_)))
    · obtain ⟨j, hj, rfl⟩ := sv_ofr (n := 8) (by omega) h0 h1
      have v : vp_in (nI j) 8 := vp_in_nI hj (by omega)
      have q : (nI j).toNatClampNeg = j := nI_clamp (by omega)
      have n7 : ¬ 7 < nI j := nI_nlt (a := 7) (by omega) (by omega)
      have good : ¬ (LD = 0 ∧ j = 6) → wY_setReg_33 (fun r' v' => r' = 1 ∧ i_Rel (k + 5) (G, LC, N, CU, LD, JD, OU, PC, ST, ES, SR, lO, lA, lB, lI, lb, im, cd, sa, la, lt, mk, ds, cs, ce, upd rg j (if j = 7 then G + (v2 &&& (G - 1)) else v2)) v') (nI j) v2 G LC N CU ST LD PO ES SR lO lA lB lI lb im ce rh := by
        intro hn
        by_cases e7 : j = 7
        · subst e7
          exact br_t rfl (And.intro v (nm_r (e' := upd rh 7 (G + (v2 &&& (G - 1)))) (by rw [q]) ⟨rfl, hR 7 _ hn⟩))
        · have ne7 : ¬ nI j = 7 := fun z => e7 ((nI_eq (b := 7) (by omega) (by omega)).mp z)
          rw [if_neg e7]
          exact br_f ne7 (And.intro v (nm_r (e' := upd rh j v2) (by rw [q]) ⟨rfl, hR j _ hn⟩))
      have goX : ¬ (LD = 0 ∧ j = 6) → wpY_setReg (fun r' v' => r' = 1 ∧ i_Rel (k + 5) (G, LC, N, CU, LD, JD, OU, PC, ST, ES, SR, lO, lA, lB, lI, lb, im, cd, sa, la, lt, mk, ds, cs, ce, upd rg j (if j = 7 then G + (v2 &&& (G - 1)) else v2)) v') (G, LC, N, CU, ST, LD, PO, ES, SR, lO, lA, lB, lI, lb, im, ce, rh) (nI j) v2 := by
        intro hn
        refine br_t s1 (br_f h0 (br_f n7 ?_))
        by_cases l0 : LD = 0
        · exact br_t l0 (br_f (fun z => hn ⟨l0, (nI_eq (b := 6) (by omega) (by omega)).mp z⟩) (good hn))
        · exact br_f l0 (good hn)
      have X1 : ¬ (LD = 0 ∧ j = 6) → ((nI j = 7 → (vp_in (nI j) 8 ∧ ∀ a_r_62 : Nat → Int32, a_r_62 = upd rg (nI j).toNatClampNeg (G + (v2 &&& (G - 1))) → wpY_setReg (fun r' v' => r' = 1 ∧ i_Rel (k + 5) (G, LC, N, CU, LD, JD, OU, PC, ST, ES, SR, lO, lA, lB, lI, lb, im, cd, sa, la, lt, mk, ds, cs, ce, a_r_62) v') (G, LC, N, CU, ST, LD, PO, ES, SR, lO, lA, lB, lI, lb, im, ce, rh) (nI j) v2)) ∧ (¬ nI j = 7 → (vp_in (nI j) 8 ∧ ∀ a_r_60 : Nat → Int32, a_r_60 = upd rg (nI j).toNatClampNeg v2 → wpY_setReg (fun r' v' => r' = 1 ∧ i_Rel (k + 5) (G, LC, N, CU, LD, JD, OU, PC, ST, ES, SR, lO, lA, lB, lI, lb, im, cd, sa, la, lt, mk, ds, cs, ce, a_r_60) v') (G, LC, N, CU, ST, LD, PO, ES, SR, lO, lA, lB, lI, lb, im, ce, rh) (nI j) v2))) := by
        intro hn
        have g := goX hn
        by_cases e7 : j = 7
        · subst e7
          rw [if_pos rfl] at g
          exact br_t rfl (And.intro v (nm_r (e' := upd rg 7 (G + (v2 &&& (G - 1)))) (by rw [q]) g))
        · have ne7 : ¬ nI j = 7 := fun z => e7 ((nI_eq (b := 7) (by omega) (by omega)).mp z)
          rw [if_neg e7] at g
          exact br_f ne7 (And.intro v (nm_r (e' := upd rg j v2) (by rw [q]) g))
      by_cases l0 : LD = 0
      · by_cases e6 : j = 6
        · subst e6
          exact br_t l0 (br_t rfl (br_f sv_10 (br_t s1 (br_f h0 (br_f n7 (br_t l0 (br_t rfl ⟨rfl, K _⟩)))))))
        · exact br_t l0 (br_f (fun z => e6 ((nI_eq (b := 6) (by omega) (by omega)).mp z)) (br_t rfl (X1 fun z => e6 z.2)))
      · exact br_f l0 (br_t rfl (X1 fun z => l0 z.1))
    · refine br_c (fun _ => ⟨rfl, K _⟩) (fun h0 => br_t ?_ ⟨rfl, K _⟩)
      rcases hh with hh | hh
      · exact absurd hh h0
      · exact (sv_87 v1).mp hh
  · exact br_f s1 (br_f s1 ⟨rfl, K _⟩)
end
section
section RU
variable {G LC N CU LD JD OU PC ST ES SR : Int32} {lO lA lB lI lb im cd sa la lt mk ds cs ce rg : Nat → Int32} {PO : Int32} {rh : Nat → Int32}
theorem sy_run32 {post : Int32 → SY → Prop} {x : Int32} (h : ∃ n, wY_run_58 post (sv_cl x 0 400) n 0 G LC N CU ST LD PO ES SR lO lA lB lI lb im ce rh) : wY_run_32 post x G LC N CU ST LD PO ES SR lO lA lB lI lb im ce rh := by
  unfold sv_cl at h
  refine br_c (fun e1 => br_c (fun e2 => ?_) (fun e2 => ?_)) (fun e1 => ?_)
  · rwa [if_pos e1, if_pos e2] at h
  · rwa [if_pos e1, if_neg e2] at h
  · rwa [if_neg e1] at h
theorem sr_go {m k : Nat} {v1 : Int32} (hB : sv_Bs m G LC N CU lO lA lB lI lb) (h6 : sv_e6 rh rg) (hL : sv_Sr m G LD JD PC ST PO lO lA lB lI lb cd la lt ∨ sv_Na G LD JD PC ST PO im cd sa rg rh) (hS : ST = 1 ∨ ST = 2) :
    ∃ (r : Int32) (u' : SX) (v' : SY), i_Rel k u' v' ∧ (∀ post : Int32 → SX → Prop, post r u' → wX_run_32 post v1 G LC N CU LD JD OU PC ST ES SR lO lA lB lI lb im cd sa la lt mk ds cs ce rg) ∧ (∀ post : Int32 → SY → Prop, post r v' → wY_run_32 post v1 G LC N CU ST LD PO ES SR lO lA lB lI lb im ce rh) := by
  have hB0 := hB
  obtain ⟨hG, ⟨cap, hc, hmc, rfl⟩, rfl, hcu, hlb, hls⟩ := hB
  obtain ⟨lim, l1, l2, el⟩ := sv_clE (x := v1) (lo := 0) (hi := 400) (a := 0) (b := 400) rfl rfl (by omega) (by omega)
  rcases hL with ⟨rfl, rfl, hA, hC, hP⟩ | ⟨rfl, rfl, hc, hs, rfl, hP⟩
  · obtain ⟨i, hi, rfl, rfl⟩ := hP hS
    obtain ⟨st, pc, po, ce', rg', rh', h1, h2, h3, h4⟩ := sl_loop (G := G) (CU := CU) (OU := OU) (ES := ES) (SR := SR) (lO := lO) (lA := lA) (lB := lB) (lI := lI) (lb := lb) (im := im) (cd := cd) (sa := sa) (la := la) (lt := lt) (mk := mk) (ds := ds) (cs := cs) (LC := nI cap) (LD := 0) (JD := -1) (m := m) l2 hG rfl (by omega) hlb hls hA hC lim 0 (lim + 1) (by omega) (by omega) i ST ce rg rh hi hS h6
    refine ⟨st, (G, nI cap, nI m, CU, 0, -1, OU, pc, st, ES, SR, lO, lA, lB, lI, lb, im, cd, sa, la, lt, mk, ds, cs, ce', rg'), (G, nI cap, nI m, CU, st, 0, po, ES, SR, lO, lA, lB, lI, lb, im, ce', rh'), ?_, fun post h => ?_, fun post h => sy_run32 ?_⟩
    rotate_left
    · unfold wX_run_32
      refine sx_clamp (br_t rfl ?_)
      rw [el]
      exact Exists.intro (lim + 1) (h3 _ h)
    · rw [el]
      exact Exists.intro (lim + 1) (h4 _ h)
    · refine sr_in hB0 h2 (Or.inr (Or.inl ⟨rfl, rfl, hA, hC, fun z => ?_⟩))
      rcases h1 with ⟨_, h1⟩ | rfl
      · exact h1
      · exact absurd z (by decide)
  · obtain rfl := hP hS
    obtain ⟨st, pc, po, es, sr, ce', rg', h1, h3, h4⟩ := sn_loop (G := G) (CU := CU) (OU := OU) (lO := lO) (lA := lA) (lB := lB) (lI := lI) (lb := lb) (im := im) (cd := cd) (sa := sa) (la := la) (lt := lt) (mk := mk) (ds := ds) (cs := cs) (LC := nI cap) (N := nI m) (LD := 1) (JD := sv_vd im G 128) l2 hG rfl hc hs lim 0 (lim + 1) (by omega) (by omega) PO ST ES SR ce rh hS
    refine ⟨st, (G, nI cap, nI m, CU, 1, sv_vd im G 128, OU, pc, st, es, sr, lO, lA, lB, lI, lb, im, cd, sa, la, lt, mk, ds, cs, ce', rg'), (G, nI cap, nI m, CU, st, 1, po, es, sr, lO, lA, lB, lI, lb, im, ce', rg'), ?_, fun post h => ?_, fun post h => sy_run32 ?_⟩
    rotate_left
    · unfold wX_run_32
      refine sx_clamp (br_f (by decide) ?_)
      rw [el]
      exact Exists.intro (lim + 1) (h3 _ h)
    · rw [el]
      exact Exists.intro (lim + 1) (h4 _ h)
    · refine sr_in hB0 (fun _ _ => rfl) (Or.inr (Or.inr ⟨rfl, rfl, hc, hs, rfl, fun z => ?_⟩))
      rcases h1 with ⟨_, h1⟩ | rfl | rfl
      · exact h1.symm
      · exact absurd z (by decide)
      · exact absurd z (by decide)
end RU
theorem i_vc_run {k : Nat} {u : SX} {v : SY} (I : i_Rel k u v) (hk : k + 5 ≤ 2562) (v1 : Int32) (v2 : Int32) : wpX_run (fun r u' => wpY_run (fun r' v' => r' = r ∧ i_Rel (k + 5) u' v') v v1 (lw_bz v2)) u v1 (lw_bz v2) := by
  refine sr_el (P := fun u v => wpX_run (fun r u' => wpY_run (fun r' v' => r' = r ∧ i_Rel (k + 5) u' v') v v1 (lw_bz v2)) u v1 (lw_bz v2)) I ?_
  intro G LC N CU LD JD OU PC ST ES SR lO lA lB lI lb im cd sa la lt mk ds cs ce rg PO rh m hB h6 hL
  have K : ∀ k, i_Rel k (G, LC, N, CU, LD, JD, OU, PC, ST, ES, SR, lO, lA, lB, lI, lb, im, cd, sa, la, lt, mk, ds, cs, ce, rg) (G, LC, N, CU, ST, LD, PO, ES, SR, lO, lA, lB, lI, lb, im, ce, rh) := fun k => sr_in hB h6 hL
  have go : (ST = 1 ∨ ST = 2) → wX_run_18 (fun r u' => wpY_run (fun r' v' => r' = r ∧ i_Rel (k + 5) u' v') (G, LC, N, CU, ST, LD, PO, ES, SR, lO, lA, lB, lI, lb, im, ce, rh) v1 (lw_bz v2)) v1 (lw_bz v2) G LC N CU LD JD OU PC ST ES SR lO lA lB lI lb im cd sa la lt mk ds cs ce rg := by
    intro hS
    have s0 : ¬ ST = 0 := by rcases hS with rfl | rfl <;> decide
    have hL2 := hL.resolve_left s0
    obtain ⟨r, u', v', hR, hX, hY⟩ := sr_go (k := k + 5) (v1 := v1) hB h6 hL2 hS
    have toY : ∀ (post : Int32 → SY → Prop), wY_run_18 post v1 (lw_bz v2) G LC N CU ST LD PO ES SR lO lA lB lI lb im ce rh → wpY_run post (G, LC, N, CU, ST, LD, PO, ES, SR, lO, lA, lB, lI, lb, im, ce, rh) v1 (lw_bz v2) := by
      intro post h
      by_cases s1 : ST = 1
      · exact br_t s1 h
      · exact br_f s1 (br_t (hS.resolve_left s1) h)
    have vY : ∀ (post : Int32 → Prop), post JD → wpY_verdict post (G, LC, N, CU, ST, LD, PO, ES, SR, lO, lA, lB, lI, lb, im, ce, rh) := by
      intro post h
      rcases hL2 with ⟨l0, j0, _⟩ | ⟨l1, j1, _⟩
      · exact br_f s0 (br_t l0 (j0 ▸ h))
      · exact sy_verdict s0 (by rw [l1]; decide) (j1 ▸ h)
    by_cases f0 : lw_bz v2 = 0
    · refine br_t f0 ?_
      by_cases j : JD = -1
      · exact br_t j (hX _ (toY _ (br_t f0 (vY _ (br_t j (hY _ ⟨rfl, hR⟩))))))
      · exact br_f j (toY _ (br_t f0 (vY _ (br_f j ⟨rfl, K _⟩))))
    · exact br_f f0 (hX _ (toY _ (br_f f0 (hY _ ⟨rfl, hR⟩))))
  by_cases s1 : ST = 1
  · exact br_t s1 (go (Or.inl s1))
  · by_cases s2 : ST = 2
    · exact br_f s1 (br_t s2 (go (Or.inr s2)))
    · exact br_f s1 (br_f s2 (br_f s1 (br_f s2 ⟨rfl, K _⟩)))
end
section
theorem sv_nor2 {a b : Prop} (h0 : ¬ a) (h1 : b) : ¬ (a ∨ ¬ b) := fun z => z.elim h0 (fun y => y h1)
theorem sv_nor3 {x y : Int32} (h0 : ¬ x < 0) (h1 : x < y) : ¬ (x < 0 ∨ y ≤ x) := fun z => z.elim h0 (fun w => absurd w (Int32.not_le.mpr h1))
theorem sv_is4 {x : Int32} (h1 : ¬ x < 1) (h2 : ¬ 4 < x) (n1 : ¬ x = 1) (n2 : ¬ x = 2) (n3 : ¬ x = 3) : x = 4 := by
  have e1 : (1 : Int32).toInt = 1 := by decide
  have e2 : (2 : Int32).toInt = 2 := by decide
  have e3 : (3 : Int32).toInt = 3 := by decide
  have e4 : (4 : Int32).toInt = 4 := by decide
  rw [Int32.lt_iff_toInt_lt] at h1 h2
  rw [← Int32.toInt_inj] at n1 n2 n3 ⊢
  omega
theorem i_vc_reg {k : Nat} {u : SX} {v : SY} (I : i_Rel k u v) (hk : k + 5 ≤ 2562) (v1 : Int32) : wpX_reg (fun r => wpY_reg (fun r' => r' = r ∧ i_Rel (k + 5) u v) v v1) u v1 := by
  refine sr_el (P := fun u v => wpX_reg (fun r => wpY_reg (fun r' => r' = r ∧ i_Rel (k + 5) u v) v v1) u v1) I ?_
  intro G LC N CU LD JD OU PC ST ES SR lO lA lB lI lb im cd sa la lt mk ds cs ce rg PO rh m hB h6 hL
  have K : ∀ k, i_Rel k (G, LC, N, CU, LD, JD, OU, PC, ST, ES, SR, lO, lA, lB, lI, lb, im, cd, sa, la, lt, mk, ds, cs, ce, rg) (G, LC, N, CU, ST, LD, PO, ES, SR, lO, lA, lB, lI, lb, im, ce, rh) := fun k => sr_in hB h6 hL
  by_cases s0 : ST = 0
  · exact br_t s0 (br_t s0 ⟨rfl, K _⟩)
  refine br_f s0 (sx_wc (fun h0 h1 => br_f sv_10 ?_) (fun hh => br_t rfl (br_f s0 ?_)))
  · obtain ⟨j, hj, rfl⟩ := sv_ofr (n := 8) (by omega) h0 h1
    have v : vp_in (nI j) 8 := vp_in_nI hj (by omega)
    have q : (nI j).toNatClampNeg = j := nI_clamp (by omega)
    have n7 : ¬ 7 < nI j := nI_nlt (a := 7) (by omega) (by omega)
    by_cases l0 : LD = 0
    · by_cases e6 : nI j = 6
      · exact br_t l0 (br_t e6 (br_f sv_10 (br_f s0 (br_f h0 (br_f n7 (br_t l0 (br_t e6 ⟨rfl, K _⟩)))))))
      · have e : rh j = rg j := h6 j (fun z => e6 (by rw [z]; rfl))
        exact br_t l0 (br_f e6 (br_t rfl (And.intro v (br_f s0 (br_f h0 (br_f n7 (br_t l0 (br_f e6 (And.intro v ⟨by rw [q]; exact e, K _⟩)))))))))
    · have e : rh = rg := by
        rcases hL with z | ⟨z, _⟩ | ⟨_, _, _, _, z, _⟩
        · exact absurd z s0
        · exact absurd z l0
        · exact z
      exact br_f l0 (br_t rfl (And.intro v (br_f s0 (br_f h0 (br_f n7 (br_f l0 (And.intro v ⟨by rw [e], K _⟩)))))))
  · refine br_c (fun _ => ⟨rfl, K _⟩) (fun h0 => br_t ?_ ⟨rfl, K _⟩)
    rcases hh with hh | hh
    · exact absurd hh h0
    · exact (sv_87 v1).mp hh
theorem i_vc_mem {k : Nat} {u : SX} {v : SY} (I : i_Rel k u v) (hk : k + 5 ≤ 2562) (v1 : Int32) : wpX_mem (fun r => wpY_mem (fun r' => r' = r ∧ i_Rel (k + 5) u v) v v1) u v1 := by
  refine sr_el (P := fun u v => wpX_mem (fun r => wpY_mem (fun r' => r' = r ∧ i_Rel (k + 5) u v) v v1) u v1) I ?_
  intro G LC N CU LD JD OU PC ST ES SR lO lA lB lI lb im cd sa la lt mk ds cs ce rg PO rh m hB h6 hL
  have K : ∀ k, i_Rel k (G, LC, N, CU, LD, JD, OU, PC, ST, ES, SR, lO, lA, lB, lI, lb, im, cd, sa, la, lt, mk, ds, cs, ce, rg) (G, LC, N, CU, ST, LD, PO, ES, SR, lO, lA, lB, lI, lb, im, ce, rh) := fun k => sr_in hB h6 hL
  exact sx_mem hB.1 (sy_mem hB.1 ⟨rfl, K _⟩)
theorem i_vc_poke {k : Nat} {u : SX} {v : SY} (I : i_Rel k u v) (hk : k + 5 ≤ 2562) (v1 : Int32) (v2 : Int32) : wpX_poke (fun r u' => wpY_poke (fun r' v' => r' = r ∧ i_Rel (k + 5) u' v') v v1 v2) u v1 v2 := by
  refine sr_el (P := fun u v => wpX_poke (fun r u' => wpY_poke (fun r' v' => r' = r ∧ i_Rel (k + 5) u' v') v v1 v2) u v1 v2) I ?_
  intro G LC N CU LD JD OU PC ST ES SR lO lA lB lI lb im cd sa la lt mk ds cs ce rg PO rh m hB h6 hL
  have K : ∀ k, i_Rel k (G, LC, N, CU, LD, JD, OU, PC, ST, ES, SR, lO, lA, lB, lI, lb, im, cd, sa, la, lt, mk, ds, cs, ce, rg) (G, LC, N, CU, ST, LD, PO, ES, SR, lO, lA, lB, lI, lb, im, ce, rh) := fun k => sr_in hB h6 hL
  unfold wpX_poke
  refine sx_wc (fun h0 h1 => br_f sv_10 (And.intro (sv_in64 hB.1 h0 (Int32.not_le.mp h1)) (nm_e (sy_poke hB.1 (fun _ _ => ⟨rfl, sr_in hB h6 hL⟩) (fun z => absurd z (sv_nor2 h0 (Int32.not_le.mp h1))))))) (fun hh => br_t rfl (sy_poke hB.1 (fun z1 z2 => absurd hh (sv_nor3 z1 z2)) (fun _ => ⟨rfl, K _⟩)))
theorem i_vc_state {k : Nat} {u : SX} {v : SY} (I : i_Rel k u v) (hk : k + 5 ≤ 2562) : wpX_state (fun r => wpY_state (fun r' => r' = r ∧ i_Rel (k + 5) u v) v) u := by
  refine sr_el (P := fun u v => wpX_state (fun r => wpY_state (fun r' => r' = r ∧ i_Rel (k + 5) u v) v) u) I ?_
  intro G LC N CU LD JD OU PC ST ES SR lO lA lB lI lb im cd sa la lt mk ds cs ce rg PO rh m hB h6 hL
  have K : ∀ k, i_Rel k (G, LC, N, CU, LD, JD, OU, PC, ST, ES, SR, lO, lA, lB, lI, lb, im, cd, sa, la, lt, mk, ds, cs, ce, rg) (G, LC, N, CU, ST, LD, PO, ES, SR, lO, lA, lB, lI, lb, im, ce, rh) := fun k => sr_in hB h6 hL
  exact ⟨rfl, K _⟩
theorem i_vc_at {k : Nat} {u : SX} {v : SY} (I : i_Rel k u v) (hk : k + 5 ≤ 2562) : wpX_at (fun r => wpY_at (fun r' => r' = r ∧ i_Rel (k + 5) u v) v) u := by
  refine sr_el (P := fun u v => wpX_at (fun r => wpY_at (fun r' => r' = r ∧ i_Rel (k + 5) u v) v) u) I ?_
  intro G LC N CU LD JD OU PC ST ES SR lO lA lB lI lb im cd sa la lt mk ds cs ce rg PO rh m hB h6 hL
  have K : ∀ k, i_Rel k (G, LC, N, CU, LD, JD, OU, PC, ST, ES, SR, lO, lA, lB, lI, lb, im, cd, sa, la, lt, mk, ds, cs, ce, rg) (G, LC, N, CU, ST, LD, PO, ES, SR, lO, lA, lB, lI, lb, im, ce, rh) := fun k => sr_in hB h6 hL
  have go : (ST = 1 ∨ ST = 2) → wX_at_18 (fun r => wpY_at (fun r' => r' = r ∧ i_Rel (k + 5) (G, LC, N, CU, LD, JD, OU, PC, ST, ES, SR, lO, lA, lB, lI, lb, im, cd, sa, la, lt, mk, ds, cs, ce, rg) (G, LC, N, CU, ST, LD, PO, ES, SR, lO, lA, lB, lI, lb, im, ce, rh)) (G, LC, N, CU, ST, LD, PO, ES, SR, lO, lA, lB, lI, lb, im, ce, rh)) G LC N CU LD JD OU PC ST ES SR lO lA lB lI lb im cd sa la lt mk ds cs ce rg := by
    intro hS
    have s0 : ¬ ST = 0 := by rcases hS with rfl | rfl <;> decide
    have toY : ∀ r : Int32, PO = r → wpY_at (fun r' => r' = r ∧ i_Rel (k + 5) (G, LC, N, CU, LD, JD, OU, PC, ST, ES, SR, lO, lA, lB, lI, lb, im, cd, sa, la, lt, mk, ds, cs, ce, rg) (G, LC, N, CU, ST, LD, PO, ES, SR, lO, lA, lB, lI, lb, im, ce, rh)) (G, LC, N, CU, ST, LD, PO, ES, SR, lO, lA, lB, lI, lb, im, ce, rh) := by
      intro r hr
      by_cases s1 : ST = 1
      · exact br_t s1 ⟨hr, K _⟩
      · exact br_f s1 (br_t (hS.resolve_left s1) ⟨hr, K _⟩)
    rcases hL with z | ⟨l0, j0, hA, hC, hP⟩ | ⟨l1, j1, _, _, _, hP⟩
    · exact absurd z s0
    · obtain ⟨i, hi, rfl, rfl⟩ := hP hS
      obtain ⟨cap, hc, hmc, _⟩ := hB.2.1
      have u := sv_ad_up (lO := lO) (lb := lb) (n := m) (i := i) (by omega) hi
      exact br_t l0 (sx_here (by omega) (toY _ (hA.2.1 i hi).symm))
    · exact br_f (by rw [l1]; decide) (toY _ (hP hS))
  by_cases s1 : ST = 1
  · exact br_t s1 (go (Or.inl s1))
  · by_cases s2 : ST = 2
    · exact br_f s1 (br_t s2 (go (Or.inr s2)))
    · exact br_f s1 (br_f s2 (br_f s1 (br_f s2 ⟨rfl, K _⟩)))
theorem i_vc_breaches {k : Nat} {u : SX} {v : SY} (I : i_Rel k u v) (hk : k + 5 ≤ 2562) (v1 : Int32) : wpX_breaches (fun r => wpY_breaches (fun r' => r' = r ∧ i_Rel (k + 5) u v) v v1) u v1 := by
  refine sr_el (P := fun u v => wpX_breaches (fun r => wpY_breaches (fun r' => r' = r ∧ i_Rel (k + 5) u v) v v1) u v1) I ?_
  intro G LC N CU LD JD OU PC ST ES SR lO lA lB lI lb im cd sa la lt mk ds cs ce rg PO rh m hB h6 hL
  have K : ∀ k, i_Rel k (G, LC, N, CU, LD, JD, OU, PC, ST, ES, SR, lO, lA, lB, lI, lb, im, cd, sa, la, lt, mk, ds, cs, ce, rg) (G, LC, N, CU, ST, LD, PO, ES, SR, lO, lA, lB, lI, lb, im, ce, rh) := fun k => sr_in hB h6 hL
  by_cases s0 : ST = 0
  · exact br_t s0 (br_t s0 ⟨rfl, K _⟩)
  by_cases l0 : LD = 0
  · exact br_f s0 (br_t l0 (br_f s0 (br_t l0 ⟨rfl, K _⟩)))
  by_cases e0 : v1 = 0
  · exact br_f s0 (br_f l0 (br_t e0 (br_f s0 (br_f l0 (br_t e0 ⟨rfl, K _⟩)))))
  by_cases e1 : v1 = 1
  · exact br_f s0 (br_f l0 (br_f e0 (br_t e1 (br_f s0 (br_f l0 (br_f e0 (br_t e1 ⟨rfl, K _⟩)))))))
  · exact br_f s0 (br_f l0 (br_f e0 (br_f e1 (br_f s0 (br_f l0 (br_f e0 (br_f e1 ⟨rfl, K _⟩)))))))
end
section
theorem i_vc_view {k : Nat} {u : SX} {v : SY} (I : i_Rel k u v) (hk : k + 5 ≤ 2562) (v1 : Int32) (v2 : Int32) : wpX_view (fun r => wpY_view (fun r' => r' = r ∧ i_Rel (k + 5) u v) v v1 v2) u v1 v2 := by
  refine sr_el (P := fun u v => wpX_view (fun r => wpY_view (fun r' => r' = r ∧ i_Rel (k + 5) u v) v v1 v2) u v1 v2) I ?_
  intro G LC N CU LD JD OU PC ST ES SR lO lA lB lI lb im cd sa la lt mk ds cs ce rg PO rh m hB h6 hL
  have K : ∀ k, i_Rel k (G, LC, N, CU, LD, JD, OU, PC, ST, ES, SR, lO, lA, lB, lI, lb, im, cd, sa, la, lt, mk, ds, cs, ce, rg) (G, LC, N, CU, ST, LD, PO, ES, SR, lO, lA, lB, lI, lb, im, ce, rh) := fun k => sr_in hB h6 hL
  obtain ⟨hG, ⟨cap, hc, hmc, rfl⟩, rfl, hcu, hlb, hls⟩ := hB
  -- the reference, beyond the single answers
  have y88 : ∀ r : Int32, (v1 < 1 ∨ 4 < v1 ∨ v2 < 0 ∨ ¬ v2 < nI m → r = 0) → (∀ j, j < m → v2 = nI j → (v1 = 1 → r = lO j) ∧ (v1 = 2 → r = lA j) ∧ (v1 = 3 → r = lB j) ∧ (v1 = 4 → r = lI j)) → wY_view_88 (fun r' => r' = r ∧ i_Rel (k + 5) (G, nI cap, nI m, CU, LD, JD, OU, PC, ST, ES, SR, lO, lA, lB, lI, lb, im, cd, sa, la, lt, mk, ds, cs, ce, rg) (G, nI cap, nI m, CU, ST, LD, PO, ES, SR, lO, lA, lB, lI, lb, im, ce, rh)) v1 v2 G (nI cap) (nI m) CU ST LD PO ES SR lO lA lB lI lb im ce rh := by
    intro r h0 h1
    refine br_c (fun e => ⟨(h0 (Or.inl e)).symm, K _⟩) (fun e1 => br_c (fun e => ⟨(h0 (Or.inr (Or.inl e))).symm, K _⟩) (fun e2 => br_c (fun e => ⟨(h0 (Or.inr (Or.inr (Or.inl e)))).symm, K _⟩) (fun e3 => br_c (fun e4 => ?_) (fun e => ⟨(h0 (Or.inr (Or.inr (Or.inr e)))).symm, K _⟩))))
    obtain ⟨j, hj, rfl⟩ := sv_ofr (n := m) (by omega) e3 (Int32.not_le.mpr e4)
    obtain ⟨g1, g2, g3, g4⟩ := h1 j hj rfl
    have v : vp_in (nI j) 20 := vp_in_nI (by omega) (by omega)
    have q : (nI j).toNatClampNeg = j := nI_clamp (by omega)
    rw [q]
    refine br_c (fun z => And.intro v ⟨(g1 z).symm, K _⟩) (fun z1 => br_c (fun z => And.intro v ⟨(g2 z).symm, K _⟩) (fun z2 => br_c (fun z => And.intro v ⟨(g3 z).symm, K _⟩) (fun z3 => And.intro v ⟨(g4 ?_).symm, K _⟩)))
    exact sv_is4 e1 e2 z1 z2 z3
  have x119 : ∀ Q : Int32 → Prop, (∀ r : Int32, (v1 < 1 ∨ 4 < v1 ∨ v2 < 0 ∨ ¬ v2 < nI m → r = 0) → (∀ j, j < m → v2 = nI j → (v1 = 1 → r = lO j) ∧ (v1 = 2 → r = lA j) ∧ (v1 = 3 → r = lB j) ∧ (v1 = 4 → r = lI j)) → Q r) → wX_view_119 Q v1 v2 G (nI cap) (nI m) CU LD JD OU PC ST ES SR lO lA lB lI lb im cd sa la lt mk ds cs ce rg := by
    intro Q hQ
    unfold wX_view_119
    refine sx_wc (fun h0 h1 => br_f sv_10 ?_) (fun hh => br_t rfl (hQ 0 (fun _ => rfl) ?_))
    · obtain ⟨j, hj, rfl⟩ := sv_ofr (n := m) (by omega) h0 h1
      have v : vp_in (nI j) 20 := vp_in_nI (by omega) (by omega)
      have q : (nI j).toNatClampNeg = j := nI_clamp (by omega)
      have inj : ∀ j', j' < m → nI j = nI j' → j' = j := fun j' h e => ((nI_eq (by omega) (by omega)).mp e).symm
      have out0 : (v1 < 1 ∨ 4 < v1) → Q 0 := fun z => hQ 0 (fun _ => rfl) (fun j' h e => by
        obtain rfl := inj j' h e
        refine ⟨fun y => ?_, fun y => ?_, fun y => ?_, fun y => ?_⟩ <;> (subst y; exact absurd z (by decide)))
      refine br_c (fun e => out0 (Or.inl e)) (fun e1 => br_c (fun e => out0 (Or.inr e)) (fun e2 => ?_))
      have no : ¬ (v1 < 1 ∨ 4 < v1 ∨ nI j < 0 ∨ ¬ nI j < nI m) := fun z => by
        rcases z with z | z | z | z
        · exact e1 z
        · exact e2 z
        · exact h0 z
        · exact z (nI_lt hj (by omega))
      rw [q]
      refine br_c (fun z => And.intro v (hQ _ (fun y => absurd y no) (fun j' h e => ?_))) (fun z1 => br_c (fun z => And.intro v (hQ _ (fun y => absurd y no) (fun j' h e => ?_))) (fun z2 => br_c (fun z => And.intro v (hQ _ (fun y => absurd y no) (fun j' h e => ?_))) (fun z3 => br_c (fun z => And.intro v (hQ _ (fun y => absurd y no) (fun j' h e => ?_))) (fun z4 => trivial))))
      all_goals
        obtain rfl := inj j' h e
        subst z
        refine ⟨fun y => ?_, fun y => ?_, fun y => ?_, fun y => ?_⟩ <;> first | rfl | exact absurd y (by decide)
    · intro j hj e
      subst e
      exact absurd hh (sv_nor3 (nI_pos (by omega)) (nI_lt hj (by omega)))
  have w19 : ¬ v1 = 0 → ¬ v1 = 5 → ¬ v1 = 6 → ¬ v1 = 7 → ¬ v1 = 8 → ¬ v1 = 9 → wX_view_119 (fun r => wpY_view (fun r' => r' = r ∧ i_Rel (k + 5) (G, nI cap, nI m, CU, LD, JD, OU, PC, ST, ES, SR, lO, lA, lB, lI, lb, im, cd, sa, la, lt, mk, ds, cs, ce, rg) (G, nI cap, nI m, CU, ST, LD, PO, ES, SR, lO, lA, lB, lI, lb, im, ce, rh)) (G, nI cap, nI m, CU, ST, LD, PO, ES, SR, lO, lA, lB, lI, lb, im, ce, rh) v1 v2) v1 v2 G (nI cap) (nI m) CU LD JD OU PC ST ES SR lO lA lB lI lb im cd sa la lt mk ds cs ce rg := by
    intro n0 n5 n6 n7 n8 n9
    exact x119 _ (fun r a b => br_f n6 (br_f n7 (br_f n8 (br_f n9 (br_f n0 (br_f n5 (y88 r a b)))))))
  by_cases lo : v1 < 0
  · have ne : ∀ c : Int32, ¬ c < 0 → ¬ v1 = c := fun c hc e => hc (e ▸ lo)
    exact br_t lo (w19 (ne _ (by decide)) (ne _ (by decide)) (ne _ (by decide)) (ne _ (by decide)) (ne _ (by decide)) (ne _ (by decide)))
  refine br_f lo ?_
  by_cases hi : 9 < v1
  · have ne : ∀ c : Int32, ¬ 9 < c → ¬ v1 = c := fun c hc e => hc (e ▸ hi)
    exact br_t hi (w19 (ne _ (by decide)) (ne _ (by decide)) (ne _ (by decide)) (ne _ (by decide)) (ne _ (by decide)) (ne _ (by decide)))
  refine br_f hi ?_
  obtain ⟨c, hc9, rfl⟩ := nI_of2 (x := v1) (M := 9) (n := 9) (by decide) lo (Int32.not_lt.mp hi)
  have cs : c = 0 ∨ c = 1 ∨ c = 2 ∨ c = 3 ∨ c = 4 ∨ c = 5 ∨ c = 6 ∨ c = 7 ∨ c = 8 ∨ c = 9 := by omega
  rcases cs with rfl | rfl | rfl | rfl | rfl | rfl | rfl | rfl | rfl | rfl
  · refine br_t rfl (sx_wc (fun h0 h1 => br_f sv_10 ?_) (fun hh => br_t rfl ?_))
    · obtain ⟨j, hj, rfl⟩ := sv_ofr (n := 128) (by omega) h0 h1
      have v : vp_in (nI j) 128 := vp_in_nI hj (by omega)
      exact And.intro v (br_f (by decide) (br_f (by decide) (br_f (by decide) (br_f (by decide) (br_t rfl (br_f h0 (br_f h1 (And.intro v ⟨rfl, K _⟩))))))))
    · have z : wY_view_66 (fun r' => r' = 0 ∧ i_Rel (k + 5) (G, nI cap, nI m, CU, LD, JD, OU, PC, ST, ES, SR, lO, lA, lB, lI, lb, im, cd, sa, la, lt, mk, ds, cs, ce, rg) (G, nI cap, nI m, CU, ST, LD, PO, ES, SR, lO, lA, lB, lI, lb, im, ce, rh)) (nI 0) v2 G (nI cap) (nI m) CU ST LD PO ES SR lO lA lB lI lb im ce rh := br_f (by decide) (br_t (by decide) ⟨rfl, K _⟩)
      exact br_f (by decide) (br_f (by decide) (br_f (by decide) (br_f (by decide) (br_t rfl (br_c (fun _ => z) (fun h0 => br_t (hh.resolve_left h0) z))))))
  · exact br_f (by decide) (br_t rfl (w19 (by decide) (by decide) (by decide) (by decide) (by decide) (by decide)))
  · exact br_f (by decide) (br_f (by decide) (br_t rfl (w19 (by decide) (by decide) (by decide) (by decide) (by decide) (by decide))))
  · exact br_f (by decide) (br_f (by decide) (br_f (by decide) (br_t rfl (w19 (by decide) (by decide) (by decide) (by decide) (by decide) (by decide)))))
  · exact br_f (by decide) (br_f (by decide) (br_f (by decide) (br_f (by decide) (br_t rfl (w19 (by decide) (by decide) (by decide) (by decide) (by decide) (by decide))))))
  · refine br_f (by decide) (br_f (by decide) (br_f (by decide) (br_f (by decide) (br_f (by decide) (br_t rfl (sx_wc (fun h0 h1 => br_f sv_10 ?_) (fun hh => br_t rfl ?_)))))))
    · obtain ⟨j, hj, rfl⟩ := sv_ofr (n := 8) (by omega) h0 h1
      have v : vp_in (nI j) 8 := vp_in_nI hj (by omega)
      exact And.intro v (br_f (by decide) (br_f (by decide) (br_f (by decide) (br_f (by decide) (br_f (by decide) (br_t rfl (br_f h0 (br_f h1 (And.intro v ⟨rfl, K _⟩)))))))))
    · have z : wY_view_88 (fun r' => r' = 0 ∧ i_Rel (k + 5) (G, nI cap, nI m, CU, LD, JD, OU, PC, ST, ES, SR, lO, lA, lB, lI, lb, im, cd, sa, la, lt, mk, ds, cs, ce, rg) (G, nI cap, nI m, CU, ST, LD, PO, ES, SR, lO, lA, lB, lI, lb, im, ce, rh)) (nI 5) v2 G (nI cap) (nI m) CU ST LD PO ES SR lO lA lB lI lb im ce rh := br_f (by decide) (br_t (by decide) ⟨rfl, K _⟩)
      exact br_f (by decide) (br_f (by decide) (br_f (by decide) (br_f (by decide) (br_f (by decide) (br_t rfl (br_c (fun _ => z) (fun h0 => br_t (hh.resolve_left h0) z)))))))
  · exact br_f (by decide) (br_f (by decide) (br_f (by decide) (br_f (by decide) (br_f (by decide) (br_f (by decide) (br_t rfl (br_t rfl ⟨rfl, K _⟩)))))))
  · exact br_f (by decide) (br_f (by decide) (br_f (by decide) (br_f (by decide) (br_f (by decide) (br_f (by decide) (br_f (by decide) (br_t rfl (br_f (by decide) (br_t rfl ⟨rfl, K _⟩)))))))))
  · exact br_f (by decide) (br_f (by decide) (br_f (by decide) (br_f (by decide) (br_f (by decide) (br_f (by decide) (br_f (by decide) (br_f (by decide) (br_t rfl (br_f (by decide) (br_f (by decide) (br_t rfl ⟨rfl, K _⟩)))))))))))
  · exact br_f (by decide) (br_f (by decide) (br_f (by decide) (br_f (by decide) (br_f (by decide) (br_f (by decide) (br_f (by decide) (br_f (by decide) (br_f (by decide) (br_t rfl (br_f (by decide) (br_f (by decide) (br_f (by decide) (br_t rfl ⟨rfl, K _⟩)))))))))))))
end
