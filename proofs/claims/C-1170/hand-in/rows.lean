section
/-! rows of kit/rows (a starting text): stores, numbers, masks, bits -/
theorem pk_us {f : Nat → Int32} {k : Nat} {x : Int32} : upd f k x k = x := if_pos rfl
theorem pk_un {f : Nat → Int32} {k j : Nat} {x : Int32} (h : j ≠ k) : upd f k x j = f j := if_neg h
theorem pk_sub {a b : Nat} (h : b ≤ a) : nI a - nI b = nI (a - b) := by
  obtain ⟨c, rfl⟩ : ∃ c, a = c + b := ⟨a - b, by omega⟩
  rw [← nI_add, Int32.add_sub_cancel, Nat.add_sub_cancel]
theorem pk_m1 (n : Nat) : nI (n + 1) + (-1) = nI n := by
  rw [← nI_1, Int32.add_assoc, show (1 : Int32) + (-1) = 0 from rfl, Int32.add_zero]
theorem pk_mul (a b : Nat) : nI a * nI b = nI (a * b) := (Int32.ofNat_mul a b).symm
theorem pk_div {a d : Nat} (ha : a < 2 ^ 31) (h0 : 0 < d) (hd : d < 2 ^ 31) : nI a / nI d = nI (a / d) := by
  apply Int32.toInt_inj.mp
  rw [lg_idiv_nonneg (by rw [nI_toInt ha]; omega) (by rw [nI_toInt hd]; omega), nI_toInt ha, nI_toInt hd, nI_toInt (Nat.lt_of_le_of_lt (Nat.div_le_self a d) ha)]
  first | rfl | exact (Int.natCast_ediv _ _).symm
theorem pk_rem {a d : Nat} (ha : a < 2 ^ 31) (h0 : 0 < d) (hd : d < 2 ^ 31) : nI a - nI a / nI d * nI d = nI (a % d) := by
  rw [pk_div ha h0 hd, pk_mul, pk_sub (Nat.div_mul_le_self a d)]
  exact congrArg nI (by have := Nat.div_add_mod' a d; omega)
theorem pk_sub_toInt {a b : Nat} (ha : a < 2 ^ 30) (hb : b < 2 ^ 30) : (nI a - nI b).toInt = (a : Int) - b := by
  rw [Int32.toInt_sub, nI_toInt (by omega), nI_toInt (by omega)]
  exact Int.bmod_eq_of_le (by omega) (by omega)
theorem pk_sneg {a b : Nat} (hb : b < 2 ^ 30) (h : a < b) : nI a - nI b < 0 := by
  rw [Int32.lt_iff_toInt_lt, pk_sub_toInt (by omega) hb, show (0 : Int32).toInt = 0 from by decide]
  omega
theorem pk_ix (x : Int32) {n : Nat} (hn : n < 2 ^ 31) : x < 0 ∨ nI n ≤ x ∨ ∃ j : Nat, j < n ∧ x = nI j := by
  by_cases h : x < 0
  · exact Or.inl h
  · obtain ⟨j, hj, rfl⟩ := nI_of h
    by_cases h2 : j < n
    · exact Or.inr (Or.inr ⟨j, h2, rfl⟩)
    · exact Or.inr (Or.inl (nI_le (by omega) hj))
theorem pk_le {x y : Int32} {A B : Prop} (a b : Nat) (f : a ≤ b → A) (g : b < a → B) (hx : x = nI a := by rfl) (hy : y = nI b := by rfl) (ha : a < 2 ^ 31 := by omega) (hb : b < 2 ^ 31 := by omega) : (x ≤ y → A) ∧ (¬ x ≤ y → B) := by
  subst hx hy
  rw [nI_leI ha hb]
  exact ⟨f, fun z => g (by omega)⟩
theorem pk_lt {x y : Int32} {A B : Prop} (a b : Nat) (f : a < b → A) (g : b ≤ a → B) (hx : x = nI a := by rfl) (hy : y = nI b := by rfl) (ha : a < 2 ^ 31 := by omega) (hb : b < 2 ^ 31 := by omega) : (x < y → A) ∧ (¬ x < y → B) := by
  subst hx hy
  rw [nI_ltI ha hb]
  exact ⟨f, fun z => g (by omega)⟩
theorem pk_eq {x y : Int32} {A B : Prop} (a b : Nat) (f : a = b → A) (g : a ≠ b → B) (hx : x = nI a := by rfl) (hy : y = nI b := by rfl) (ha : a < 2 ^ 31 := by omega) (hb : b < 2 ^ 31 := by omega) : (x = y → A) ∧ (¬ x = y → B) := by
  subst hx hy
  rw [nI_eq ha hb]
  exact ⟨f, g⟩
theorem pk_in {x : Int32} (n N : Nat) (h : n < N) (hx : x = nI n := by rfl) (hN : N < 2 ^ 31 := by omega) : vp_in x N := by
  subst hx
  exact vp_in_nI h hN
theorem pk_cl {x : Int32} (n : Nat) (hx : x = nI n := by rfl) (h : n < 2 ^ 31 := by omega) : x.toNatClampNeg = n := by
  subst hx
  exact nI_clamp h
theorem pk_tn {n : Nat} (h : n < 2 ^ 32) : (nI n).toBitVec.toNat = n := Nat.mod_eq_of_lt h
theorem pk_and (x : Int32) {m : Int32} (k : Nat) (hm : m.toBitVec.toNat = 2 ^ k - 1) : x &&& m = nI (x.toBitVec.toNat % 2 ^ k) := by
  apply Int32.toBitVec_inj.mp
  apply BitVec.eq_of_toNat_eq
  rw [Int32.toBitVec_and, BitVec.toNat_and, hm, Nat.and_two_pow_sub_one_eq_mod]
  show _ = (BitVec.ofNat 32 _).toNat
  rw [BitVec.toNat_ofNat]
  exact (Nat.mod_eq_of_lt (Nat.lt_of_le_of_lt (Nat.mod_le _ _) x.toBitVec.isLt)).symm
theorem pk_andN {n : Nat} (h : n < 2 ^ 32) {m : Int32} (k : Nat) (hm : m.toBitVec.toNat = 2 ^ k - 1) : nI n &&& m = nI (n % 2 ^ k) := by
  rw [pk_and _ k hm, pk_tn h]
theorem pk_andE (x : Int32) {m : Int32} (k : Nat) (hm : m.toBitVec.toNat = 2 ^ k - 1) : ∃ j : Nat, j < 2 ^ k ∧ x &&& m = nI j := ⟨_, Nat.mod_lt _ (Nat.two_pow_pos k), pk_and x k hm⟩
theorem pk_andIn (x : Int32) {m : Int32} (k : Nat) (hm : m.toBitVec.toNat = 2 ^ k - 1) (hk : k ≤ 30) : vp_in (x &&& m) (2 ^ k) := by
  obtain ⟨j, hj, e⟩ := pk_andE x k hm
  rw [e]
  exact vp_in_nI hj (Nat.lt_of_le_of_lt (Nat.pow_le_pow_right (by decide) hk) (by decide))
theorem pk_shl (a s : Int32) (k : Nat) (hs : (s.toBitVec.smod 32).toNat = k) : (a <<< s).toBitVec.toNat = a.toBitVec.toNat * 2 ^ k % 2 ^ 32 := by
  show (a.toBitVec <<< (s.toBitVec.smod 32).toNat).toNat = _
  rw [hs, BitVec.toNat_shiftLeft, Nat.shiftLeft_eq]
theorem pk_shlN {n : Nat} (s : Int32) (k : Nat) (hs : (s.toBitVec.smod 32).toNat = k) (h : n * 2 ^ k < 2 ^ 32) : nI n <<< s = nI (n * 2 ^ k) := by
  apply Int32.toBitVec_inj.mp
  apply BitVec.eq_of_toNat_eq
  have hn : n < 2 ^ 32 := Nat.lt_of_le_of_lt (Nat.le_mul_of_pos_right n (Nat.two_pow_pos k)) h
  rw [pk_shl _ _ k hs, pk_tn hn, pk_tn h, Nat.mod_eq_of_lt h]
theorem pk_shr (a s : Int32) (k : Nat) (hs : (s.toBitVec.smod 32).toNat = k) : (a >>> s).toInt = a.toInt >>> k := by
  show (a.toBitVec.sshiftRight (s.toBitVec.smod 32).toNat).toInt = _
  rw [hs, BitVec.toInt_sshiftRight]
  rfl
theorem pk_shrN {n : Nat} (h : n < 2 ^ 31) (s : Int32) (k : Nat) (hs : (s.toBitVec.smod 32).toNat = k) : nI n >>> s = nI (n / 2 ^ k) := by
  apply Int32.toInt_inj.mp
  have h2 : n / 2 ^ k ≤ n := Nat.div_le_self _ _
  rw [pk_shr _ _ k hs, nI_toInt h, nI_toInt (by omega), Int.shiftRight_eq_div_pow]
  rfl
theorem pk_vb (z : Int32) : vp_nar .byte z.toInt8.toInt32 = z.toInt8.toInt32 := by rw [vp_nar_byte]; simp
theorem pk_vs (z : Int32) : vp_nar .short z.toInt16.toInt32 = z.toInt16.toInt32 := by rw [vp_nar_short]; simp
def bt (x : Int32) (i : Nat) : Bool := x.toBitVec.getLsbD i
theorem b_ext {x y : Int32} (h : ∀ i, i < 32 → bt x i = bt y i) : x = y := Int32.toBitVec_inj.mp (BitVec.eq_of_getLsbD_eq (fun i hi => h i hi))
theorem b_or (x y : Int32) (i : Nat) : bt (x ||| y) i = (bt x i || bt y i) := by unfold bt; rw [Int32.toBitVec_or, BitVec.getLsbD_or]
theorem b_and (x y : Int32) (i : Nat) : bt (x &&& y) i = (bt x i && bt y i) := by unfold bt; rw [Int32.toBitVec_and, BitVec.getLsbD_and]
theorem b_xor (x y : Int32) (i : Nat) : bt (x ^^^ y) i = (bt x i ^^ bt y i) := by unfold bt; rw [Int32.toBitVec_xor, BitVec.getLsbD_xor]
theorem b_big {x : Int32} {i : Nat} (h : 32 ≤ i) : bt x i = false := BitVec.getLsbD_of_ge _ _ h
theorem b_m1 : ∀ i, i < 32 → bt (-1) i = true := by decide +kernel
theorem b_0 (i : Nat) : bt 0 i = false := BitVec.getLsbD_zero
theorem s_l : ∀ n, n < 32 → ((nI n &&& 31).toBitVec.smod 32).toNat = n := by decide +kernel
theorem s_u : ∀ n, n < 32 → (((nI n).toUInt32 &&& Int32.toUInt32 31).toBitVec % 32).toNat = n := by decide +kernel
theorem b_shl (n : Nat) (hn : n < 32) (x : Int32) {i : Nat} (hi : i < 32) : bt (x <<< (nI n &&& 31)) i = (decide (n ≤ i) && bt x (i - n)) := by
  unfold bt
  rw [Int32.toBitVec_shiftLeft]
  show (x.toBitVec <<< ((nI n &&& 31).toBitVec.smod 32).toNat).getLsbD i = _
  rw [s_l n hn, BitVec.getLsbD_shiftLeft]
  rcases Nat.lt_or_ge i n with h | h
  · simp [h, Nat.not_le.mpr h]
  · simp [hi, h, Nat.not_lt.mpr h]
theorem b_ushr (n : Nat) (hn : n < 32) (x : Int32) (i : Nat) : bt ((x.toUInt32 >>> ((nI n).toUInt32 &&& Int32.toUInt32 31)).toInt32) i = bt x (n + i) := by
  show (x.toUInt32 >>> ((nI n).toUInt32 &&& Int32.toUInt32 31)).toBitVec.getLsbD i = x.toUInt32.toBitVec.getLsbD (n + i)
  rw [UInt32.toBitVec_shiftRight]
  show (x.toUInt32.toBitVec >>> (((nI n).toUInt32 &&& Int32.toUInt32 31).toBitVec % 32).toNat).getLsbD i = _
  rw [s_u n hn, BitVec.getLsbD_ushiftRight]
theorem b_sshr (n : Nat) (hn : n < 32) (x : Int32) {i : Nat} (hi : i < 32) : bt (x >>> (nI n &&& 31)) i = if n + i < 32 then bt x (n + i) else bt x 31 := by
  unfold bt
  rw [Int32.toBitVec_shiftRight]
  show (x.toBitVec.sshiftRight ((nI n &&& 31).toBitVec.smod 32).toNat).getLsbD i = _
  rw [s_l n hn, BitVec.getLsbD_sshiftRight, BitVec.msb_eq_getLsbD_last]
  simp [hi]
/-! own rows: narrowing of small numbers, sums and differences of numbers -/
theorem qz_b8 : ∀ k, k < 128 → (nI k).toInt8.toInt32 = nI k := by decide +kernel
theorem qz_s16 : ∀ k, k < 512 → (nI k).toInt16.toInt32 = nI k := by decide +kernel
theorem qz_byte {k : Nat} (h : k < 128) : vp_nar .byte (nI k).toInt8.toInt32 = nI k := by rw [pk_vb, qz_b8 k h]
theorem qz_short {k : Nat} (h : k < 512) : vp_nar .short (nI k).toInt16.toInt32 = nI k := by rw [pk_vs, qz_s16 k h]
theorem qz_bm1 : vp_nar .byte (-1 : Int32).toInt8.toInt32 = -1 := by rw [pk_vb]; decide
theorem qz_b4 : vp_nar .byte 4 = 4 := by rw [vp_nar_byte]; decide
theorem qz_s0 : vp_nar .short 0 = 0 := by rw [vp_nar_short]; decide
theorem qz_z0 : vp_nar .boolean 0 = 0 := rfl
theorem qz_z1 : vp_nar .boolean 1 = 1 := rfl
theorem qz_am {a b : Nat} (h : 1 ≤ a + b) : nI a + (nI b - 1) = nI (a + b - 1) := by
  obtain ⟨c, hc⟩ : ∃ c, a + b = c + 1 := ⟨a + b - 1, by omega⟩
  rw [Int32.sub_eq_add_neg, ← Int32.add_assoc, nI_add, hc, ← Int32.sub_eq_add_neg, nI_pred]
  exact congrArg nI (by omega)
theorem qz_m {a : Nat} (h : 1 ≤ a) : nI a - 1 = nI (a - 1) := by
  obtain ⟨c, rfl⟩ : ∃ c, a = c + 1 := ⟨a - 1, by omega⟩
  exact nI_pred c
theorem qz_mm {a : Nat} (h : 1 ≤ a) : nI a + (-1) = nI (a - 1) := by
  obtain ⟨c, rfl⟩ : ∃ c, a = c + 1 := ⟨a - 1, by omega⟩
  exact pk_m1 c
theorem qz_lin (a b c : Nat) : (nI a * nI b) + nI c = nI (a * b + c) := by rw [pk_mul, nI_add]
theorem qz_ne {a b : Nat} (h : a ≠ b) (ha : a < 2 ^ 31) (hb : b < 2 ^ 31) : ¬ nI a = nI b := fun e => h ((nI_eq ha hb).mp e)
theorem qz_neg1 : ((-1 : Int32) < 0) := by decide
theorem qz_nneg {a : Nat} (h : a < 2 ^ 31) : ¬ nI a = -1 := fun e => by
  have h2 := nI_pos h
  rw [e] at h2
  exact h2 (by decide)
/-- the place of a word: x & 63 -/
def qz_w (x : Int32) : Nat := (x &&& 63).toNatClampNeg
theorem qz_wE (x : Int32) : qz_w x < 64 ∧ x &&& 63 = nI (qz_w x) := by
  obtain ⟨j, hj, e⟩ := pk_andE x (m := 63) 6 (by decide)
  have hj' : j < 64 := hj
  unfold qz_w
  rw [e, nI_clamp (by omega)]
  exact ⟨hj', rfl⟩
theorem qz_win (x : Int32) : vp_in (x &&& 63) 64 := by
  rw [(qz_wE x).2]
  exact vp_in_nI (qz_wE x).1 (by decide)
/-- sums of ints -/
def qz_sm (f : Nat → Int32) : Nat → Int32
  | 0 => 0
  | n + 1 => qz_sm f n + f n
theorem qz_sm_ext {f g : Nat → Int32} : ∀ n, (∀ t, t < n → f t = g t) → qz_sm f n = qz_sm g n
  | 0, _ => rfl
  | n + 1, h => by
    unfold qz_sm
    rw [qz_sm_ext n (fun t ht => h t (by omega)), h n (by omega)]
theorem qz_sm_upd {f g : Nat → Int32} {t : Nat} {x : Int32} : ∀ n, t < n → (∀ s, s ≠ t → g s = f s) → g t = f t + x → qz_sm g n = qz_sm f n + x
  | 0, h, _, _ => absurd h (by omega)
  | n + 1, h, hs, ht => by
    unfold qz_sm
    by_cases e : t = n
    · subst e
      rw [qz_sm_ext t (fun s hs' => hs s (by omega)), ht, Int32.add_assoc]
    · rw [qz_sm_upd n (by omega) hs ht, hs n (by omega)]
      rw [Int32.add_assoc, Int32.add_assoc, Int32.add_comm x]
theorem qz_sm_0 {f : Nat → Int32} : ∀ n, (∀ t, t < n → f t = 0) → qz_sm f n = 0
  | 0, _ => rfl
  | n + 1, h => by
    unfold qz_sm
    rw [qz_sm_0 n (fun t ht => h t (by omega)), h n (by omega)]
    rfl
end
section
/-! expressions, pure: arities, operators, one instruction, the reference's evaluation, the picture while code is made -/
def qe_ok (k : Nat) : Prop := k ≤ 8 ∨ (10 ≤ k ∧ k ≤ 16) ∨ (20 ≤ k ∧ k ≤ 31)
def qe_ar (k : Nat) : Nat := if k < 15 then 0 else if k < 20 then 1 else if k = 29 then 1 else if k = 30 then 1 else if k = 31 then 3 else 2
theorem qe_ar_le (k : Nat) : qe_ar k ≤ 3 := by
  unfold qe_ar
  repeat' split
  all_goals omega
theorem qe_ar0 {k : Nat} (h : k < 15) : qe_ar k = 0 := if_pos h
theorem qe_ar1 {k : Nat} (h : ¬ k < 15) : 1 ≤ qe_ar k := by
  unfold qe_ar
  rw [if_neg h]
  repeat' split
  all_goals omega
def qe_op (k : Nat) (a b c : Int32) : Int32 :=
  if k = 20 then a + b else if k = 21 then a - b else if k = 22 then a * b
  else if k = 23 then (if b = 0 then 0 else a / b) else if k = 24 then (if b = 0 then 0 else a - a / b * b)
  else if k = 25 then (if a = b then 1 else 0) else if k = 26 then (if b ≤ a then 0 else 1)
  else if k = 27 then (if a = 0 then 0 else if b = 0 then 0 else 1)
  else if k = 28 then (if a = 0 then (if b = 0 then 0 else 1) else 1)
  else if k = 29 then (if a = 0 then 1 else 0) else if k = 30 then -a
  else if k = 31 then (if a = 0 then c else b) else 0
/-- environment: variables, own words, counters, thread, threads, argument -/
abbrev qe_E : Type := (Nat → Int32) × (Nat → Int32) × (Nat → Int32) × Int32 × Int32 × Int32
def qe_lf (E : qe_E) (k : Nat) (x : Int32) : Int32 :=
  if k = 10 then x else if k = 11 then E.1 x.toNatClampNeg else if k = 12 then E.2.2.2.1 else if k = 13 then E.2.2.2.2.1 else E.2.2.2.2.2
def qe_v (E : qe_E) (k : Nat) (x a b c : Int32) : Int32 :=
  if k < 15 then qe_lf E k x else if k = 15 then E.2.1 (qz_w a) else if k = 16 then E.2.2.1 (qz_w a) else qe_op k a b c
def qe_r (k : Nat) (a : Int32) (R : Nat → Bool) : Nat → Bool := if k = 15 then (fun j => if j = qz_w a then true else R j) else R
theorem qe_op_c {k : Nat} {a b c c' : Int32} (h : k ≠ 31) : qe_op k a b c = qe_op k a b c' := by
  unfold qe_op
  rw [if_neg h, if_neg h]
theorem qe_op_b {k : Nat} {a b c b' c' : Int32} (h : k < 20 ∨ k = 29 ∨ k = 30) : qe_op k a b c = qe_op k a b' c' := by
  unfold qe_op
  rcases h with h | rfl | rfl
  · simp only [if_neg (show ¬ k = 20 by omega), if_neg (show ¬ k = 21 by omega), if_neg (show ¬ k = 22 by omega), if_neg (show ¬ k = 23 by omega), if_neg (show ¬ k = 24 by omega), if_neg (show ¬ k = 25 by omega), if_neg (show ¬ k = 26 by omega), if_neg (show ¬ k = 27 by omega), if_neg (show ¬ k = 28 by omega), if_neg (show ¬ k = 31 by omega)]
  · simp
  · simp
theorem qe_ar_b {k : Nat} (h15 : ¬ k < 15) (h : ¬ 2 ≤ qe_ar k) : k < 20 ∨ k = 29 ∨ k = 30 := by
  by_cases g : k < 20 ∨ k = 29 ∨ k = 30
  · exact g
  · exfalso
    apply h
    unfold qe_ar
    rw [if_neg h15, if_neg (by omega), if_neg (by omega), if_neg (by omega)]
    split <;> omega
theorem qe_v_congr {E : qe_E} {k : Nat} {x a b c a' b' c' : Int32} (h1 : 1 ≤ qe_ar k → a = a') (h2 : 2 ≤ qe_ar k → b = b') (h3 : 3 ≤ qe_ar k → c = c') : qe_v E k x a b c = qe_v E k x a' b' c' := by
  unfold qe_v
  by_cases h15 : k < 15
  · rw [if_pos h15, if_pos h15]
  · have ha : a = a' := h1 (qe_ar1 h15)
    subst ha
    by_cases hb : 2 ≤ qe_ar k
    · have eb := h2 hb
      subst eb
      by_cases hc : 3 ≤ qe_ar k
      · have ec := h3 hc
        subst ec
        rfl
      · rw [qe_op_c (c := c) (c' := c') (fun e => hc (by rw [e]; decide))]
    · rw [qe_op_b (b := b) (c := c) (b' := b') (c' := c') (qe_ar_b h15 hb)]
theorem qe_r_congr {k : Nat} {a a' : Int32} {R : Nat → Bool} (h : 1 ≤ qe_ar k → a = a') : qe_r k a R = qe_r k a' R := by
  unfold qe_r
  by_cases e : k = 15
  · rw [h (by rw [e]; decide)]
  · rw [if_neg e, if_neg e]
/-- slots and readers -/
abbrev qe_S : Type := (Nat → Int32) × (Nat → Bool)
/-- one instruction k at slot s with number x: its operands lie at s .. s + arity - 1, the first on top -/
def qe_i (E : qe_E) (k s : Nat) (x : Int32) (z : qe_S) : qe_S :=
  (upd z.1 s (qe_v E k x (z.1 (s + qe_ar k - 1)) (z.1 (s + qe_ar k - 2)) (z.1 (s + qe_ar k - 3))), qe_r k (z.1 (s + qe_ar k - 1)) z.2)
/-- the height of the stack when d tokens ahead of e are done, from the last to the first -/
def qe_h (K : Nat → Nat) (e : Nat) : Nat → Nat
  | 0 => 0
  | d + 1 => qe_h K e d - qe_ar (K (e - (d + 1))) + 1
def qe_y (E : qe_E) (K : Nat → Nat) (V : Nat → Int32) (e : Nat) (z : qe_S) : Nat → qe_S
  | 0 => z
  | d + 1 => qe_i E (K (e - (d + 1))) (qe_h K e d - qe_ar (K (e - (d + 1)))) (V (e - (d + 1))) (qe_y E K V e z d)
/-- how many are missing behind k tokens from f on -/
def qe_ms (K : Nat → Nat) (f : Nat) : Nat → Nat
  | 0 => 1
  | k + 1 => qe_ms K f k + qe_ar (K (f + k)) - 1
theorem qe_ms_le (K : Nat → Nat) (f : Nat) : ∀ k, qe_ms K f k ≤ 1 + 2 * k
  | 0 => Nat.le_refl 1
  | k + 1 => by
    have h := qe_ms_le K f k
    have h2 := qe_ar_le (K (f + k))
    unfold qe_ms
    omega
/-- a well formed expression from f up to e -/
def qe_P (K : Nat → Nat) (f e : Nat) : Prop := f < e ∧ e ≤ f + 16 ∧ qe_ms K f (e - f) = 0 ∧ ∀ j, j < e - f → 1 ≤ qe_ms K f j ∧ 10 ≤ K (f + j)
/-- none begins at f: the fault is at g -/
def qe_F (K : Nat → Nat) (N f g : Nat) : Prop := f ≤ g ∧ g ≤ f + 16 ∧ g ≤ N ∧ (∀ j, j < g - f → 1 ≤ qe_ms K f j ∧ 10 ≤ K (f + j)) ∧ 1 ≤ qe_ms K f (g - f) ∧ (g = N ∨ K g < 10 ∨ g = f + 16)
theorem qe_h_ms {K : Nat → Nat} {f e : Nat} (h : qe_P K f e) : ∀ d, d ≤ e - f → qe_h K e d = qe_ms K f (e - f - d)
  | 0, _ => h.2.2.1.symm
  | d + 1, hd => by
    have ih := qe_h_ms h d (by omega)
    have h1 := (h.2.2.2 (e - f - (d + 1)) (by omega)).1
    have e1 : e - f - d = (e - f - (d + 1)) + 1 := by omega
    have e2 : f + (e - f - (d + 1)) = e - (d + 1) := by omega
    have h2 : qe_ms K f (e - f - d) = qe_ms K f (e - f - (d + 1)) + qe_ar (K (e - (d + 1))) - 1 := by
      rw [e1]
      show qe_ms K f (e - f - (d + 1)) + qe_ar (K (f + (e - f - (d + 1)))) - 1 = _
      rw [e2]
    show qe_h K e d - qe_ar (K (e - (d + 1))) + 1 = _
    omega
theorem qe_h_ar {K : Nat → Nat} {f e d : Nat} (h : qe_P K f e) (hd : d < e - f) : qe_ar (K (e - (d + 1))) ≤ qe_h K e d := by
  have h0 := qe_h_ms h d (by omega)
  have h1 := (h.2.2.2 (e - f - (d + 1)) (by omega)).1
  have e1 : e - f - d = (e - f - (d + 1)) + 1 := by omega
  have e2 : f + (e - f - (d + 1)) = e - (d + 1) := by omega
  have h2 : qe_ms K f (e - f - d) = qe_ms K f (e - f - (d + 1)) + qe_ar (K (e - (d + 1))) - 1 := by
    rw [e1]
    show qe_ms K f (e - f - (d + 1)) + qe_ar (K (f + (e - f - (d + 1)))) - 1 = _
    rw [e2]
  omega
theorem qe_h_le (K : Nat → Nat) (e : Nat) : ∀ d, qe_h K e d ≤ d
  | 0 => Nat.le_refl 0
  | d + 1 => by
    have h := qe_h_le K e d
    show qe_h K e d - qe_ar (K (e - (d + 1))) + 1 ≤ d + 1
    omega
theorem qe_h_end {K : Nat → Nat} {f e : Nat} (h : qe_P K f e) : qe_h K e (e - f) = 1 := by
  rw [qe_h_ms h (e - f) (by omega)]
  have e1 : e - f - (e - f) = 0 := by omega
  rw [e1]
  rfl
theorem qe_P_k {K : Nat → Nat} {f e d : Nat} (h : qe_P K f e) (hd : d < e - f) : 10 ≤ K (e - (d + 1)) := by
  have h1 := (h.2.2.2 (e - f - (d + 1)) (by omega)).2
  have e2 : f + (e - f - (d + 1)) = e - (d + 1) := by omega
  rwa [e2] at h1
/-- instructions a, a + 1 .. one behind the other -/
def qe_run (op sl nu : Nat → Int32) (E : qe_E) (a : Nat) (z : qe_S) : Nat → qe_S
  | 0 => z
  | c + 1 => qe_i E (op (a + c)).toNatClampNeg (sl (a + c)).toNatClampNeg (nu (a + c)) (qe_run op sl nu E a z c)
theorem qe_run_congr {op sl nu op' sl' nu' : Nat → Int32} {E : qe_E} {a : Nat} {z : qe_S} : ∀ c, (∀ p, a ≤ p → p < a + c → op' p = op p ∧ sl' p = sl p ∧ nu' p = nu p) → qe_run op' sl' nu' E a z c = qe_run op sl nu E a z c
  | 0, _ => rfl
  | c + 1, h => by
    unfold qe_run
    rw [qe_run_congr c (fun p h1 h2 => h p h1 (by omega)), (h (a + c) (by omega) (by omega)).1, (h (a + c) (by omega) (by omega)).2.1, (h (a + c) (by omega) (by omega)).2.2]
/-- while code for an expression up to e is made, d tokens done, c instructions from a on: slots (from base on) and constants against the reference's stack -/
def qe_C (K : Nat → Nat) (V : Nat → Int32) (e base : Nat) (op sl nu isC cst : Nat → Int32) (a c d : Nat) : Prop :=
  ∀ (E : qe_E) (z y : qe_S), z.2 = y.2 → (qe_run op sl nu E a z c).2 = (qe_y E K V e y d).2 ∧ (∀ j, j < base → (qe_run op sl nu E a z c).1 j = z.1 j) ∧
    ∀ j, j < qe_h K e d → (isC (base + j) = 0 → (qe_run op sl nu E a z c).1 (base + j) = (qe_y E K V e y d).1 j) ∧ (¬ isC (base + j) = 0 → cst (base + j) = (qe_y E K V e y d).1 j)
section
variable {K : Nat → Nat} {V : Nat → Int32} {e base : Nat} {op sl nu isC cst : Nat → Int32} {a c d : Nat}
theorem qe_C0 : qe_C K V e base op sl nu isC cst a 0 0 := fun _ _ _ h => ⟨h, fun _ _ => rfl, fun j hj => absurd hj (Nat.not_lt_zero j)⟩
/-- a number: it stays a constant -/
theorem qe_C_num (h : qe_C K V e base op sl nu isC cst a c d) (hk : K (e - (d + 1)) = 10) :
    qe_C K V e base op sl nu (upd isC (base + qe_h K e d) 1) (upd cst (base + qe_h K e d) (V (e - (d + 1)))) a c (d + 1) := by
  intro E z y hz
  obtain ⟨h1, h2, h3⟩ := h E z y hz
  have eh : qe_h K e (d + 1) = qe_h K e d + 1 := by show qe_h K e d - qe_ar (K (e - (d + 1))) + 1 = _; rw [hk]; rfl
  have ey : qe_y E K V e y (d + 1) = (upd (qe_y E K V e y d).1 (qe_h K e d) (V (e - (d + 1))), (qe_y E K V e y d).2) := by
    show qe_i E (K (e - (d + 1))) (qe_h K e d - qe_ar (K (e - (d + 1)))) (V (e - (d + 1))) (qe_y E K V e y d) = _
    rw [hk]
    rfl
  rw [ey, eh]
  refine ⟨h1, h2, fun j hj => ?_⟩
  by_cases ej : j = qe_h K e d
  · subst ej
    refine ⟨fun z0 => absurd z0 ?_, fun _ => ?_⟩
    · rw [pk_us]; decide
    · rw [pk_us]; exact pk_us.symm
  · have hj' : j < qe_h K e d := by omega
    rw [pk_un (show base + j ≠ base + qe_h K e d by omega), pk_un (show base + j ≠ base + qe_h K e d by omega)]
    dsimp only
    rw [pk_un ej]
    exact h3 j hj'
theorem qe_run_S {op sl nu : Nat → Int32} {E : qe_E} {a c : Nat} {z : qe_S} {k s x : Int32} :
    qe_run (upd op (a + c) k) (upd sl (a + c) s) (upd nu (a + c) x) E a z (c + 1) = qe_i E k.toNatClampNeg s.toNatClampNeg x (qe_run op sl nu E a z c) := by
  show qe_i E ((upd op (a + c) k) (a + c)).toNatClampNeg ((upd sl (a + c) s) (a + c)).toNatClampNeg ((upd nu (a + c) x) (a + c)) (qe_run (upd op (a + c) k) (upd sl (a + c) s) (upd nu (a + c) x) E a z c) = _
  rw [pk_us, pk_us, pk_us, qe_run_congr c (fun p h1 h2 => ⟨pk_un (by omega), pk_un (by omega), pk_un (by omega)⟩)]
/-- a leaf that is no number: an instruction -/
theorem qe_C_leaf (h : qe_C K V e base op sl nu isC cst a c d) (hk : K (e - (d + 1)) < 15) (hb : base + qe_h K e d < 2 ^ 31) :
    qe_C K V e base (upd op (a + c) (nI (K (e - (d + 1))))) (upd sl (a + c) (nI (base + qe_h K e d))) (upd nu (a + c) (V (e - (d + 1)))) (upd isC (base + qe_h K e d) 0) cst a (c + 1) (d + 1) := by
  intro E z y hz
  obtain ⟨h1, h2, h3⟩ := h E z y hz
  have ea := qe_ar0 hk
  have eh : qe_h K e (d + 1) = qe_h K e d + 1 := by show qe_h K e d - qe_ar (K (e - (d + 1))) + 1 = _; rw [ea]; rfl
  have n15 : K (e - (d + 1)) ≠ 15 := by omega
  have ey : qe_y E K V e y (d + 1) = (upd (qe_y E K V e y d).1 (qe_h K e d) (qe_lf E (K (e - (d + 1))) (V (e - (d + 1)))), (qe_y E K V e y d).2) := by
    show qe_i E (K (e - (d + 1))) (qe_h K e d - qe_ar (K (e - (d + 1)))) (V (e - (d + 1))) (qe_y E K V e y d) = _
    unfold qe_i qe_v qe_r
    rw [ea, if_pos hk, if_neg n15]
    rfl
  have ex : qe_run (upd op (a + c) (nI (K (e - (d + 1))))) (upd sl (a + c) (nI (base + qe_h K e d))) (upd nu (a + c) (V (e - (d + 1)))) E a z (c + 1) = (upd (qe_run op sl nu E a z c).1 (base + qe_h K e d) (qe_lf E (K (e - (d + 1))) (V (e - (d + 1)))), (qe_run op sl nu E a z c).2) := by
    rw [qe_run_S, nI_clamp (by omega), nI_clamp hb]
    unfold qe_i qe_v qe_r
    rw [if_pos hk, if_neg n15]
  rw [ey, eh, ex]
  refine ⟨h1, fun j hj => ?_, fun j hj => ?_⟩
  · dsimp only
    rw [pk_un (show j ≠ base + qe_h K e d by omega)]
    exact h2 j hj
  · by_cases ej : j = qe_h K e d
    · subst ej
      refine ⟨fun _ => ?_, fun z0 => absurd pk_us z0⟩
      dsimp only
      rw [pk_us, pk_us]
    · have hj' : j < qe_h K e d := by omega
      rw [pk_un (show base + j ≠ base + qe_h K e d by omega)]
      dsimp only
      rw [pk_un ej, pk_un (show base + j ≠ base + qe_h K e d by omega)]
      exact h3 j hj'
/-- a constant comes to its slot -/
theorem qe_C_set (h : qe_C K V e base op sl nu isC cst a c d) {j : Nat} (hj : j < qe_h K e d) (hc : ¬ isC (base + j) = 0) (hb : base + j < 2 ^ 31) :
    qe_C K V e base (upd op (a + c) (nI 10)) (upd sl (a + c) (nI (base + j))) (upd nu (a + c) (cst (base + j))) (upd isC (base + j) 0) cst a (c + 1) d := by
  intro E z y hz
  obtain ⟨h1, h2, h3⟩ := h E z y hz
  have ex : qe_run (upd op (a + c) (nI 10)) (upd sl (a + c) (nI (base + j))) (upd nu (a + c) (cst (base + j))) E a z (c + 1) = (upd (qe_run op sl nu E a z c).1 (base + j) (cst (base + j)), (qe_run op sl nu E a z c).2) := by
    rw [qe_run_S, nI_clamp (by omega), nI_clamp hb]
    rfl
  rw [ex]
  refine ⟨h1, fun i hi => ?_, fun i hi => ?_⟩
  · dsimp only
    rw [pk_un (show i ≠ base + j by omega)]
    exact h2 i hi
  · by_cases ei : i = j
    · subst ei
      refine ⟨fun _ => ?_, fun z0 => absurd pk_us z0⟩
      dsimp only
      rw [pk_us]
      exact (h3 i hi).2 hc
    · rw [pk_un (show base + i ≠ base + j by omega)]
      dsimp only
      rw [pk_un (show base + i ≠ base + j by omega)]
      exact h3 i hi
theorem qe_C_isC (h : qe_C K V e base op sl nu isC cst a c d) {isC' : Nat → Int32} (hc : ∀ j, j < qe_h K e d → isC' (base + j) = isC (base + j)) : qe_C K V e base op sl nu isC' cst a c d := by
  intro E z y hz
  obtain ⟨h1, h2, h3⟩ := h E z y hz
  refine ⟨h1, h2, fun j hj => ?_⟩
  rw [hc j hj]
  exact h3 j hj
/-- an operator whose operands are all constants -/
theorem qe_C_fold (h : qe_C K V e base op sl nu isC cst a c d) (hk : 20 ≤ K (e - (d + 1))) (ha : qe_ar (K (e - (d + 1))) ≤ qe_h K e d)
    (hc : ∀ j, qe_h K e d - qe_ar (K (e - (d + 1))) ≤ j → j < qe_h K e d → ¬ isC (base + j) = 0) {v : Int32}
    (hv : v = qe_op (K (e - (d + 1))) (cst (base + (qe_h K e d - 1))) (cst (base + (qe_h K e d - 2))) (cst (base + (qe_h K e d - 3)))) :
    qe_C K V e base op sl nu isC (upd cst (base + (qe_h K e d - qe_ar (K (e - (d + 1))))) v) a c (d + 1) := by
  intro E z y hz
  obtain ⟨h1, h2, h3⟩ := h E z y hz
  have a1 := qe_ar1 (k := K (e - (d + 1))) (by omega)
  have eh : qe_h K e (d + 1) = qe_h K e d - qe_ar (K (e - (d + 1))) + 1 := rfl
  have hv' : v = qe_v E (K (e - (d + 1))) (V (e - (d + 1))) ((qe_y E K V e y d).1 (qe_h K e d - qe_ar (K (e - (d + 1))) + qe_ar (K (e - (d + 1))) - 1)) ((qe_y E K V e y d).1 (qe_h K e d - qe_ar (K (e - (d + 1))) + qe_ar (K (e - (d + 1))) - 2)) ((qe_y E K V e y d).1 (qe_h K e d - qe_ar (K (e - (d + 1))) + qe_ar (K (e - (d + 1))) - 3)) := by
    have e0 : qe_v E (K (e - (d + 1))) (V (e - (d + 1))) (cst (base + (qe_h K e d - 1))) (cst (base + (qe_h K e d - 2))) (cst (base + (qe_h K e d - 3))) = v := by
      rw [hv]
      unfold qe_v
      rw [if_neg (by omega), if_neg (by omega), if_neg (by omega)]
    rw [← e0, Nat.sub_add_cancel ha]
    refine qe_v_congr (fun g => ?_) (fun g => ?_) (fun g => ?_)
    · exact (h3 _ (by omega)).2 (hc _ (by omega) (by omega))
    · exact (h3 _ (by omega)).2 (hc _ (by omega) (by omega))
    · exact (h3 _ (by omega)).2 (hc _ (by omega) (by omega))
  have ey : qe_y E K V e y (d + 1) = (upd (qe_y E K V e y d).1 (qe_h K e d - qe_ar (K (e - (d + 1)))) v, (qe_y E K V e y d).2) := by
    show qe_i E (K (e - (d + 1))) (qe_h K e d - qe_ar (K (e - (d + 1)))) (V (e - (d + 1))) (qe_y E K V e y d) = _
    unfold qe_i
    rw [← hv']
    unfold qe_r
    rw [if_neg (by omega)]
  rw [ey, eh]
  refine ⟨h1, h2, fun j hj => ?_⟩
  by_cases ej : j = qe_h K e d - qe_ar (K (e - (d + 1)))
  · rw [ej]
    refine ⟨fun z0 => absurd z0 (hc _ (by omega) (by omega)), fun _ => ?_⟩
    dsimp only
    rw [pk_us, pk_us]
  · dsimp only
    rw [pk_un (show base + j ≠ base + (qe_h K e d - qe_ar (K (e - (d + 1)))) by omega), pk_un ej]
    exact h3 j (by omega)
/-- an operator as an instruction, its operands in slots -/
theorem qe_C_op (h : qe_C K V e base op sl nu isC cst a c d) (hk : ¬ K (e - (d + 1)) < 15) (hk2 : K (e - (d + 1)) < 128) (ha : qe_ar (K (e - (d + 1))) ≤ qe_h K e d)
    (hc : ∀ j, qe_h K e d - qe_ar (K (e - (d + 1))) ≤ j → j < qe_h K e d → isC (base + j) = 0) (hb : base + qe_h K e d < 2 ^ 31) (x : Int32) :
    qe_C K V e base (upd op (a + c) (nI (K (e - (d + 1))))) (upd sl (a + c) (nI (base + (qe_h K e d - qe_ar (K (e - (d + 1))))))) (upd nu (a + c) x) isC cst a (c + 1) (d + 1) := by
  intro E z y hz
  obtain ⟨h1, h2, h3⟩ := h E z y hz
  have a1 := qe_ar1 (k := K (e - (d + 1))) hk
  have eh : qe_h K e (d + 1) = qe_h K e d - qe_ar (K (e - (d + 1))) + 1 := rfl
  have o1 : (qe_run op sl nu E a z c).1 (base + (qe_h K e d - qe_ar (K (e - (d + 1)))) + qe_ar (K (e - (d + 1))) - 1) = (qe_y E K V e y d).1 (qe_h K e d - qe_ar (K (e - (d + 1))) + qe_ar (K (e - (d + 1))) - 1) := by
    have q1 : base + (qe_h K e d - qe_ar (K (e - (d + 1)))) + qe_ar (K (e - (d + 1))) - 1 = base + (qe_h K e d - 1) := by omega
    have q2 : qe_h K e d - qe_ar (K (e - (d + 1))) + qe_ar (K (e - (d + 1))) - 1 = qe_h K e d - 1 := by omega
    rw [q1, q2]
    exact (h3 _ (by omega)).1 (hc _ (by omega) (by omega))
  have ex : qe_run (upd op (a + c) (nI (K (e - (d + 1))))) (upd sl (a + c) (nI (base + (qe_h K e d - qe_ar (K (e - (d + 1))))))) (upd nu (a + c) x) E a z (c + 1) = qe_i E (K (e - (d + 1))) (base + (qe_h K e d - qe_ar (K (e - (d + 1))))) x (qe_run op sl nu E a z c) := by
    rw [qe_run_S, nI_clamp (by omega), nI_clamp (by omega)]
  have vv : qe_v E (K (e - (d + 1))) x ((qe_run op sl nu E a z c).1 (base + (qe_h K e d - qe_ar (K (e - (d + 1)))) + qe_ar (K (e - (d + 1))) - 1)) ((qe_run op sl nu E a z c).1 (base + (qe_h K e d - qe_ar (K (e - (d + 1)))) + qe_ar (K (e - (d + 1))) - 2)) ((qe_run op sl nu E a z c).1 (base + (qe_h K e d - qe_ar (K (e - (d + 1)))) + qe_ar (K (e - (d + 1))) - 3))
      = qe_v E (K (e - (d + 1))) (V (e - (d + 1))) ((qe_y E K V e y d).1 (qe_h K e d - qe_ar (K (e - (d + 1))) + qe_ar (K (e - (d + 1))) - 1)) ((qe_y E K V e y d).1 (qe_h K e d - qe_ar (K (e - (d + 1))) + qe_ar (K (e - (d + 1))) - 2)) ((qe_y E K V e y d).1 (qe_h K e d - qe_ar (K (e - (d + 1))) + qe_ar (K (e - (d + 1))) - 3)) := by
    have vx : ∀ p q r : Int32, qe_v E (K (e - (d + 1))) x p q r = qe_v E (K (e - (d + 1))) (V (e - (d + 1))) p q r := by
      intro p q r
      unfold qe_v
      rw [if_neg hk, if_neg hk]
    rw [vx]
    refine qe_v_congr (fun g => o1) (fun g => ?_) (fun g => ?_)
    · have q1 : base + (qe_h K e d - qe_ar (K (e - (d + 1)))) + qe_ar (K (e - (d + 1))) - 2 = base + (qe_h K e d - 2) := by omega
      have q2 : qe_h K e d - qe_ar (K (e - (d + 1))) + qe_ar (K (e - (d + 1))) - 2 = qe_h K e d - 2 := by omega
      rw [q1, q2]
      exact (h3 _ (by omega)).1 (hc _ (by omega) (by omega))
    · have q1 : base + (qe_h K e d - qe_ar (K (e - (d + 1)))) + qe_ar (K (e - (d + 1))) - 3 = base + (qe_h K e d - 3) := by omega
      have q2 : qe_h K e d - qe_ar (K (e - (d + 1))) + qe_ar (K (e - (d + 1))) - 3 = qe_h K e d - 3 := by omega
      rw [q1, q2]
      exact (h3 _ (by omega)).1 (hc _ (by omega) (by omega))
  rw [ex, eh]
  show (qe_r _ _ (qe_run op sl nu E a z c).2 = qe_r _ _ (qe_y E K V e y d).2) ∧ _
  refine ⟨?_, fun j hj => ?_, fun j hj => ?_⟩
  · rw [h1, o1]
  · show upd _ _ _ j = _
    rw [pk_un (show j ≠ base + (qe_h K e d - qe_ar (K (e - (d + 1)))) by omega)]
    exact h2 j hj
  · by_cases ej : j = qe_h K e d - qe_ar (K (e - (d + 1)))
    · refine ⟨fun _ => ?_, fun z0 => absurd (hc _ (by omega) (by omega)) z0⟩
      rw [ej]
      show upd _ _ _ _ = upd _ _ _ _
      rw [pk_us, pk_us]
      exact vv
    · have hh := h3 j (by omega)
      refine ⟨fun z0 => ?_, fun z0 => ?_⟩
      · show upd _ _ _ _ = upd _ _ _ _
        rw [pk_un (show base + j ≠ base + (qe_h K e d - qe_ar (K (e - (d + 1)))) by omega), pk_un ej]
        exact hh.1 z0
      · show _ = upd _ _ _ _
        rw [pk_un ej]
        exact hh.2 z0
end
end
section
/-! the component's emit, arity, single, pair, settle, operate -/
/-- the number of a variable -/
def qe_V6 (x : Int32) : Prop := ∃ v : Nat, v < 6 ∧ x = nI v
def qe_IO (op sl st nu : Nat → Int32) (p : Nat) : Prop := ∃ k s : Nat, op p = nI k ∧ sl p = nI s ∧ 10 ≤ k ∧ k ≤ 31 ∧ (k ≤ 16 ∨ 20 ≤ k) ∧ s < 18 ∧ s + qe_ar k ≤ 18 ∧ (k = 11 → qe_V6 (nu p)) ∧ st p = -1
def qe_fr (l : Nat) (op sl st nu op' sl' st' nu' : Nat → Int32) : Prop := ∀ p, p < l → op' p = op p ∧ sl' p = sl p ∧ st' p = st p ∧ nu' p = nu p
theorem qe_fr_rf {l : Nat} {op sl st nu : Nat → Int32} : qe_fr l op sl st nu op sl st nu := fun _ _ => ⟨rfl, rfl, rfl, rfl⟩
theorem qe_fr_tr {l l' : Nat} {op sl st nu op' sl' st' nu' op2 sl2 st2 nu2 : Nat → Int32} (h : qe_fr l op sl st nu op' sl' st' nu') (hl : l ≤ l') (g : qe_fr l' op' sl' st' nu' op2 sl2 st2 nu2) : qe_fr l op sl st nu op2 sl2 st2 nu2 :=
  fun p hp => ⟨((g p (by omega)).1).trans (h p hp).1, ((g p (by omega)).2.1).trans (h p hp).2.1, ((g p (by omega)).2.2.1).trans (h p hp).2.2.1, ((g p (by omega)).2.2.2).trans (h p hp).2.2.2⟩
theorem qe_fr_up {l : Nat} {op sl st nu : Nat → Int32} (a b c d : Int32) : qe_fr l op sl st nu (upd op l a) (upd sl l b) (upd st l c) (upd nu l d) :=
  fun p hp => ⟨pk_un (by omega), pk_un (by omega), pk_un (by omega), pk_un (by omega)⟩
theorem qe_IO_fr {l p : Nat} {op sl st nu op' sl' st' nu' : Nat → Int32} (h : qe_fr l op sl st nu op' sl' st' nu') (hp : p < l) (g : qe_IO op sl st nu p) : qe_IO op' sl' st' nu' p := by
  unfold qe_IO
  obtain ⟨h1, h2, h3, h4⟩ := h p hp
  rw [h1, h2, h3, h4]
  exact g
theorem qz_if {c : Prop} [Decidable c] {α : Type} {post : α → Prop} {x y : α} (h : post (if c then x else y)) : (c → post x) ∧ (¬ c → post y) :=
  ⟨fun g => by rw [if_pos g] at h; exact h, fun g => by rw [if_neg g] at h; exact h⟩
section
variable {f_tokens f_length f_fault f_compiled f_open f_waits f_ended f_threads f_arg f_phase f_races f_ran f_over : Int32} {a_kind a_value a_op a_slot a_statement a_number a_openKind a_openOut a_openStart a_isConstant a_constant a_at a_slots a_variables a_steps a_words a_counters a_added a_own a_ownPhase a_storedPhase a_readPhase a_racePhase a_storedBy a_readBy a_readByMore a_doneCount : Nat → Int32}
theorem qc_emit {post : SX → Prop} {l k s : Nat} {x y : Int32} (hl : l < 224) (hk : k < 128) (hs : s < 128) (hy : vp_nar .byte y.toInt8.toInt32 = y)
    (h : post (f_tokens, nI (l + 1), f_fault, f_compiled, f_open, f_waits, f_ended, f_threads, f_arg, f_phase, f_races, f_ran, f_over, a_kind, a_value, upd a_op l (nI k), upd a_slot l (nI s), upd a_statement l y, upd a_number l x, a_openKind, a_openOut, a_openStart, a_isConstant, a_constant, a_at, a_slots, a_variables, a_steps, a_words, a_counters, a_added, a_own, a_ownPhase, a_storedPhase, a_readPhase, a_racePhase, a_storedBy, a_readBy, a_readByMore, a_doneCount)) :
    wpX_emit post (f_tokens, nI l, f_fault, f_compiled, f_open, f_waits, f_ended, f_threads, f_arg, f_phase, f_races, f_ran, f_over, a_kind, a_value, a_op, a_slot, a_statement, a_number, a_openKind, a_openOut, a_openStart, a_isConstant, a_constant, a_at, a_slots, a_variables, a_steps, a_words, a_counters, a_added, a_own, a_ownPhase, a_storedPhase, a_readPhase, a_racePhase, a_storedBy, a_readBy, a_readByMore, a_doneCount) (nI k) (nI s) x y := by
  have hi : vp_in (nI l) 224 := vp_in_nI hl (by decide)
  have el : (nI l).toNatClampNeg = l := nI_clamp (by omega)
  unfold wpX_emit
  dsimp only
  exact ⟨hi, nm_r (e' := upd a_op l (nI k)) (by rw [el, qz_byte hk]) ⟨hi, nm_r (e' := upd a_slot l (nI s)) (by rw [el, qz_byte hs]) ⟨hi, nm_r (e' := upd a_number l x) (by rw [el]) (nm_r (e' := nI (l + 1)) (nI_1 l) ⟨hi, nm_r (e' := upd a_statement l y) (by rw [el, hy]) h⟩)⟩⟩⟩
end
theorem qc_arity {post : Int32 → Prop} {k : Nat} (hk : k < 128) (h : post (nI (qe_ar k))) : wpX_arity post (nI k) := by
  unfold wpX_arity
  unfold qe_ar at h
  refine pk_le 15 k (fun h1 => pk_lt k 20 (fun h2 => ?_) (fun h2 => pk_eq k 29 (fun h3 => ?_) (fun h3 => pk_eq k 30 (fun h4 => ?_) (fun h4 => pk_eq k 31 (fun h5 => ?_) (fun h5 => ?_))))) (fun h1 => ?_)
  · rw [if_neg (by omega), if_pos h2] at h; exact h
  · rw [if_neg (by omega), if_neg (by omega), if_pos h3] at h; exact h
  · rw [if_neg (by omega), if_neg (by omega), if_neg (by omega), if_pos h4] at h; exact h
  · rw [if_neg (by omega), if_neg (by omega), if_neg (by omega), if_neg (by omega), if_pos h5] at h; exact h
  · rw [if_neg (by omega), if_neg (by omega), if_neg (by omega), if_neg (by omega), if_neg (by omega)] at h; exact h
  · rw [if_pos h1] at h; exact h
theorem qc_single {post : Int32 → Prop} {k : Nat} {a b c : Int32} (hk : k = 29 ∨ k = 30) (h : post (qe_op k a b c)) : wpX_single post (nI k) a := by
  unfold wpX_single
  rcases hk with rfl | rfl
  · have h' : post (if a = 0 then 1 else 0) := h
    exact br_t (by decide) (qz_if h')
  · have h' : post (-a) := h
    exact br_f (by decide) h'
theorem qc_pair {post : Int32 → Prop} {k : Nat} {a b c : Int32} (hk : 20 ≤ k) (hk2 : k ≤ 28) (h : post (qe_op k a b c)) : wpX_pair post (nI k) a b := by
  unfold wpX_pair
  rcases (show k = 20 ∨ k = 21 ∨ k = 22 ∨ k = 23 ∨ k = 24 ∨ k = 25 ∨ k = 26 ∨ k = 27 ∨ k = 28 by omega) with rfl | rfl | rfl | rfl | rfl | rfl | rfl | rfl | rfl
  · have h' : post (a + b) := h
    repeat (first | refine br_f (by decide) ?_ | refine br_t (by decide) ?_)
    exact h'
  · have h' : post (a - b) := h
    repeat (first | refine br_f (by decide) ?_ | refine br_t (by decide) ?_)
    exact h'
  · have h' : post (a * b) := h
    repeat (first | refine br_f (by decide) ?_ | refine br_t (by decide) ?_)
    exact h'
  · have h' : post (if b = 0 then 0 else a / b) := h
    repeat (first | refine br_f (by decide) ?_ | refine br_t (by decide) ?_)
    exact ⟨(qz_if h').1, fun g => ⟨g, (qz_if h').2 g⟩⟩
  · have h' : post (if b = 0 then 0 else a - a / b * b) := h
    repeat (first | refine br_f (by decide) ?_ | refine br_t (by decide) ?_)
    exact ⟨(qz_if h').1, fun g => ⟨g, (qz_if h').2 g⟩⟩
  · have h' : post (if a = b then 1 else 0) := h
    repeat (first | refine br_f (by decide) ?_ | refine br_t (by decide) ?_)
    exact qz_if h'
  · have h' : post (if b ≤ a then 0 else 1) := h
    repeat (first | refine br_f (by decide) ?_ | refine br_t (by decide) ?_)
    exact qz_if h'
  · have h' : post (if a = 0 then 0 else if b = 0 then 0 else 1) := h
    repeat (first | refine br_f (by decide) ?_ | refine br_t (by decide) ?_)
    exact ⟨(qz_if h').1, fun g => qz_if ((qz_if h').2 g)⟩
  · have h' : post (if a = 0 then (if b = 0 then 0 else 1) else 1) := h
    repeat (first | refine br_f (by decide) ?_ | refine br_t (by decide) ?_)
    exact ⟨fun g => qz_if ((qz_if h').1 g), (qz_if h').2⟩
/-- code for an expression in the making -/
def qe_K (K : Nat → Nat) (V : Nat → Int32) (e base a d l : Nat) (op sl st nu isC cst : Nat → Int32) : Prop :=
  a ≤ l ∧ qe_C K V e base op sl nu isC cst a (l - a) d ∧ (∀ p, a ≤ p → p < l → qe_IO op sl st nu p) ∧ ∀ j, j < qe_h K e d → isC (base + j) = 0 ∨ isC (base + j) = 1
section
variable {K : Nat → Nat} {V : Nat → Int32} {e base a d l : Nat} {op sl st nu isC cst : Nat → Int32}
theorem qc_settle {j : Nat} (hl : l < 224) (hC : qe_K K V e base a d l op sl st nu isC cst) (hj : j < qe_h K e d) (hb : base + j < 18) :
    ∃ (l' : Nat) (op' sl' st' nu' isC' : Nat → Int32), qe_K K V e base a d l' op' sl' st' nu' isC' cst ∧ l ≤ l' ∧ l' ≤ l + 1 ∧ (¬ isC (base + j) = 0 → l < l') ∧ qe_fr l op sl st nu op' sl' st' nu' ∧
      isC' (base + j) = 0 ∧ (∀ x, x ≠ base + j → isC' x = isC x) ∧
      ∀ {f_tokens f_fault f_compiled f_open f_waits f_ended f_threads f_arg f_phase f_races f_ran f_over : Int32} {a_kind a_value a_openKind a_openOut a_openStart a_at a_slots a_variables a_steps a_words a_counters a_added a_own a_ownPhase a_storedPhase a_readPhase a_racePhase a_storedBy a_readBy a_readByMore a_doneCount : Nat → Int32} {post : SX → Prop}, post (f_tokens, nI (l'), f_fault, f_compiled, f_open, f_waits, f_ended, f_threads, f_arg, f_phase, f_races, f_ran, f_over, a_kind, a_value, op', sl', st', nu', a_openKind, a_openOut, a_openStart, isC', cst, a_at, a_slots, a_variables, a_steps, a_words, a_counters, a_added, a_own, a_ownPhase, a_storedPhase, a_readPhase, a_racePhase, a_storedBy, a_readBy, a_readByMore, a_doneCount) → wpX_settle post (f_tokens, nI (l), f_fault, f_compiled, f_open, f_waits, f_ended, f_threads, f_arg, f_phase, f_races, f_ran, f_over, a_kind, a_value, op, sl, st, nu, a_openKind, a_openOut, a_openStart, isC, cst, a_at, a_slots, a_variables, a_steps, a_words, a_counters, a_added, a_own, a_ownPhase, a_storedPhase, a_readPhase, a_racePhase, a_storedBy, a_readBy, a_readByMore, a_doneCount) (nI (base + j)) := by
  have hi : vp_in (nI (base + j)) 18 := vp_in_nI hb (by decide)
  have el : (nI (base + j)).toNatClampNeg = base + j := nI_clamp (by omega)
  obtain ⟨h1, h2, h3, h4⟩ := hC
  by_cases hc : isC (base + j) = 0
  · have ee : ∀ x, upd isC (base + j) 0 x = isC x := by
      intro x
      by_cases ex : x = base + j
      · rw [ex, pk_us, hc]
      · exact pk_un ex
    refine ⟨l, op, sl, st, nu, upd isC (base + j) 0, ⟨h1, qe_C_isC h2 (fun x _ => ee _), h3, fun x hx => by rw [ee]; exact h4 x hx⟩, Nat.le_refl l, by omega, fun z => absurd hc z, qe_fr_rf, pk_us, fun x _ => ee x, ?_⟩
    intros
    rename_i hp
    unfold wpX_settle
    dsimp only
    refine ⟨hi, ?_⟩
    rw [el]
    exact br_t hc ⟨hi, nm_r (e' := upd isC (base + j) 0) rfl hp⟩
  · have e1 : l - a + 1 = l + 1 - a := by omega
    have e2 : a + (l - a) = l := by omega
    have g := qe_C_set h2 hj hc (by omega)
    rw [e1, e2] at g
    refine ⟨l + 1, upd op l (nI 10), upd sl l (nI (base + j)), upd st l (-1), upd nu l (cst (base + j)), upd isC (base + j) 0, ⟨by omega, g, fun p hp1 hp2 => ?_, fun x hx => ?_⟩, by omega, Nat.le_refl _, fun _ => by omega, qe_fr_up _ _ _ _, pk_us, fun x hx => pk_un hx, ?_⟩
    · by_cases ep : p = l
      · subst ep
        exact ⟨10, base + j, pk_us, pk_us, by decide, by decide, Or.inl (by decide), hb, Nat.le_of_lt hb, fun z => absurd z (by decide), pk_us⟩
      · exact qe_IO_fr (qe_fr_up _ _ _ _) (by omega) (h3 p hp1 (by omega))
    · by_cases ex : x = j
      · rw [ex, pk_us]; exact Or.inl rfl
      · rw [pk_un (show base + x ≠ base + j by omega)]; exact h4 x hx
    · intros
      rename_i hp
      unfold wpX_settle
      dsimp only
      refine ⟨hi, ?_⟩
      rw [el]
      refine br_f hc ⟨hi, ?_⟩
      refine qc_emit (k := 10) hl (by decide) (by omega) qz_bm1 ?_
      exact ⟨hi, nm_r (e' := upd isC (base + j) 0) rfl hp⟩
/-- the second loop of operate: all operands come to their slots, then the instruction -/
theorem qc_o129 (k1 : ¬ K (e - (d + 1)) < 15) (k2 : K (e - (d + 1)) ≤ 31) (k3 : K (e - (d + 1)) ≤ 16 ∨ 20 ≤ K (e - (d + 1))) (ha : qe_ar (K (e - (d + 1))) ≤ qe_h K e d) (hb : base + qe_h K e d ≤ 18) (r : Nat) :
    ∀ {i l : Nat} {op sl st nu isC : Nat → Int32}, i + r = qe_ar (K (e - (d + 1))) → l + r < 224 →
    qe_K K V e base a d l op sl st nu isC cst →
    (∀ j, j < i → isC (base + (qe_h K e d - qe_ar (K (e - (d + 1))) + j)) = 0) →
    ∃ (l' : Nat) (op' sl' st' nu' isC' : Nat → Int32), qe_K K V e base a (d + 1) l' op' sl' st' nu' isC' cst ∧ l < l' ∧ l' ≤ l + r + 1 ∧ qe_fr l op sl st nu op' sl' st' nu' ∧
      ∀ {f_tokens f_fault f_compiled f_open f_waits f_ended f_threads f_arg f_phase f_races f_ran f_over : Int32} {a_kind a_value a_openKind a_openOut a_openStart a_at a_slots a_variables a_steps a_words a_counters a_added a_own a_ownPhase a_storedPhase a_readPhase a_racePhase a_storedBy a_readBy a_readByMore a_doneCount : Nat → Int32} {post : SX → Prop} {n : Nat}, r < n → post (f_tokens, nI (l'), f_fault, f_compiled, f_open, f_waits, f_ended, f_threads, f_arg, f_phase, f_races, f_ran, f_over, a_kind, a_value, op', sl', st', nu', a_openKind, a_openOut, a_openStart, isC', cst, a_at, a_slots, a_variables, a_steps, a_words, a_counters, a_added, a_own, a_ownPhase, a_storedPhase, a_readPhase, a_racePhase, a_storedBy, a_readBy, a_readByMore, a_doneCount) →
        wX_operate_129 post (nI (K (e - (d + 1)))) (nI (base + (qe_h K e d - qe_ar (K (e - (d + 1)))))) (nI (qe_ar (K (e - (d + 1))))) n (nI (base + (qe_h K e d - qe_ar (K (e - (d + 1))) + i))) f_tokens (nI (l)) f_fault f_compiled f_open f_waits f_ended f_threads f_arg f_phase f_races f_ran f_over a_kind a_value op sl st nu a_openKind a_openOut a_openStart isC cst a_at a_slots a_variables a_steps a_words a_counters a_added a_own a_ownPhase a_storedPhase a_readPhase a_racePhase a_storedBy a_readBy a_readByMore a_doneCount := by
  have a1 := qe_ar1 k1
  have a3 := qe_ar_le (K (e - (d + 1)))
  induction r with
  | zero =>
    intro i l op sl st nu isC hi hl hC hz
    obtain ⟨h1, h2, h3, h4⟩ := hC
    have e1 : l - a + 1 = l + 1 - a := by omega
    have e2 : a + (l - a) = l := by omega
    have g := qe_C_op h2 k1 (by omega) ha (fun j hj1 hj2 => by
      have hh := hz (j - (qe_h K e d - qe_ar (K (e - (d + 1))))) (by omega)
      rwa [show qe_h K e d - qe_ar (K (e - (d + 1))) + (j - (qe_h K e d - qe_ar (K (e - (d + 1))))) = j by omega] at hh) (by omega) 0
    rw [e1, e2] at g
    have eh : qe_h K e (d + 1) = qe_h K e d - qe_ar (K (e - (d + 1))) + 1 := rfl
    refine ⟨l + 1, upd op l (nI (K (e - (d + 1)))), upd sl l (nI (base + (qe_h K e d - qe_ar (K (e - (d + 1)))))), upd st l (-1), upd nu l 0, isC, ⟨by omega, g, fun p hp1 hp2 => ?_, fun x hx => h4 x (by omega)⟩, by omega, by omega, qe_fr_up _ _ _ _, ?_⟩
    · by_cases ep : p = l
      · subst ep
        exact ⟨K (e - (d + 1)), base + (qe_h K e d - qe_ar (K (e - (d + 1)))), pk_us, pk_us, by omega, k2, k3, by omega, by omega, fun z => absurd z (by omega), pk_us⟩
      · exact qe_IO_fr (qe_fr_up _ _ _ _) (by omega) (h3 p hp1 (by omega))
    · intros
      rename_i n hn hp
      obtain ⟨m, rfl⟩ : ∃ m, n = m + 1 := ⟨n - 1, by omega⟩
      unfold wX_operate_129
      refine br_t ?_ ?_
      · rw [nI_add]
        exact nI_le (by omega) (by omega)
      · exact qc_emit (by omega) (by omega) (by omega) qz_bm1 hp
  | succ r ih =>
    intro i l op sl st nu isC hi hl hC hz
    obtain ⟨l1, op1, sl1, st1, nu1, isC1, hC1, hl1, hl2, _, hf1, hz1, hk1, hw1⟩ := qc_settle (j := qe_h K e d - qe_ar (K (e - (d + 1))) + i) (by omega) hC (by omega) (by omega)
    obtain ⟨l2, op2, sl2, st2, nu2, isC2, hC2, hm1, hm2, hf2, hw2⟩ := ih (i := i + 1) (by omega) (by omega) hC1 (fun j hj => by
      by_cases ej : j = i
      · rw [ej]; exact hz1
      · rw [hk1 _ (by omega)]; exact hz j (by omega))
    refine ⟨l2, op2, sl2, st2, nu2, isC2, hC2, by omega, by omega, qe_fr_tr hf1 hl1 hf2, ?_⟩
    intros
    rename_i n hn hp
    obtain ⟨m, rfl⟩ : ∃ m, n = m + 1 := ⟨n - 1, by omega⟩
    unfold wX_operate_129
    refine br_f ?_ ?_
    · rw [nI_add]
      exact nI_ge (by omega) (by omega)
    · refine hw1 ?_
      refine nm_r (nI_1 _) ?_
      exact hw2 (by omega) hp
/-- the first loop of operate, all operands constant -/
theorem qc_o16A {k s : Nat} (hk : 20 ≤ k) (hk2 : k ≤ 31) (hs : s + qe_ar k ≤ 18) {post : SX → Prop} {f_tokens f_length f_fault f_compiled f_open f_waits f_ended f_threads f_arg f_phase f_races f_ran f_over : Int32} {a_kind a_value a_op a_slot a_statement a_number a_openKind a_openOut a_openStart a_isConstant a_constant a_at a_slots a_variables a_steps a_words a_counters a_added a_own a_ownPhase a_storedPhase a_readPhase a_racePhase a_storedBy a_readBy a_readByMore a_doneCount : Nat → Int32}
    (hp : post (f_tokens, f_length, f_fault, f_compiled, f_open, f_waits, f_ended, f_threads, f_arg, f_phase, f_races, f_ran, f_over, a_kind, a_value, a_op, a_slot, a_statement, a_number, a_openKind, a_openOut, a_openStart, a_isConstant, upd a_constant s (qe_op k (a_constant (s + qe_ar k - 1)) (a_constant (s + qe_ar k - 2)) (a_constant (s + qe_ar k - 3))), a_at, a_slots, a_variables, a_steps, a_words, a_counters, a_added, a_own, a_ownPhase, a_storedPhase, a_readPhase, a_racePhase, a_storedBy, a_readBy, a_readByMore, a_doneCount)) (r : Nat) :
    ∀ {i n : Nat}, i + r = qe_ar k → r < n → (∀ j, j < qe_ar k → a_isConstant (s + j) = 1) → wX_operate_16 post (nI k) (nI s) (nI (qe_ar k)) f_tokens f_length f_fault f_compiled f_open f_waits f_ended f_threads f_arg f_phase f_races f_ran f_over a_kind a_value a_op a_slot a_statement a_number a_openKind a_openOut a_openStart a_isConstant a_constant a_at a_slots a_variables a_steps a_words a_counters a_added a_own a_ownPhase a_storedPhase a_readPhase a_racePhase a_storedBy a_readBy a_readByMore a_doneCount n 1 (nI (s + i)) := by
  have a1 := qe_ar1 (k := k) (by omega)
  have a3 := qe_ar_le k
  induction r with
  | zero =>
    intro i n hi hn hc
    obtain ⟨m, rfl⟩ : ∃ m, n = m + 1 := ⟨n - 1, by omega⟩
    have vi : ∀ x, x < 18 → vp_in (nI x) 18 := fun x hx => vp_in_nI hx (by decide)
    have ec : (nI s).toNatClampNeg = s := nI_clamp (by omega)
    unfold wX_operate_16
    refine br_t ?_ (br_f (by decide) ?_)
    · rw [nI_add]
      exact nI_le (by omega) (by omega)
    by_cases h1 : qe_ar k = 1
    · rw [h1] at hp ⊢
      have hk29 : k = 29 ∨ k = 30 := by
        rcases qe_ar_b (k := k) (by omega) (by omega) with h | h | h <;> omega
      refine br_t (by decide) ⟨vi s (by omega), ?_⟩
      rw [ec]
      exact qc_single hk29 ⟨vi s (by omega), nm_r rfl hp⟩
    · refine br_f (qz_ne h1 (by omega) (by decide)) ?_
      by_cases h2 : qe_ar k = 2
      · rw [h2] at hp ⊢
        have hk28 : k ≤ 28 := by
          by_cases h : k ≤ 28
          · exact h
          · rcases (show k = 29 ∨ k = 30 ∨ k = 31 by omega) with rfl | rfl | rfl <;> exact absurd h2 (by decide)
        have ec1 : (nI s + 1).toNatClampNeg = s + 1 := by rw [nI_1, nI_clamp (by omega)]
        refine br_t (by decide) ⟨by rw [nI_1]; exact vi _ (by omega), vi s (by omega), ?_⟩
        rw [ec, ec1]
        exact qc_pair hk hk28 ⟨vi s (by omega), nm_r rfl hp⟩
      · have hk31 : k = 31 := by
          by_cases h : k = 31
          · exact h
          · exfalso
            apply h2
            unfold qe_ar at h1 ⊢
            by_cases g29 : k = 29
            · subst g29; exact absurd rfl h1
            · by_cases g30 : k = 30
              · subst g30; exact absurd rfl h1
              · rw [if_neg (by omega), if_neg (by omega), if_neg g29, if_neg g30, if_neg h]
        subst hk31
        have hp' : post (f_tokens, f_length, f_fault, f_compiled, f_open, f_waits, f_ended, f_threads, f_arg, f_phase, f_races, f_ran, f_over, a_kind, a_value, a_op, a_slot, a_statement, a_number, a_openKind, a_openOut, a_openStart, a_isConstant, upd a_constant s (if a_constant (s + 2) = 0 then a_constant s else a_constant (s + 1)), a_at, a_slots, a_variables, a_steps, a_words, a_counters, a_added, a_own, a_ownPhase, a_storedPhase, a_readPhase, a_racePhase, a_storedBy, a_readBy, a_readByMore, a_doneCount) := hp
        have ec1 : (nI s + 1).toNatClampNeg = s + 1 := by rw [nI_1, nI_clamp (by omega)]
        have ec2 : (nI s + 2).toNatClampNeg = s + 2 := by rw [show (nI s + 2 : Int32) = nI (s + 2) from nI_add s 2, nI_clamp (by omega)]
        have hs3 : s + 3 ≤ 18 := hs
        refine br_f (by decide) ⟨by rw [show (nI s + 2 : Int32) = nI (s + 2) from nI_add s 2]; exact vi _ (by omega), ?_⟩
        rw [ec, ec1, ec2]
        refine ⟨fun g => ⟨vi s (by omega), vi s (by omega), nm_r rfl ?_⟩, fun g => ⟨by rw [nI_1]; exact vi _ (by omega), vi s (by omega), nm_r rfl ?_⟩⟩
        · rw [if_pos g] at hp'; exact hp'
        · rw [if_neg g] at hp'; exact hp'
  | succ r ih =>
    intro i n hi hn hc
    obtain ⟨m, rfl⟩ : ∃ m, n = m + 1 := ⟨n - 1, by omega⟩
    unfold wX_operate_16
    refine br_f ?_ ⟨vp_in_nI (by omega) (by decide), nm_r (e' := 1) ?_ (nm_r (nI_1 _) ?_)⟩
    · rw [nI_add]
      exact nI_ge (by omega) (by omega)
    · rw [nI_clamp (by omega), hc i (by omega)]
      decide
    · exact ih (i := i + 1) (by omega) (by omega) hc
/-- the first loop of operate, some operand no constant, or none asked for -/
theorem qc_o16B {k s m : Nat} (hs : s + m ≤ 18) {post : SX → Prop} {f_tokens f_length f_fault f_compiled f_open f_waits f_ended f_threads f_arg f_phase f_races f_ran f_over : Int32} {a_kind a_value a_op a_slot a_statement a_number a_openKind a_openOut a_openStart a_isConstant a_constant a_at a_slots a_variables a_steps a_words a_counters a_added a_own a_ownPhase a_storedPhase a_readPhase a_racePhase a_storedBy a_readBy a_readByMore a_doneCount : Nat → Int32}
    (hp : ∃ n129 : Nat, wX_operate_129 post (nI k) (nI s) (nI m) n129 (nI s) f_tokens f_length f_fault f_compiled f_open f_waits f_ended f_threads f_arg f_phase f_races f_ran f_over a_kind a_value a_op a_slot a_statement a_number a_openKind a_openOut a_openStart a_isConstant a_constant a_at a_slots a_variables a_steps a_words a_counters a_added a_own a_ownPhase a_storedPhase a_readPhase a_racePhase a_storedBy a_readBy a_readByMore a_doneCount) (r : Nat) :
    ∀ {i n : Nat} {x4 : Int32}, i + r = m → r < n → (x4 = 0 ∨ x4 = 1) → (x4 = 0 ∨ ∃ j, i ≤ j ∧ j < m ∧ a_isConstant (s + j) = 0) → (∀ j, j < m → a_isConstant (s + j) = 0 ∨ a_isConstant (s + j) = 1) →
      wX_operate_16 post (nI k) (nI s) (nI m) f_tokens f_length f_fault f_compiled f_open f_waits f_ended f_threads f_arg f_phase f_races f_ran f_over a_kind a_value a_op a_slot a_statement a_number a_openKind a_openOut a_openStart a_isConstant a_constant a_at a_slots a_variables a_steps a_words a_counters a_added a_own a_ownPhase a_storedPhase a_readPhase a_racePhase a_storedBy a_readBy a_readByMore a_doneCount n x4 (nI (s + i)) := by
  induction r with
  | zero =>
    intro i n x4 hi hn h01 h0 hc
    obtain ⟨q, rfl⟩ : ∃ q, n = q + 1 := ⟨n - 1, by omega⟩
    have hz : x4 = 0 := by
      rcases h0 with h | ⟨j, h1, h2, _⟩
      · exact h
      · omega
    unfold wX_operate_16
    refine br_t ?_ (br_t hz hp)
    rw [nI_add]
    exact nI_le (by omega) (by omega)
  | succ r ih =>
    intro i n x4 hi hn h01 h0 hc
    obtain ⟨q, rfl⟩ : ∃ q, n = q + 1 := ⟨n - 1, by omega⟩
    unfold wX_operate_16
    refine br_f ?_ ⟨vp_in_nI (by omega) (by decide), nm_r (e' := x4 &&& a_isConstant (s + i)) (by rw [nI_clamp (by omega)]) (nm_r (nI_1 _) ?_)⟩
    · rw [nI_add]
      exact nI_ge (by omega) (by omega)
    · refine ih (i := i + 1) (by omega) (by omega) ?_ ?_ hc
      · rcases h01 with h | h <;> rcases hc i (by omega) with g | g <;> rw [h, g] <;> decide
      · rcases hc i (by omega) with g | g
        · left
          rcases h01 with h | h <;> rw [h, g] <;> decide
        · rcases h0 with h | ⟨j, h1, h2, h3⟩
          · left
            rw [h, g]
            decide
          · by_cases ej : j = i
            · subst ej
              rw [h3] at g
              exact absurd g (by decide)
            · exact Or.inr ⟨j, by omega, h2, h3⟩
/-- operate: an operator's token -/
theorem qc_operate (k1 : ¬ K (e - (d + 1)) < 15) (k2 : K (e - (d + 1)) ≤ 31) (k3 : K (e - (d + 1)) ≤ 16 ∨ 20 ≤ K (e - (d + 1))) (ha : qe_ar (K (e - (d + 1))) ≤ qe_h K e d) (hb : base + qe_h K e d ≤ 18)
    (hl : l + qe_ar (K (e - (d + 1))) < 224) (hC : qe_K K V e base a d l op sl st nu isC cst) :
    ∃ (l' : Nat) (op' sl' st' nu' isC' cst' : Nat → Int32), qe_K K V e base a (d + 1) l' op' sl' st' nu' isC' cst' ∧ l ≤ l' ∧ l' ≤ l + qe_ar (K (e - (d + 1))) + 1 ∧ qe_fr l op sl st nu op' sl' st' nu' ∧
      ∀ {f_tokens f_fault f_compiled f_open f_waits f_ended f_threads f_arg f_phase f_races f_ran f_over : Int32} {a_kind a_value a_openKind a_openOut a_openStart a_at a_slots a_variables a_steps a_words a_counters a_added a_own a_ownPhase a_storedPhase a_readPhase a_racePhase a_storedBy a_readBy a_readByMore a_doneCount : Nat → Int32} {post : SX → Prop}, post (f_tokens, nI (l'), f_fault, f_compiled, f_open, f_waits, f_ended, f_threads, f_arg, f_phase, f_races, f_ran, f_over, a_kind, a_value, op', sl', st', nu', a_openKind, a_openOut, a_openStart, isC', cst', a_at, a_slots, a_variables, a_steps, a_words, a_counters, a_added, a_own, a_ownPhase, a_storedPhase, a_readPhase, a_racePhase, a_storedBy, a_readBy, a_readByMore, a_doneCount) → wpX_operate post (f_tokens, nI (l), f_fault, f_compiled, f_open, f_waits, f_ended, f_threads, f_arg, f_phase, f_races, f_ran, f_over, a_kind, a_value, op, sl, st, nu, a_openKind, a_openOut, a_openStart, isC, cst, a_at, a_slots, a_variables, a_steps, a_words, a_counters, a_added, a_own, a_ownPhase, a_storedPhase, a_readPhase, a_racePhase, a_storedBy, a_readBy, a_readByMore, a_doneCount) (nI (K (e - (d + 1)))) (nI (base + (qe_h K e d - qe_ar (K (e - (d + 1)))))) (nI (qe_ar (K (e - (d + 1))))) := by
  have a1 := qe_ar1 k1
  have a3 := qe_ar_le (K (e - (d + 1)))
  have h4 := hC.2.2.2
  by_cases hf : 20 ≤ K (e - (d + 1)) ∧ ∀ j, j < qe_ar (K (e - (d + 1))) → isC (base + (qe_h K e d - qe_ar (K (e - (d + 1)))) + j) = 1
  · obtain ⟨hf1, hf2⟩ := hf
    obtain ⟨h1, h2, h3, _⟩ := hC
    have eh : qe_h K e (d + 1) = qe_h K e d - qe_ar (K (e - (d + 1))) + 1 := rfl
    have q1 : base + (qe_h K e d - qe_ar (K (e - (d + 1)))) + qe_ar (K (e - (d + 1))) - 1 = base + (qe_h K e d - 1) := by omega
    have q2 : 2 ≤ qe_ar (K (e - (d + 1))) → base + (qe_h K e d - qe_ar (K (e - (d + 1)))) + qe_ar (K (e - (d + 1))) - 2 = base + (qe_h K e d - 2) := by omega
    have q3 : 3 ≤ qe_ar (K (e - (d + 1))) → base + (qe_h K e d - qe_ar (K (e - (d + 1)))) + qe_ar (K (e - (d + 1))) - 3 = base + (qe_h K e d - 3) := by omega
    have hv : qe_op (K (e - (d + 1))) (cst (base + (qe_h K e d - qe_ar (K (e - (d + 1)))) + qe_ar (K (e - (d + 1))) - 1)) (cst (base + (qe_h K e d - qe_ar (K (e - (d + 1)))) + qe_ar (K (e - (d + 1))) - 2)) (cst (base + (qe_h K e d - qe_ar (K (e - (d + 1)))) + qe_ar (K (e - (d + 1))) - 3)) = qe_op (K (e - (d + 1))) (cst (base + (qe_h K e d - 1))) (cst (base + (qe_h K e d - 2))) (cst (base + (qe_h K e d - 3))) := by
      have g := qe_v_congr (E := (cst, cst, cst, 0, 0, 0)) (k := K (e - (d + 1))) (x := 0) (fun _ => congrArg cst q1) (fun g => congrArg cst (q2 g)) (fun g => congrArg cst (q3 g))
      unfold qe_v at g
      rw [if_neg k1, if_neg (by omega), if_neg (by omega), if_neg k1, if_neg (by omega), if_neg (by omega)] at g
      exact g
    have g := qe_C_fold h2 hf1 ha (fun j hj1 hj2 => by
      have hh := hf2 (j - (qe_h K e d - qe_ar (K (e - (d + 1))))) (by omega)
      rw [show base + (qe_h K e d - qe_ar (K (e - (d + 1)))) + (j - (qe_h K e d - qe_ar (K (e - (d + 1))))) = base + j by omega] at hh
      rw [hh]
      decide) hv
    refine ⟨l, op, sl, st, nu, isC, _, ⟨h1, g, h3, fun x hx => h4 x (by omega)⟩, by omega, by omega, qe_fr_rf, ?_⟩
    intros
    rename_i hp
    unfold wpX_operate
    dsimp only
    refine br_f (nI_nlt (b := 20) (by omega) (by omega)) ⟨qe_ar (K (e - (d + 1))) + 1, ?_⟩
    exact qc_o16A hf1 k2 (by omega) hp (qe_ar (K (e - (d + 1)))) (i := 0) (by omega) (by omega) hf2
  · obtain ⟨l', op', sl', st', nu', isC', hC', hl1, hl2, hfr, hw⟩ := qc_o129 k1 k2 k3 ha hb (qe_ar (K (e - (d + 1)))) (i := 0) (by omega) hl hC (fun j hj => absurd hj (Nat.not_lt_zero j))
    refine ⟨l', op', sl', st', nu', isC', cst, hC', by omega, by omega, hfr, ?_⟩
    intros
    rename_i hp
    have h01 : ∀ j, j < qe_ar (K (e - (d + 1))) → isC (base + (qe_h K e d - qe_ar (K (e - (d + 1)))) + j) = 0 ∨ isC (base + (qe_h K e d - qe_ar (K (e - (d + 1)))) + j) = 1 := by
      intro j hj
      rw [Nat.add_assoc]
      exact h4 _ (by omega)
    have hw' := hw (n := qe_ar (K (e - (d + 1))) + 1) (by omega) hp
    unfold wpX_operate
    dsimp only
    refine pk_lt (K (e - (d + 1))) 20 (fun g => ?_) (fun g => ?_)
    · exact ⟨qe_ar (K (e - (d + 1))) + 1, qc_o16B (by omega) ⟨_, hw'⟩ (qe_ar (K (e - (d + 1)))) (i := 0) (by omega) (by omega) (Or.inl rfl) (Or.inl rfl) h01⟩
    · refine ⟨qe_ar (K (e - (d + 1))) + 1, qc_o16B (by omega) ⟨_, hw'⟩ (qe_ar (K (e - (d + 1)))) (i := 0) (by omega) (by omega) (Or.inr rfl) (Or.inr ?_) h01⟩
      apply Classical.byContradiction
      intro hn
      apply hf
      refine ⟨g, fun j hj => ?_⟩
      rcases h01 j hj with h | h
      · exact absurd ⟨j, Nat.zero_le j, hj, h⟩ hn
      · exact h
end
end
section
/-! the component's endOf, expression, one, two -/
def qe_T (N : Nat) (kd V : Nat → Int32) (K : Nat → Nat) : Prop := N ≤ 64 ∧ ∀ i, i < N → kd i = nI (K i) ∧ qe_ok (K i) ∧ (K i = 0 ∨ K i = 11 → qe_V6 (V i))
/-- the code from a up to b is an expression's (f up to e), its value comes to slot base -/
def qe_X (K : Nat → Nat) (V : Nat → Int32) (f e base : Nat) (op sl st nu : Nat → Int32) (a b : Nat) : Prop :=
  a ≤ b ∧ b ≤ a + 2 * (e - f) ∧ (∀ p, a ≤ p → p < b → qe_IO op sl st nu p) ∧
  ∀ (E : qe_E) (z y : qe_S), z.2 = y.2 → (qe_run op sl nu E a z (b - a)).2 = (qe_y E K V e y (e - f)).2 ∧ (∀ j, j < base → (qe_run op sl nu E a z (b - a)).1 j = z.1 j) ∧ (qe_run op sl nu E a z (b - a)).1 base = (qe_y E K V e y (e - f)).1 0
theorem qe_X_fr {K : Nat → Nat} {V : Nat → Int32} {f e base l a b : Nat} {op sl st nu op' sl' st' nu' : Nat → Int32} (h : qe_fr l op sl st nu op' sl' st' nu') (hb : b ≤ l) (g : qe_X K V f e base op sl st nu a b) : qe_X K V f e base op' sl' st' nu' a b := by
  obtain ⟨g1, g2, g3, g4⟩ := g
  refine ⟨g1, g2, fun p h1 h2 => qe_IO_fr h (by omega) (g3 p h1 h2), fun E z y hz => ?_⟩
  rw [qe_run_congr (b - a) (fun p h1 h2 => ⟨(h p (by omega)).1, (h p (by omega)).2.1, (h p (by omega)).2.2.2⟩)]
  exact g4 E z y hz
section
variable {N : Nat} {kd V : Nat → Int32} {K : Nat → Nat} {f e base a : Nat}
theorem qc_expr8 (hT : qe_T N kd V K) (hP : qe_P K f e) (hf : 1 ≤ f) (he : e ≤ N) (hb : base ≤ 1) (haa : a + 40 ≤ 224) (r : Nat) :
    ∀ {d l : Nat} {op sl st nu isC cst : Nat → Int32}, d + r = e - f → l + qe_h K e d ≤ a + 2 * d → qe_K K V e base a d l op sl st nu isC cst →
    ∃ (l' : Nat) (op' sl' st' nu' isC' cst' : Nat → Int32), qe_K K V e base a (e - f) l' op' sl' st' nu' isC' cst' ∧ l ≤ l' ∧ l' + 1 ≤ a + 2 * (e - f) ∧ qe_fr l op sl st nu op' sl' st' nu' ∧
      ∀ {f_tokens f_fault f_compiled f_open f_waits f_ended f_threads f_arg f_phase f_races f_ran f_over : Int32} {a_openKind a_openOut a_openStart a_at a_slots a_variables a_steps a_words a_counters a_added a_own a_ownPhase a_storedPhase a_readPhase a_racePhase a_storedBy a_readBy a_readByMore a_doneCount : Nat → Int32} {post : SX → Prop} {n : Nat}, r < n → post (f_tokens, nI (l'), f_fault, f_compiled, f_open, f_waits, f_ended, f_threads, f_arg, f_phase, f_races, f_ran, f_over, kd, V, op', sl', st', nu', a_openKind, a_openOut, a_openStart, isC', cst', a_at, a_slots, a_variables, a_steps, a_words, a_counters, a_added, a_own, a_ownPhase, a_storedPhase, a_readPhase, a_racePhase, a_storedBy, a_readBy, a_readByMore, a_doneCount) →
        wX_expression_8 post (nI f) n (nI (base + qe_h K e d)) (nI (e - (d + 1))) f_tokens (nI (l)) f_fault f_compiled f_open f_waits f_ended f_threads f_arg f_phase f_races f_ran f_over kd V op sl st nu a_openKind a_openOut a_openStart isC cst a_at a_slots a_variables a_steps a_words a_counters a_added a_own a_ownPhase a_storedPhase a_readPhase a_racePhase a_storedBy a_readBy a_readByMore a_doneCount := by
  obtain ⟨hN, hT⟩ := hT
  have hP1 := hP.1
  have hP2 := hP.2.1
  induction r with
  | zero =>
    intro d l op sl st nu isC cst hd hl hC
    have ed : d = e - f := by omega
    subst ed
    have h1 := qe_h_end hP
    refine ⟨l, op, sl, st, nu, isC, cst, hC, Nat.le_refl l, by omega, qe_fr_rf, ?_⟩
    intros
    rename_i n hn hp
    obtain ⟨m, rfl⟩ : ∃ m, n = m + 1 := ⟨n - 1, by omega⟩
    unfold wX_expression_8
    exact br_t (nI_lt (by omega) (by omega)) hp
  | succ r ih =>
    intro d l op sl st nu isC cst hd hl hC
    obtain ⟨tk, tok, tv⟩ := hT (e - (d + 1)) (by omega)
    have k10 := qe_P_k hP (d := d) (by omega)
    have k31 : K (e - (d + 1)) ≤ 31 ∧ (K (e - (d + 1)) ≤ 16 ∨ 20 ≤ K (e - (d + 1))) := by
      rcases tok with h | h | h <;> omega
    have hle := qe_h_le K e d
    have har := qe_h_ar hP (d := d) (by omega)
    have hnl : ¬ nI (e - (d + 1)) < nI f := nI_nlt (by omega) (by omega)
    have vi : vp_in (nI (e - (d + 1))) 64 := vp_in_nI (by omega) (by decide)
    have ci : (nI (e - (d + 1))).toNatClampNeg = e - (d + 1) := nI_clamp (by omega)
    have vs : vp_in (nI (base + qe_h K e d)) 18 := vp_in_nI (by omega) (by decide)
    have cs : (nI (base + qe_h K e d)).toNatClampNeg = base + qe_h K e d := nI_clamp (by omega)
    have x5n : nI (e - (d + 1)) + (-1) = nI (e - (d + 1 + 1)) := by
      rw [qz_mm (by omega)]
      exact congrArg nI (by omega)
    by_cases hk : K (e - (d + 1)) = 10
    · have eh : qe_h K e (d + 1) = qe_h K e d + 1 := by show qe_h K e d - qe_ar (K (e - (d + 1))) + 1 = _; rw [hk]; rfl
      have x4n : nI (base + qe_h K e d) + 1 = nI (base + qe_h K e (d + 1)) := by rw [nI_1, eh]; rfl
      obtain ⟨h1, h2, h3, h4⟩ := hC
      obtain ⟨l', op', sl', st', nu', isC', cst', hC', g1, g2, g3, hw⟩ := ih (d := d + 1) (l := l) (op := op) (sl := sl) (st := st) (nu := nu) (isC := upd isC (base + qe_h K e d) 1) (cst := upd cst (base + qe_h K e d) (V (e - (d + 1)))) (by omega) (by omega) ⟨h1, qe_C_num h2 hk, h3, fun j hj => by
        by_cases ej : j = qe_h K e d
        · rw [ej, pk_us]; exact Or.inr rfl
        · rw [pk_un (show base + j ≠ base + qe_h K e d by omega)]; exact h4 j (by omega)⟩
      refine ⟨l', op', sl', st', nu', isC', cst', hC', g1, g2, g3, ?_⟩
      intros
      rename_i n hn hp
      obtain ⟨m, rfl⟩ : ∃ m, n = m + 1 := ⟨n - 1, by omega⟩
      unfold wX_expression_8
      refine br_f hnl ⟨vi, nm_r (e' := nI (K (e - (d + 1)))) (by rw [ci]; exact tk) ?_⟩
      refine qc_arity (by omega) ?_
      refine br_t (by rw [hk]; rfl) ⟨vs, nm_r (e' := upd isC (base + qe_h K e d) 1) (by rw [cs, qz_z1]) ?_⟩
      refine nm_r x4n ⟨vi, vs, nm_r (e' := upd cst (base + qe_h K e d) (V (e - (d + 1)))) (by rw [cs, ci]) ?_⟩
      exact nm_r x5n (hw (by omega) hp)
    · have hk' : ¬ nI (K (e - (d + 1))) = 10 := qz_ne (b := 10) hk (by omega) (by decide)
      by_cases h15 : K (e - (d + 1)) < 15
      · have ea := qe_ar0 h15
        have eh : qe_h K e (d + 1) = qe_h K e d + 1 := by show qe_h K e d - qe_ar (K (e - (d + 1))) + 1 = _; rw [ea]; rfl
        have x4n : nI (base + qe_h K e d) + 1 = nI (base + qe_h K e (d + 1)) := by rw [nI_1, eh]; rfl
        obtain ⟨h1, h2, h3, h4⟩ := hC
        have e1 : l - a + 1 = l + 1 - a := by omega
        have e2 : a + (l - a) = l := by omega
        have g := qe_C_leaf h2 h15 (by omega)
        rw [e1, e2] at g
        obtain ⟨l', op', sl', st', nu', isC', cst', hC', g1, g2, g3, hw⟩ := ih (d := d + 1) (l := l + 1) (by omega) (by omega) ⟨by omega, g, fun p hp1 hp2 => by
          by_cases ep : p = l
          · subst ep
            refine ⟨K (e - (d + 1)), base + qe_h K e d, pk_us, pk_us, k10, by omega, k31.2, by omega, by omega, fun z => ?_, pk_us (f := st) (x := -1)⟩
            rw [pk_us]
            exact tv (Or.inr z)
          · exact qe_IO_fr (qe_fr_up _ _ _ _) (by omega) (h3 p hp1 (by omega)), fun j hj => by
          by_cases ej : j = qe_h K e d
          · rw [ej, pk_us]; exact Or.inl rfl
          · rw [pk_un (show base + j ≠ base + qe_h K e d by omega)]; exact h4 j (by omega)⟩
        refine ⟨l', op', sl', st', nu', isC', cst', hC', by omega, g2, qe_fr_tr (qe_fr_up _ _ _ _) (by omega) g3, ?_⟩
        intros
        rename_i n hn hp
        obtain ⟨m, rfl⟩ : ∃ m, n = m + 1 := ⟨n - 1, by omega⟩
        unfold wX_expression_8
        refine br_f hnl ⟨vi, nm_r (e' := nI (K (e - (d + 1)))) (by rw [ci]; exact tk) ?_⟩
        refine qc_arity (by omega) ?_
        rw [ea]
        refine br_f hk' (br_t rfl ⟨vs, nm_r (e' := upd isC (base + qe_h K e d) 0) (by rw [cs, qz_z0]) ?_⟩)
        refine nm_r x4n ⟨vi, ?_⟩
        rw [ci]
        refine qc_emit (by omega) (by omega) (by omega) qz_bm1 ?_
        exact nm_r x5n (hw (by omega) hp)
      · have a1 := qe_ar1 h15
        have eh : qe_h K e (d + 1) = qe_h K e d - qe_ar (K (e - (d + 1))) + 1 := rfl
        obtain ⟨l1, op1, sl1, st1, nu1, isC1, cst1, hC1, hl1, hl2, hf1, hw1⟩ := qc_operate h15 k31.1 k31.2 har (by omega) (by omega) hC
        obtain ⟨l', op', sl', st', nu', isC', cst', hC', g1, g2, g3, hw⟩ := ih (d := d + 1) (by omega) (by omega) hC1
        refine ⟨l', op', sl', st', nu', isC', cst', hC', by omega, g2, qe_fr_tr hf1 hl1 g3, ?_⟩
        intros
        rename_i n hn hp
        obtain ⟨m, rfl⟩ : ∃ m, n = m + 1 := ⟨n - 1, by omega⟩
        unfold wX_expression_8
        refine br_f hnl ⟨vi, nm_r (e' := nI (K (e - (d + 1)))) (by rw [ci]; exact tk) ?_⟩
        refine qc_arity (by omega) ?_
        refine br_f hk' (br_f (qz_ne (b := 0) (by omega) (by omega) (by decide)) ?_)
        refine nm_r (e' := nI (base + (qe_h K e d - qe_ar (K (e - (d + 1)))))) (by rw [pk_sub (by omega)]; exact congrArg nI (by omega)) ?_
        refine hw1 ?_
        exact nm_r (nI_1 _) (nm_r x5n (hw (by omega) hp))
/-- expression and settle behind it -/
theorem qc_expr {l : Nat} {op sl st nu isC cst : Nat → Int32} (hT : qe_T N kd V K) (hP : qe_P K f e) (hf : 1 ≤ f) (he : e ≤ N) (hb : base ≤ 1) (hl : l + 40 ≤ 224) :
    ∃ (l' : Nat) (op' sl' st' nu' isC' cst' : Nat → Int32), qe_X K V f e base op' sl' st' nu' l l' ∧ qe_fr l op sl st nu op' sl' st' nu' ∧
      ∀ {f_tokens f_fault f_compiled f_open f_waits f_ended f_threads f_arg f_phase f_races f_ran f_over : Int32} {a_openKind a_openOut a_openStart a_at a_slots a_variables a_steps a_words a_counters a_added a_own a_ownPhase a_storedPhase a_readPhase a_racePhase a_storedBy a_readBy a_readByMore a_doneCount : Nat → Int32} {post : SX → Prop}, post (f_tokens, nI (l'), f_fault, f_compiled, f_open, f_waits, f_ended, f_threads, f_arg, f_phase, f_races, f_ran, f_over, kd, V, op', sl', st', nu', a_openKind, a_openOut, a_openStart, isC', cst', a_at, a_slots, a_variables, a_steps, a_words, a_counters, a_added, a_own, a_ownPhase, a_storedPhase, a_readPhase, a_racePhase, a_storedBy, a_readBy, a_readByMore, a_doneCount) →
        wpX_expression (fun u => match u with | (f_tokens, f_length, f_fault, f_compiled, f_open, f_waits, f_ended, f_threads, f_arg, f_phase, f_races, f_ran, f_over, a_kind, a_value, a_op, a_slot, a_statement, a_number, a_openKind, a_openOut, a_openStart, a_isConstant, a_constant, a_at, a_slots, a_variables, a_steps, a_words, a_counters, a_added, a_own, a_ownPhase, a_storedPhase, a_readPhase, a_racePhase, a_storedBy, a_readBy, a_readByMore, a_doneCount) => wpX_settle post (f_tokens, f_length, f_fault, f_compiled, f_open, f_waits, f_ended, f_threads, f_arg, f_phase, f_races, f_ran, f_over, a_kind, a_value, a_op, a_slot, a_statement, a_number, a_openKind, a_openOut, a_openStart, a_isConstant, a_constant, a_at, a_slots, a_variables, a_steps, a_words, a_counters, a_added, a_own, a_ownPhase, a_storedPhase, a_readPhase, a_racePhase, a_storedBy, a_readBy, a_readByMore, a_doneCount) (nI base)) (f_tokens, nI (l), f_fault, f_compiled, f_open, f_waits, f_ended, f_threads, f_arg, f_phase, f_races, f_ran, f_over, kd, V, op, sl, st, nu, a_openKind, a_openOut, a_openStart, isC, cst, a_at, a_slots, a_variables, a_steps, a_words, a_counters, a_added, a_own, a_ownPhase, a_storedPhase, a_readPhase, a_racePhase, a_storedBy, a_readBy, a_readByMore, a_doneCount) (nI f) (nI e) (nI base) := by
  have hP1 := hP.1
  have hP2 := hP.2.1
  have hh := qe_h_end hP
  obtain ⟨l1, op1, sl1, st1, nu1, isC1, cst1, hC1, g1, g2, g3, hw1⟩ := qc_expr8 (a := l) (base := base) hT hP hf he hb hl (e - f) (d := 0) (l := l) (op := op) (sl := sl) (st := st) (nu := nu) (isC := isC) (cst := cst) (by omega) (by show l + 0 ≤ _; omega) ⟨Nat.le_refl l, by rw [Nat.sub_self]; exact qe_C0, fun p h1 h2 => absurd h1 (by omega), fun j hj => absurd hj (Nat.not_lt_zero j)⟩
  obtain ⟨l2, op2, sl2, st2, nu2, isC2, hC2, m1, m2, _, m3, m4, _, hw2⟩ := qc_settle (j := 0) (by omega) hC1 (by omega) (by omega)
  obtain ⟨c1, c2, c3, c4⟩ := hC2
  refine ⟨l2, op2, sl2, st2, nu2, isC2, cst1, ⟨c1, by omega, c3, fun E z y hz => ?_⟩, qe_fr_tr g3 g1 m3, ?_⟩
  · obtain ⟨q1, q2, q3⟩ := c2 E z y hz
    refine ⟨q1, q2, (q3 0 (by omega)).1 m4⟩
  · intros
    rename_i hp
    unfold wpX_expression
    dsimp only
    refine nm_r (e' := nI (e - (0 + 1))) (qz_m (by omega)) ⟨e - f + 1, ?_⟩
    refine hw1 (by omega) ?_
    exact hw2 hp
theorem qc_endOf4 (hT : qe_T N kd V K) (r : Nat) : ∀ {j : Nat}, j + r = 17 → j ≤ 16 → f + j ≤ N → (∀ i, i < j → 1 ≤ qe_ms K f i ∧ 10 ≤ K (f + i)) →
    (∃ e, qe_P K f e ∧ e ≤ N ∧ ∀ {f_length f_fault f_compiled f_open f_waits f_ended f_threads f_arg f_phase f_races f_ran f_over : Int32} {a_value a_op a_slot a_statement a_number a_openKind a_openOut a_openStart a_isConstant a_constant a_at a_slots a_variables a_steps a_words a_counters a_added a_own a_ownPhase a_storedPhase a_readPhase a_racePhase a_storedBy a_readBy a_readByMore a_doneCount : Nat → Int32} {post : Int32 → SX → Prop} {n : Nat}, r < n → post (nI e) (nI N, f_length, f_fault, f_compiled, f_open, f_waits, f_ended, f_threads, f_arg, f_phase, f_races, f_ran, f_over, kd, a_value, a_op, a_slot, a_statement, a_number, a_openKind, a_openOut, a_openStart, a_isConstant, a_constant, a_at, a_slots, a_variables, a_steps, a_words, a_counters, a_added, a_own, a_ownPhase, a_storedPhase, a_readPhase, a_racePhase, a_storedBy, a_readBy, a_readByMore, a_doneCount) → wX_endOf_4 post (nI f) (nI N) f_length f_fault f_compiled f_open f_waits f_ended f_threads f_arg f_phase f_races f_ran f_over kd a_value a_op a_slot a_statement a_number a_openKind a_openOut a_openStart a_isConstant a_constant a_at a_slots a_variables a_steps a_words a_counters a_added a_own a_ownPhase a_storedPhase a_readPhase a_racePhase a_storedBy a_readBy a_readByMore a_doneCount n (nI (qe_ms K f j)) (nI (f + j))) ∨
    (∃ g, qe_F K N f g ∧ ∀ {f_length f_fault f_compiled f_open f_waits f_ended f_threads f_arg f_phase f_races f_ran f_over : Int32} {a_value a_op a_slot a_statement a_number a_openKind a_openOut a_openStart a_isConstant a_constant a_at a_slots a_variables a_steps a_words a_counters a_added a_own a_ownPhase a_storedPhase a_readPhase a_racePhase a_storedBy a_readBy a_readByMore a_doneCount : Nat → Int32} {post : Int32 → SX → Prop} {n : Nat}, r < n → post (-1) (nI N, f_length, nI g, f_compiled, f_open, f_waits, f_ended, f_threads, f_arg, f_phase, f_races, f_ran, f_over, kd, a_value, a_op, a_slot, a_statement, a_number, a_openKind, a_openOut, a_openStart, a_isConstant, a_constant, a_at, a_slots, a_variables, a_steps, a_words, a_counters, a_added, a_own, a_ownPhase, a_storedPhase, a_readPhase, a_racePhase, a_storedBy, a_readBy, a_readByMore, a_doneCount) → wX_endOf_4 post (nI f) (nI N) f_length f_fault f_compiled f_open f_waits f_ended f_threads f_arg f_phase f_races f_ran f_over kd a_value a_op a_slot a_statement a_number a_openKind a_openOut a_openStart a_isConstant a_constant a_at a_slots a_variables a_steps a_words a_counters a_added a_own a_ownPhase a_storedPhase a_readPhase a_racePhase a_storedBy a_readBy a_readByMore a_doneCount n (nI (qe_ms K f j)) (nI (f + j))) := by
  obtain ⟨hN, hT⟩ := hT
  induction r with
  | zero => intro j h1 h2; omega
  | succ r ih =>
    intro j hj hj2 hfj hp
    have hml := qe_ms_le K f j
    by_cases h0 : qe_ms K f j = 0
    · left
      have j0 : j ≠ 0 := by
        intro z
        subst z
        have h00 : (1 : Nat) = 0 := h0
        omega
      refine ⟨f + j, ⟨by omega, by omega, by rw [Nat.add_sub_cancel_left]; exact h0, fun i hi => hp i (by omega)⟩, hfj, ?_⟩
      intros
      rename_i n hn hpo
      obtain ⟨m, rfl⟩ : ∃ m, n = m + 1 := ⟨n - 1, by omega⟩
      unfold wX_endOf_4
      refine br_t ?_ hpo
      rw [h0]
      decide
    · have hpos : ¬ nI (qe_ms K f j) ≤ 0 := nI_ge (a := 0) (b := qe_ms K f j) (by omega) (by omega)
      by_cases hN1 : f + j = N
      · right
        refine ⟨f + j, ⟨by omega, by omega, hfj, fun i hi => hp i (by omega), by rw [Nat.add_sub_cancel_left]; omega, Or.inl hN1⟩, ?_⟩
        intros
        rename_i n hn hpo
        obtain ⟨m, rfl⟩ : ∃ m, n = m + 1 := ⟨n - 1, by omega⟩
        unfold wX_endOf_4
        exact br_f hpos (br_t (by rw [hN1]) hpo)
      · have hNe : ¬ nI (f + j) = nI N := qz_ne hN1 (by omega) (by omega)
        have vi : vp_in (nI (f + j)) 64 := vp_in_nI (by omega) (by decide)
        have ci : (nI (f + j)).toNatClampNeg = f + j := nI_clamp (by omega)
        obtain ⟨tk, tok, _⟩ := hT (f + j) (by omega)
        have k31 : K (f + j) ≤ 31 := by rcases tok with h | h | h <;> omega
        by_cases h10 : K (f + j) < 10
        · right
          refine ⟨f + j, ⟨by omega, by omega, hfj, fun i hi => hp i (by omega), by rw [Nat.add_sub_cancel_left]; omega, Or.inr (Or.inl h10)⟩, ?_⟩
          intros
          rename_i n hn hpo
          obtain ⟨m, rfl⟩ : ∃ m, n = m + 1 := ⟨n - 1, by omega⟩
          unfold wX_endOf_4
          refine br_f hpos (br_f hNe ⟨vi, br_t ?_ hpo⟩)
          rw [ci, tk]
          exact nI_lt (b := 10) h10 (by decide)
        · have hk10 : ¬ kd (nI (f + j)).toNatClampNeg < 10 := by
            rw [ci, tk]
            exact nI_nlt (b := 10) (by omega) (by omega)
          have esub : nI (f + j) - nI f = nI j := by
            rw [pk_sub (by omega)]
            exact congrArg nI (by omega)
          by_cases h16 : j = 16
          · right
            refine ⟨f + j, ⟨by omega, by omega, hfj, fun i hi => hp i (by omega), by rw [Nat.add_sub_cancel_left]; omega, Or.inr (Or.inr (by omega))⟩, ?_⟩
            intros
            rename_i n hn hpo
            obtain ⟨m, rfl⟩ : ∃ m, n = m + 1 := ⟨n - 1, by omega⟩
            unfold wX_endOf_4
            refine br_f hpos (br_f hNe ⟨vi, br_f hk10 (br_t ?_ hpo)⟩)
            rw [esub, h16]
            rfl
          · have hn16 : ¬ nI (f + j) - nI f = 16 := by
              rw [esub]
              exact qz_ne (b := 16) h16 (by omega) (by decide)
            have ems : nI (qe_ms K f j) + (nI (qe_ar (K (f + j))) - 1) = nI (qe_ms K f (j + 1)) := qz_am (by omega)
            have hp' : ∀ i, i < j + 1 → 1 ≤ qe_ms K f i ∧ 10 ≤ K (f + i) := fun i hi => by
              by_cases ei : i = j
              · rw [ei]; exact ⟨by omega, by omega⟩
              · exact hp i (by omega)
            rcases ih (j := j + 1) (by omega) (by omega) (by omega) hp' with ⟨e, h1, h2, hw⟩ | ⟨g, h1, hw⟩
            · left
              refine ⟨e, h1, h2, ?_⟩
              intros
              rename_i n hn hpo
              obtain ⟨m, rfl⟩ : ∃ m, n = m + 1 := ⟨n - 1, by omega⟩
              unfold wX_endOf_4
              refine br_f hpos (br_f hNe ⟨vi, br_f hk10 (br_f hn16 ⟨vi, ?_⟩)⟩)
              rw [ci, tk]
              refine qc_arity (by omega) ?_
              exact nm_r ems (nm_r (nI_1 _) (hw (by omega) hpo))
            · right
              refine ⟨g, h1, ?_⟩
              intros
              rename_i n hn hpo
              obtain ⟨m, rfl⟩ : ∃ m, n = m + 1 := ⟨n - 1, by omega⟩
              unfold wX_endOf_4
              refine br_f hpos (br_f hNe ⟨vi, br_f hk10 (br_f hn16 ⟨vi, ?_⟩)⟩)
              rw [ci, tk]
              refine qc_arity (by omega) ?_
              exact nm_r ems (nm_r (nI_1 _) (hw (by omega) hpo))
theorem qc_endOf (hT : qe_T N kd V K) (hf : f ≤ N) :
    (∃ e, qe_P K f e ∧ e ≤ N ∧ ∀ {f_length f_fault f_compiled f_open f_waits f_ended f_threads f_arg f_phase f_races f_ran f_over : Int32} {a_value a_op a_slot a_statement a_number a_openKind a_openOut a_openStart a_isConstant a_constant a_at a_slots a_variables a_steps a_words a_counters a_added a_own a_ownPhase a_storedPhase a_readPhase a_racePhase a_storedBy a_readBy a_readByMore a_doneCount : Nat → Int32} {post : Int32 → SX → Prop}, post (nI e) (nI N, f_length, f_fault, f_compiled, f_open, f_waits, f_ended, f_threads, f_arg, f_phase, f_races, f_ran, f_over, kd, a_value, a_op, a_slot, a_statement, a_number, a_openKind, a_openOut, a_openStart, a_isConstant, a_constant, a_at, a_slots, a_variables, a_steps, a_words, a_counters, a_added, a_own, a_ownPhase, a_storedPhase, a_readPhase, a_racePhase, a_storedBy, a_readBy, a_readByMore, a_doneCount) → wpX_endOf post (nI N, f_length, f_fault, f_compiled, f_open, f_waits, f_ended, f_threads, f_arg, f_phase, f_races, f_ran, f_over, kd, a_value, a_op, a_slot, a_statement, a_number, a_openKind, a_openOut, a_openStart, a_isConstant, a_constant, a_at, a_slots, a_variables, a_steps, a_words, a_counters, a_added, a_own, a_ownPhase, a_storedPhase, a_readPhase, a_racePhase, a_storedBy, a_readBy, a_readByMore, a_doneCount) (nI f)) ∨
    (∃ g, qe_F K N f g ∧ ∀ {f_length f_fault f_compiled f_open f_waits f_ended f_threads f_arg f_phase f_races f_ran f_over : Int32} {a_value a_op a_slot a_statement a_number a_openKind a_openOut a_openStart a_isConstant a_constant a_at a_slots a_variables a_steps a_words a_counters a_added a_own a_ownPhase a_storedPhase a_readPhase a_racePhase a_storedBy a_readBy a_readByMore a_doneCount : Nat → Int32} {post : Int32 → SX → Prop}, post (-1) (nI N, f_length, nI g, f_compiled, f_open, f_waits, f_ended, f_threads, f_arg, f_phase, f_races, f_ran, f_over, kd, a_value, a_op, a_slot, a_statement, a_number, a_openKind, a_openOut, a_openStart, a_isConstant, a_constant, a_at, a_slots, a_variables, a_steps, a_words, a_counters, a_added, a_own, a_ownPhase, a_storedPhase, a_readPhase, a_racePhase, a_storedBy, a_readBy, a_readByMore, a_doneCount) → wpX_endOf post (nI N, f_length, f_fault, f_compiled, f_open, f_waits, f_ended, f_threads, f_arg, f_phase, f_races, f_ran, f_over, kd, a_value, a_op, a_slot, a_statement, a_number, a_openKind, a_openOut, a_openStart, a_isConstant, a_constant, a_at, a_slots, a_variables, a_steps, a_words, a_counters, a_added, a_own, a_ownPhase, a_storedPhase, a_readPhase, a_racePhase, a_storedBy, a_readBy, a_readByMore, a_doneCount) (nI f)) := by
  rcases qc_endOf4 (f := f) hT 17 (j := 0) (by omega) (by omega) hf (fun i hi => absurd hi (Nat.not_lt_zero i)) with ⟨e, h1, h2, hw⟩ | ⟨g, h1, hw⟩
  · left
    refine ⟨e, h1, h2, ?_⟩
    intros
    rename_i hpo
    unfold wpX_endOf
    exact ⟨18, hw (by omega) hpo⟩
  · right
    refine ⟨g, h1, ?_⟩
    intros
    rename_i hpo
    unfold wpX_endOf
    exact ⟨18, hw (by omega) hpo⟩
/-- one expression -/
theorem qc_one {l : Nat} {op sl st nu isC cst : Nat → Int32} (hT : qe_T N kd V K) (hf : 1 ≤ f) (hfN : f ≤ N) (hl : l + 40 ≤ 224) :
    (∃ (e l' : Nat) (op' sl' st' nu' isC' cst' : Nat → Int32), qe_P K f e ∧ e ≤ N ∧ qe_X K V f e 0 op' sl' st' nu' l l' ∧ qe_fr l op sl st nu op' sl' st' nu' ∧
      ∀ {f_fault f_compiled f_open f_waits f_ended f_threads f_arg f_phase f_races f_ran f_over : Int32} {a_openKind a_openOut a_openStart a_at a_slots a_variables a_steps a_words a_counters a_added a_own a_ownPhase a_storedPhase a_readPhase a_racePhase a_storedBy a_readBy a_readByMore a_doneCount : Nat → Int32} {post : Int32 → SX → Prop}, post (nI e) (nI N, nI (l'), f_fault, f_compiled, f_open, f_waits, f_ended, f_threads, f_arg, f_phase, f_races, f_ran, f_over, kd, V, op', sl', st', nu', a_openKind, a_openOut, a_openStart, isC', cst', a_at, a_slots, a_variables, a_steps, a_words, a_counters, a_added, a_own, a_ownPhase, a_storedPhase, a_readPhase, a_racePhase, a_storedBy, a_readBy, a_readByMore, a_doneCount) → wpX_one post (nI N, nI (l), f_fault, f_compiled, f_open, f_waits, f_ended, f_threads, f_arg, f_phase, f_races, f_ran, f_over, kd, V, op, sl, st, nu, a_openKind, a_openOut, a_openStart, isC, cst, a_at, a_slots, a_variables, a_steps, a_words, a_counters, a_added, a_own, a_ownPhase, a_storedPhase, a_readPhase, a_racePhase, a_storedBy, a_readBy, a_readByMore, a_doneCount) (nI f)) ∨
    (∃ g, qe_F K N f g ∧ ∀ {f_fault f_compiled f_open f_waits f_ended f_threads f_arg f_phase f_races f_ran f_over : Int32} {a_openKind a_openOut a_openStart a_at a_slots a_variables a_steps a_words a_counters a_added a_own a_ownPhase a_storedPhase a_readPhase a_racePhase a_storedBy a_readBy a_readByMore a_doneCount : Nat → Int32} {post : Int32 → SX → Prop}, post (-1) (nI N, nI (l), nI g, f_compiled, f_open, f_waits, f_ended, f_threads, f_arg, f_phase, f_races, f_ran, f_over, kd, V, op, sl, st, nu, a_openKind, a_openOut, a_openStart, isC, cst, a_at, a_slots, a_variables, a_steps, a_words, a_counters, a_added, a_own, a_ownPhase, a_storedPhase, a_readPhase, a_racePhase, a_storedBy, a_readBy, a_readByMore, a_doneCount) → wpX_one post (nI N, nI (l), f_fault, f_compiled, f_open, f_waits, f_ended, f_threads, f_arg, f_phase, f_races, f_ran, f_over, kd, V, op, sl, st, nu, a_openKind, a_openOut, a_openStart, isC, cst, a_at, a_slots, a_variables, a_steps, a_words, a_counters, a_added, a_own, a_ownPhase, a_storedPhase, a_readPhase, a_racePhase, a_storedBy, a_readBy, a_readByMore, a_doneCount) (nI f)) := by
  have hN := hT.1
  rcases qc_endOf (f := f) hT hfN with ⟨e, h1, h2, hw⟩ | ⟨g, h1, hw⟩
  · left
    obtain ⟨l', op', sl', st', nu', isC', cst', hx, hfr, hw2⟩ := qc_expr (base := 0) (l := l) (op := op) (sl := sl) (st := st) (nu := nu) (isC := isC) (cst := cst) hT h1 hf h2 (by decide) hl
    refine ⟨e, l', op', sl', st', nu', isC', cst', h1, h2, hx, hfr, ?_⟩
    intros
    rename_i post hpo
    unfold wpX_one
    dsimp only
    refine hw ?_
    refine br_t (nI_pos' (by omega)) ?_
    exact hw2 (post := fun u => match u with | (f_tokens, f_length, f_fault, f_compiled, f_open, f_waits, f_ended, f_threads, f_arg, f_phase, f_races, f_ran, f_over, a_kind, a_value, a_op, a_slot, a_statement, a_number, a_openKind, a_openOut, a_openStart, a_isConstant, a_constant, a_at, a_slots, a_variables, a_steps, a_words, a_counters, a_added, a_own, a_ownPhase, a_storedPhase, a_readPhase, a_racePhase, a_storedBy, a_readBy, a_readByMore, a_doneCount) => post (nI e) (f_tokens, f_length, f_fault, f_compiled, f_open, f_waits, f_ended, f_threads, f_arg, f_phase, f_races, f_ran, f_over, a_kind, a_value, a_op, a_slot, a_statement, a_number, a_openKind, a_openOut, a_openStart, a_isConstant, a_constant, a_at, a_slots, a_variables, a_steps, a_words, a_counters, a_added, a_own, a_ownPhase, a_storedPhase, a_readPhase, a_racePhase, a_storedBy, a_readBy, a_readByMore, a_doneCount)) hpo
  · right
    refine ⟨g, h1, ?_⟩
    intros
    rename_i hpo
    unfold wpX_one
    dsimp only
    refine hw ?_
    exact br_f (by decide) hpo
/-- two expressions -/
theorem qc_two {l : Nat} {op sl st nu isC cst : Nat → Int32} (hT : qe_T N kd V K) (hf : 1 ≤ f) (hfN : f ≤ N) (hl : l + 80 ≤ 224) :
    (∃ (e1 e l1 l' : Nat) (op' sl' st' nu' isC' cst' : Nat → Int32), qe_P K f e1 ∧ qe_P K e1 e ∧ e ≤ N ∧ qe_X K V f e1 0 op' sl' st' nu' l l1 ∧ qe_X K V e1 e 1 op' sl' st' nu' l1 l' ∧ qe_fr l op sl st nu op' sl' st' nu' ∧
      ∀ {f_fault f_compiled f_open f_waits f_ended f_threads f_arg f_phase f_races f_ran f_over : Int32} {a_openKind a_openOut a_openStart a_at a_slots a_variables a_steps a_words a_counters a_added a_own a_ownPhase a_storedPhase a_readPhase a_racePhase a_storedBy a_readBy a_readByMore a_doneCount : Nat → Int32} {post : Int32 → SX → Prop}, post (nI e) (nI N, nI (l'), f_fault, f_compiled, f_open, f_waits, f_ended, f_threads, f_arg, f_phase, f_races, f_ran, f_over, kd, V, op', sl', st', nu', a_openKind, a_openOut, a_openStart, isC', cst', a_at, a_slots, a_variables, a_steps, a_words, a_counters, a_added, a_own, a_ownPhase, a_storedPhase, a_readPhase, a_racePhase, a_storedBy, a_readBy, a_readByMore, a_doneCount) → wpX_two post (nI N, nI (l), f_fault, f_compiled, f_open, f_waits, f_ended, f_threads, f_arg, f_phase, f_races, f_ran, f_over, kd, V, op, sl, st, nu, a_openKind, a_openOut, a_openStart, isC, cst, a_at, a_slots, a_variables, a_steps, a_words, a_counters, a_added, a_own, a_ownPhase, a_storedPhase, a_readPhase, a_racePhase, a_storedBy, a_readBy, a_readByMore, a_doneCount) (nI f)) ∨
    (∃ g, (qe_F K N f g ∨ ∃ e1, qe_P K f e1 ∧ e1 ≤ N ∧ qe_F K N e1 g) ∧ ∀ {f_fault f_compiled f_open f_waits f_ended f_threads f_arg f_phase f_races f_ran f_over : Int32} {a_openKind a_openOut a_openStart a_at a_slots a_variables a_steps a_words a_counters a_added a_own a_ownPhase a_storedPhase a_readPhase a_racePhase a_storedBy a_readBy a_readByMore a_doneCount : Nat → Int32} {post : Int32 → SX → Prop}, post (-1) (nI N, nI (l), nI g, f_compiled, f_open, f_waits, f_ended, f_threads, f_arg, f_phase, f_races, f_ran, f_over, kd, V, op, sl, st, nu, a_openKind, a_openOut, a_openStart, isC, cst, a_at, a_slots, a_variables, a_steps, a_words, a_counters, a_added, a_own, a_ownPhase, a_storedPhase, a_readPhase, a_racePhase, a_storedBy, a_readBy, a_readByMore, a_doneCount) → wpX_two post (nI N, nI (l), f_fault, f_compiled, f_open, f_waits, f_ended, f_threads, f_arg, f_phase, f_races, f_ran, f_over, kd, V, op, sl, st, nu, a_openKind, a_openOut, a_openStart, isC, cst, a_at, a_slots, a_variables, a_steps, a_words, a_counters, a_added, a_own, a_ownPhase, a_storedPhase, a_readPhase, a_racePhase, a_storedBy, a_readBy, a_readByMore, a_doneCount) (nI f)) := by
  have hN := hT.1
  rcases qc_endOf (f := f) hT hfN with ⟨e1, h1, h2, hw⟩ | ⟨g, h1, hw⟩
  · have p1 := h1.1
    have p2 := h1.2.1
    rcases qc_endOf (f := e1) hT h2 with ⟨e, k1, k2, hwb⟩ | ⟨g, k1, hwb⟩
    · left
      obtain ⟨l1, op1, sl1, st1, nu1, isC1, cst1, hx1, hfr1, hw1⟩ := qc_expr (base := 0) (l := l) (op := op) (sl := sl) (st := st) (nu := nu) (isC := isC) (cst := cst) hT h1 hf h2 (by decide) (by omega)
      have b1 := hx1.2.1
      have b0 := hx1.1
      obtain ⟨l2, op2, sl2, st2, nu2, isC2, cst2, hx2, hfr2, hw2⟩ := qc_expr (base := 1) (l := l1) (op := op1) (sl := sl1) (st := st1) (nu := nu1) (isC := isC1) (cst := cst1) hT k1 (by omega) k2 (by decide) (by omega)
      refine ⟨e1, e, l1, l2, op2, sl2, st2, nu2, isC2, cst2, h1, k1, k2, qe_X_fr hfr2 (Nat.le_refl _) hx1, hx2, qe_fr_tr hfr1 b0 hfr2, ?_⟩
      intros
      rename_i post hpo
      unfold wpX_two
      dsimp only
      refine hw ?_
      refine br_t (nI_pos' (by omega)) ?_
      refine hwb ?_
      refine br_t (nI_pos' (by omega)) ?_
      refine hw1 (post := fun u => match u with | (f_tokens, f_length, f_fault, f_compiled, f_open, f_waits, f_ended, f_threads, f_arg, f_phase, f_races, f_ran, f_over, a_kind, a_value, a_op, a_slot, a_statement, a_number, a_openKind, a_openOut, a_openStart, a_isConstant, a_constant, a_at, a_slots, a_variables, a_steps, a_words, a_counters, a_added, a_own, a_ownPhase, a_storedPhase, a_readPhase, a_racePhase, a_storedBy, a_readBy, a_readByMore, a_doneCount) => wpX_expression (fun u => match u with | (f_tokens, f_length, f_fault, f_compiled, f_open, f_waits, f_ended, f_threads, f_arg, f_phase, f_races, f_ran, f_over, a_kind, a_value, a_op, a_slot, a_statement, a_number, a_openKind, a_openOut, a_openStart, a_isConstant, a_constant, a_at, a_slots, a_variables, a_steps, a_words, a_counters, a_added, a_own, a_ownPhase, a_storedPhase, a_readPhase, a_racePhase, a_storedBy, a_readBy, a_readByMore, a_doneCount) => wpX_settle (fun u => match u with | (f_tokens, f_length, f_fault, f_compiled, f_open, f_waits, f_ended, f_threads, f_arg, f_phase, f_races, f_ran, f_over, a_kind, a_value, a_op, a_slot, a_statement, a_number, a_openKind, a_openOut, a_openStart, a_isConstant, a_constant, a_at, a_slots, a_variables, a_steps, a_words, a_counters, a_added, a_own, a_ownPhase, a_storedPhase, a_readPhase, a_racePhase, a_storedBy, a_readBy, a_readByMore, a_doneCount) => post (nI e) (f_tokens, f_length, f_fault, f_compiled, f_open, f_waits, f_ended, f_threads, f_arg, f_phase, f_races, f_ran, f_over, a_kind, a_value, a_op, a_slot, a_statement, a_number, a_openKind, a_openOut, a_openStart, a_isConstant, a_constant, a_at, a_slots, a_variables, a_steps, a_words, a_counters, a_added, a_own, a_ownPhase, a_storedPhase, a_readPhase, a_racePhase, a_storedBy, a_readBy, a_readByMore, a_doneCount)) (f_tokens, f_length, f_fault, f_compiled, f_open, f_waits, f_ended, f_threads, f_arg, f_phase, f_races, f_ran, f_over, a_kind, a_value, a_op, a_slot, a_statement, a_number, a_openKind, a_openOut, a_openStart, a_isConstant, a_constant, a_at, a_slots, a_variables, a_steps, a_words, a_counters, a_added, a_own, a_ownPhase, a_storedPhase, a_readPhase, a_racePhase, a_storedBy, a_readBy, a_readByMore, a_doneCount) 1) (f_tokens, f_length, f_fault, f_compiled, f_open, f_waits, f_ended, f_threads, f_arg, f_phase, f_races, f_ran, f_over, a_kind, a_value, a_op, a_slot, a_statement, a_number, a_openKind, a_openOut, a_openStart, a_isConstant, a_constant, a_at, a_slots, a_variables, a_steps, a_words, a_counters, a_added, a_own, a_ownPhase, a_storedPhase, a_readPhase, a_racePhase, a_storedBy, a_readBy, a_readByMore, a_doneCount) (nI e1) (nI e) 1) ?_
      exact hw2 (post := fun u => match u with | (f_tokens, f_length, f_fault, f_compiled, f_open, f_waits, f_ended, f_threads, f_arg, f_phase, f_races, f_ran, f_over, a_kind, a_value, a_op, a_slot, a_statement, a_number, a_openKind, a_openOut, a_openStart, a_isConstant, a_constant, a_at, a_slots, a_variables, a_steps, a_words, a_counters, a_added, a_own, a_ownPhase, a_storedPhase, a_readPhase, a_racePhase, a_storedBy, a_readBy, a_readByMore, a_doneCount) => post (nI e) (f_tokens, f_length, f_fault, f_compiled, f_open, f_waits, f_ended, f_threads, f_arg, f_phase, f_races, f_ran, f_over, a_kind, a_value, a_op, a_slot, a_statement, a_number, a_openKind, a_openOut, a_openStart, a_isConstant, a_constant, a_at, a_slots, a_variables, a_steps, a_words, a_counters, a_added, a_own, a_ownPhase, a_storedPhase, a_readPhase, a_racePhase, a_storedBy, a_readBy, a_readByMore, a_doneCount)) hpo
    · right
      refine ⟨g, Or.inr ⟨e1, h1, h2, k1⟩, ?_⟩
      intros
      rename_i hpo
      unfold wpX_two
      dsimp only
      refine hw ?_
      refine br_t (nI_pos' (by omega)) ?_
      refine hwb ?_
      exact br_f (by decide) hpo
  · right
    refine ⟨g, Or.inl h1, ?_⟩
    intros
    rename_i hpo
    unfold wpX_two
    dsimp only
    refine hw ?_
    exact br_f (by decide) hpo
end
end
section
/-! code, pure: depth of nesting, what close and opener look for, the local condition of a statement, the invariant while code is made -/
def qc_dp (K : Nat → Nat) : Nat → Nat
  | 0 => 0
  | i + 1 => if K i = 3 ∨ K i = 6 then qc_dp K i + 1 else if K i = 5 then qc_dp K i - 1 else qc_dp K i
theorem qc_dp_o {K : Nat → Nat} {i : Nat} (h : K i = 3 ∨ K i = 6) : qc_dp K (i + 1) = qc_dp K i + 1 := if_pos h
theorem qc_dp_c {K : Nat → Nat} {i : Nat} (h : K i = 5) : qc_dp K (i + 1) = qc_dp K i - 1 := by
  show (if K i = 3 ∨ K i = 6 then _ else if K i = 5 then _ else _) = _
  rw [if_neg (by omega), if_pos h]
theorem qc_dp_n {K : Nat → Nat} {i : Nat} (h3 : K i ≠ 3) (h6 : K i ≠ 6) (h5 : K i ≠ 5) : qc_dp K (i + 1) = qc_dp K i := by
  show (if K i = 3 ∨ K i = 6 then _ else if K i = 5 then _ else _) = _
  rw [if_neg (by omega), if_neg h5]
theorem qc_dp_x {K : Nat → Nat} {f e : Nat} (h : qe_P K f e) : ∀ x, f ≤ x → x ≤ e → qc_dp K x = qc_dp K f := by
  intro x
  induction x with
  | zero => intro h1 h2; rw [show f = 0 by omega]
  | succ x ih =>
    intro h1 h2
    by_cases hx : f = x + 1
    · rw [hx]
    · have hk := (h.2.2.2 (x - f) (by omega)).2
      rw [show f + (x - f) = x by omega] at hk
      rw [qc_dp_n (by omega) (by omega) (by omega)]
      exact ih (by omega) (by omega)
theorem qc_P_k {K : Nat → Nat} {f e x : Nat} (h : qe_P K f e) (h1 : f ≤ x) (h2 : x < e) : 10 ≤ K x := by
  have hk := (h.2.2.2 (x - f) (by omega)).2
  rwa [show f + (x - f) = x by omega] at hk
/-- what close looks for -/
def qc_Cl (K : Nat → Nat) (b : Nat) (els : Bool) (q e : Nat) : Prop := q < e ∧ (qc_dp K (e + 1) = b ∨ (els = true ∧ qc_dp K (e + 1) = b + 1 ∧ K e = 4)) ∧ ∀ i, q < i → i < e → b < qc_dp K (i + 1) ∧ ¬ (els = true ∧ qc_dp K (i + 1) = b + 1 ∧ K i = 4)
/-- what opener looks for -/
def qc_Op (K : Nat → Nat) (e o : Nat) : Prop := o < e ∧ qc_dp K o + 1 = qc_dp K e ∧ (K o = 3 ∨ K o = 6) ∧ ∀ i, o < i → i < e → qc_dp K e ≤ qc_dp K i
def qc_st (st : Nat → Int32) (p : Nat) : Prop := ∃ t : Nat, t < 64 ∧ st p = nI t
def qc_to (nu : Nat → Int32) (l p : Nat) : Prop := ∃ x : Nat, x ≤ l ∧ nu p = nI x
/-- a sound instruction -/
def qc_V (op sl st nu : Nat → Int32) (l p : Nat) : Prop := qe_IO op sl st nu p ∨ (op p = nI 0 ∧ qe_V6 (nu p) ∧ qc_st st p) ∨ ((op p = nI 1 ∨ op p = nI 2 ∨ op p = nI 7 ∨ op p = nI 8) ∧ qc_st st p) ∨ (op p = nI 41 ∧ qc_st st p ∧ qc_to nu l p) ∨ (op p = nI 40 ∧ st p = -1 ∧ qc_to nu l p)
section
variable {K : Nat → Nat} {V : Nat → Int32} {op sl st nu op' sl' st' nu' : Nat → Int32} {P Q e1 e2 tg P' Q' e1' e2' tg' : Nat → Nat} {B B' : Nat → Prop}
def qc_L0 (K : Nat → Nat) (V op sl st nu : Nat → Int32) (P Q e1 : Nat → Nat) (B : Nat → Prop) (j : Nat) : Prop :=
  qe_P K (j + 1) (e1 j) ∧ qe_X K V (j + 1) (e1 j) 0 op sl st nu (P j) (Q j) ∧ op (Q j) = nI 0 ∧ nu (Q j) = V j ∧ st (Q j) = nI j ∧ P (e1 j) = Q j + 1 ∧ B (e1 j)
def qc_L1 (K : Nat → Nat) (V op sl st nu : Nat → Int32) (P Q e1 e2 : Nat → Nat) (B : Nat → Prop) (j : Nat) : Prop :=
  qe_P K (j + 1) (e1 j) ∧ qe_P K (e1 j) (e2 j) ∧ (∃ q1, qe_X K V (j + 1) (e1 j) 0 op sl st nu (P j) q1 ∧ qe_X K V (e1 j) (e2 j) 1 op sl st nu q1 (Q j)) ∧ op (Q j) = nI (K j) ∧ st (Q j) = nI j ∧ P (e2 j) = Q j + 1 ∧ B (e2 j)
def qc_L3 (K : Nat → Nat) (V op sl st nu : Nat → Int32) (P Q e1 : Nat → Nat) (B : Nat → Prop) (j : Nat) : Prop :=
  qe_P K (j + 1) (e1 j) ∧ qe_X K V (j + 1) (e1 j) 0 op sl st nu (P j) (Q j) ∧ op (Q j) = nI 41 ∧ st (Q j) = nI j ∧ P (e1 j) = Q j + 1 ∧ B (e1 j)
def qc_L4 (op st : Nat → Int32) (P Q : Nat → Nat) (j : Nat) : Prop := Q j = P j ∧ op (P j) = nI 40 ∧ st (P j) = -1
def qc_L5 (K : Nat → Nat) (op st nu : Nat → Int32) (P Q tg : Nat → Nat) (B : Nat → Prop) (j : Nat) : Prop :=
  B (j + 1) ∧ ∃ o, qc_Op K j o ∧ B o ∧ ((K o = 6 ∧ tg j = o ∧ Q j = P j ∧ op (P j) = nI 40 ∧ st (P j) = -1 ∧ nu (P j) = nI (P o)) ∨ (K o = 3 ∧ tg j = j + 1 ∧ P (j + 1) = P j))
def qc_L7 (K : Nat → Nat) (op st : Nat → Int32) (P : Nat → Nat) (B : Nat → Prop) (j : Nat) : Prop := op (P j) = nI (K j) ∧ st (P j) = nI j ∧ P (j + 1) = P j + 1 ∧ B (j + 1)
/-- the local condition of the statement at token j -/
def qc_L (K : Nat → Nat) (V op sl st nu : Nat → Int32) (P Q e1 e2 tg : Nat → Nat) (B : Nat → Prop) (j : Nat) : Prop :=
  K j ≤ 8 ∧ (K j = 0 → qc_L0 K V op sl st nu P Q e1 B j) ∧ (K j = 1 ∨ K j = 2 → qc_L1 K V op sl st nu P Q e1 e2 B j) ∧ (K j = 3 ∨ K j = 6 → qc_L3 K V op sl st nu P Q e1 B j) ∧
  (K j = 4 → qc_L4 op st P Q j) ∧ (K j = 5 → qc_L5 K op st nu P Q tg B j) ∧ (K j = 7 ∨ K j = 8 → qc_L7 K op st P B j)
def qc_jk (K tg : Nat → Nat) (j : Nat) : Prop := K j = 3 ∨ K j = 4 ∨ K j = 6 ∨ (K j = 5 ∧ tg j ≠ j + 1)
/-- where the statement at j leads to -/
def qc_J (K : Nat → Nat) (nu : Nat → Int32) (P Q tg : Nat → Nat) (B : Nat → Prop) (j : Nat) : Prop :=
  nu (Q j) = nI (P (tg j)) ∧ B (tg j) ∧ ∃ e, tg j = e + 1 ∧ ((K j = 3 ∧ qc_Cl K (qc_dp K j) true j e) ∨ (K j = 6 ∧ qc_Cl K (qc_dp K j) false j e) ∨ (K j = 4 ∧ ∃ b, qc_dp K j = b + 1 ∧ qc_Cl K b false j e))
theorem qc_40 {p : Nat} (h : qe_IO op sl st nu p) : ¬ (op p = nI 40 ∨ op p = nI 41) := by
  obtain ⟨k, s, h1, _, h3, h4, _⟩ := h
  rw [h1]
  intro z
  rcases z with z | z
  · rw [nI_eq (by omega) (by decide)] at z; omega
  · rw [nI_eq (by omega) (by decide)] at z; omega
theorem qc_IO_mono {l p : Nat} (hc : ∀ p, p < l → op' p = op p ∧ sl' p = sl p ∧ st' p = st p) (hn : ∀ p, p < l → ¬ (op p = nI 40 ∨ op p = nI 41) → nu' p = nu p) (hp : p < l) (g : qe_IO op sl st nu p) : qe_IO op' sl' st' nu' p := by
  have hh := hn p hp (qc_40 g)
  unfold qe_IO
  obtain ⟨h1, h2, h3⟩ := hc p hp
  rw [h1, h2, h3, hh]
  exact g
theorem qc_X_mono {f e base l a b : Nat} (hc : ∀ p, p < l → op' p = op p ∧ sl' p = sl p ∧ st' p = st p) (hn : ∀ p, p < l → ¬ (op p = nI 40 ∨ op p = nI 41) → nu' p = nu p) (hb : b ≤ l) (g : qe_X K V f e base op sl st nu a b) : qe_X K V f e base op' sl' st' nu' a b := by
  obtain ⟨g1, g2, g3, g4⟩ := g
  refine ⟨g1, g2, fun p h1 h2 => qc_IO_mono hc hn (by omega) (g3 p h1 h2), fun E z y hz => ?_⟩
  rw [qe_run_congr (b - a) (fun p h1 h2 => ⟨(hc p (by omega)).1, (hc p (by omega)).2.1, hn p (by omega) (qc_40 (g3 p (by omega) (by omega)))⟩)]
  exact g4 E z y hz
theorem qc_no {o : Nat} {x : Int32} (hx : x = nI o) (h : o < 40) : ¬ (x = nI 40 ∨ x = nI 41) := by
  rw [hx]
  intro z
  rcases z with z | z
  · rw [nI_eq (by omega) (by decide)] at z; omega
  · rw [nI_eq (by omega) (by decide)] at z; omega
theorem qc_L_mono {l j : Nat} (hL : qc_L K V op sl st nu P Q e1 e2 tg B j)
    (hP : ∀ x, B x → P' x = P x) (hB : ∀ x, B x → B' x) (hQ : Q' j = Q j) (h1 : e1' j = e1 j) (h2 : e2' j = e2 j) (ht : K j = 5 → tg' j = tg j)
    (hj : B j) (hl : ∀ x, B x → P x ≤ l) (hM : qc_jk K tg j → Q j < l)
    (hc : ∀ p, p < l → op' p = op p ∧ sl' p = sl p ∧ st' p = st p) (hn : ∀ p, p < l → ¬ (op p = nI 40 ∨ op p = nI 41) → nu' p = nu p)
    (hn5 : K j = 5 → tg j ≠ j + 1 → nu' (P j) = nu (P j)) : qc_L K V op' sl' st' nu' P' Q' e1' e2' tg' B' j := by
  obtain ⟨l0, l1, l2, l3, l4, l5, l6⟩ := hL
  refine ⟨l0, fun k => ?_, fun k => ?_, fun k => ?_, fun k => ?_, fun k => ?_, fun k => ?_⟩
  · obtain ⟨a1, a2, a3, a4, a5, a6, a7⟩ := l1 k
    have b1 := hl _ a7
    unfold qc_L0
    rw [hQ, h1, hP j hj, hP _ a7, (hc (Q j) (by omega)).1, (hc (Q j) (by omega)).2.2, hn (Q j) (by omega) (qc_no a3 (by decide))]
    exact ⟨a1, qc_X_mono hc hn (by omega) a2, a3, a4, a5, a6, hB _ a7⟩
  · obtain ⟨a1, a2, ⟨q1, a3, a3'⟩, a4, a5, a6, a7⟩ := l2 k
    have b1 := hl _ a7
    have b2 := a3'.1
    unfold qc_L1
    rw [hQ, h1, h2, hP j hj, hP _ a7, (hc (Q j) (by omega)).1, (hc (Q j) (by omega)).2.2]
    exact ⟨a1, a2, ⟨q1, qc_X_mono hc hn (by omega) a3, qc_X_mono hc hn (by omega) a3'⟩, a4, a5, a6, hB _ a7⟩
  · obtain ⟨a1, a2, a3, a5, a6, a7⟩ := l3 k
    have b1 := hl _ a7
    unfold qc_L3
    rw [hQ, h1, hP j hj, hP _ a7, (hc (Q j) (by omega)).1, (hc (Q j) (by omega)).2.2]
    exact ⟨a1, qc_X_mono hc hn (by omega) a2, a3, a5, a6, hB _ a7⟩
  · obtain ⟨a1, a2, a3⟩ := l4 k
    have b1 := hM (Or.inr (Or.inl k))
    unfold qc_L4
    rw [hQ, hP j hj, (hc (P j) (by omega)).1, (hc (P j) (by omega)).2.2]
    exact ⟨a1, a2, a3⟩
  · obtain ⟨a1, o, a2, a3, a4⟩ := l5 k
    unfold qc_L5
    refine ⟨hB _ a1, o, a2, hB _ a3, ?_⟩
    rw [hQ, ht k, hP j hj, hP _ a1, hP _ a3]
    rcases a4 with ⟨c1, c2, c3, c4, c5, c6⟩ | c
    · have b0 := a2.1
      have b1 := hM (Or.inr (Or.inr (Or.inr ⟨k, by omega⟩)))
      left
      rw [(hc (P j) (by omega)).1, (hc (P j) (by omega)).2.2, hn5 k (by omega)]
      exact ⟨c1, c2, c3, c4, c5, c6⟩
    · exact Or.inr c
  · obtain ⟨a1, a2, a3, a4⟩ := l6 k
    have b1 := hl _ a4
    unfold qc_L7
    rw [hP j hj, hP _ a4, (hc (P j) (by omega)).1, (hc (P j) (by omega)).2.2]
    exact ⟨a1, a2, a3, hB _ a4⟩
end
/-- the blocks that are open at token i: qs the token that is to be mended, os the opening one -/
def qc_S (K : Nat → Nat) (P Q qs os : Nat → Nat) (B : Nat → Prop) (ok oo oS : Nat → Int32) (i d : Nat) : Prop := ∀ s, s < d →
  qs s < i ∧ B (qs s) ∧ ok s = nI (K (qs s)) ∧ oo s = nI (Q (qs s)) ∧ B (os s) ∧ os s ≤ qs s ∧ qc_dp K (os s) = s ∧ (∀ x, os s < x → x ≤ i → s < qc_dp K x) ∧
  ((K (qs s) = 3 ∧ os s = qs s ∧ ∀ x, qs s < x → x < i → ¬ (qc_dp K (x + 1) = s + 1 ∧ K x = 4)) ∨ (K (qs s) = 6 ∧ os s = qs s ∧ oS s = nI (P (os s))) ∨ (K (qs s) = 4 ∧ K (os s) = 3 ∧ qc_dp K (qs s) = s + 1))
def qc_in (qs : Nat → Nat) (d j : Nat) : Prop := ∃ s, s < d ∧ qs s = j
/-- the invariant at the start of the statement at token i: d open blocks, l instructions; ex: a token whose target is still owed -/
def qc_I (K : Nat → Nat) (V : Nat → Int32) (N : Nat) (op sl st nu ok oo oS : Nat → Int32) (P Q e1 e2 tg qs os : Nat → Nat) (B : Nat → Prop) (ex i d l : Nat) : Prop :=
  i ≤ N ∧ l ≤ 2 * i ∧ qc_dp K i = d ∧ 2 * d ≤ i ∧ P 0 = 0 ∧ B 0 ∧ B i ∧ P i = l ∧ (∀ j, B j → j ≤ i ∧ P j ≤ l) ∧
  (∀ j, j < i → B j → qc_L K V op sl st nu P Q e1 e2 tg B j) ∧
  (∀ j, j < i → B j → qc_jk K tg j → P j ≤ Q j ∧ ∀ j', B j' → j < j' → Q j < P j') ∧
  (∀ j, j < i → B j → (K j = 3 ∨ K j = 4 ∨ K j = 6) → qc_J K nu P Q tg B j ∨ qc_in qs d j ∨ j = ex) ∧
  qc_S K P Q qs os B ok oo oS i d ∧ (∀ p, p < l → qc_V op sl st nu l p)
def qc_set (f : Nat → Nat) (i v : Nat) : Nat → Nat := fun x => if x = i then v else f x
theorem qc_set_s {f : Nat → Nat} {i v : Nat} : qc_set f i v i = v := if_pos rfl
theorem qc_set_n {f : Nat → Nat} {i v x : Nat} (h : x ≠ i) : qc_set f i v x = f x := if_neg h
theorem qc_V_le {op sl st nu : Nat → Int32} {l l' p : Nat} (h : qc_V op sl st nu l p) (hl : l ≤ l') : qc_V op sl st nu l' p := by
  unfold qc_V at h ⊢
  rcases h with h | h | h | ⟨h1, h2, x, h3, h4⟩ | ⟨h1, h2, x, h3, h4⟩
  · exact Or.inl h
  · exact Or.inr (Or.inl h)
  · exact Or.inr (Or.inr (Or.inl h))
  · exact Or.inr (Or.inr (Or.inr (Or.inl ⟨h1, h2, x, by omega, h4⟩)))
  · exact Or.inr (Or.inr (Or.inr (Or.inr ⟨h1, h2, x, by omega, h4⟩)))
theorem qc_V_fr {op sl st nu op' sl' st' nu' : Nat → Int32} {l0 l p : Nat} (hf : qe_fr l0 op sl st nu op' sl' st' nu') (hp : p < l0) (h : qc_V op sl st nu l p) : qc_V op' sl' st' nu' l p := by
  obtain ⟨h1, h2, h3, h4⟩ := hf p hp
  unfold qc_V qc_st qc_to qe_IO at h ⊢
  rw [h1, h2, h3, h4]
  exact h
/-- a statement is added: from token i to token e -/
theorem qc_I_ext {K : Nat → Nat} {V : Nat → Int32} {N : Nat} {op sl st nu ok oo oS op' sl' st' nu' ok' oo' oS' : Nat → Int32} {P Q e1 e2 tg qs os qs' os' : Nat → Nat} {B : Nat → Prop} {ex' i d l e d' l' q a1 a2 t : Nat}
    (hI : qc_I K V N op sl st nu ok oo oS P Q e1 e2 tg qs os B N i d l) (hi : i < e) (he : e ≤ N) (hl : l ≤ l') (hl2 : l' ≤ 2 * e) (hf : qe_fr l op sl st nu op' sl' st' nu') (hd : qc_dp K e = d') (hd2 : 2 * d' ≤ e)
    (hL : qc_L K V op' sl' st' nu' (qc_set P e l') (qc_set Q i q) (qc_set e1 i a1) (qc_set e2 i a2) (qc_set tg i t) (fun x => B x ∨ x = e) i)
    (hM : qc_jk K (qc_set tg i t) i → P i ≤ q ∧ q < l') (hJ : K i = 3 ∨ K i = 4 ∨ K i = 6 → qc_in qs' d' i) (hJ2 : ∀ s, s < d → qc_in qs' d' (qs s) ∨ qs s = ex')
    (hS : qc_S K (qc_set P e l') (qc_set Q i q) qs' os' (fun x => B x ∨ x = e) ok' oo' oS' e d') (hV : ∀ p, l ≤ p → p < l' → qc_V op' sl' st' nu' l' p) :
    qc_I K V N op' sl' st' nu' ok' oo' oS' (qc_set P e l') (qc_set Q i q) (qc_set e1 i a1) (qc_set e2 i a2) (qc_set tg i t) qs' os' (fun x => B x ∨ x = e) ex' e d' l' := by
  obtain ⟨i1, i2, i3, i4, i5, i6, i7, i8, i9, i10, i11, i12, i13, i14⟩ := hI
  have hPe : ∀ x, B x → qc_set P e l' x = P x := fun x hx => qc_set_n (by have := (i9 x hx).1; omega)
  have hjk : ∀ j, j < i → qc_jk K (qc_set tg i t) j → qc_jk K tg j := by
    intro j hj h
    unfold qc_jk at h ⊢
    rw [qc_set_n (by omega)] at h
    exact h
  refine ⟨he, hl2, hd, hd2, ?_, Or.inl i6, Or.inr rfl, qc_set_s, ?_, ?_, ?_, ?_, hS, ?_⟩
  · rw [hPe 0 i6]; exact i5
  · intro j hj
    rcases hj with hj | hj
    · have h := i9 j hj
      rw [hPe j hj]
      exact ⟨by omega, by omega⟩
    · rw [hj, qc_set_s]
      exact ⟨Nat.le_refl _, Nat.le_refl _⟩
  · intro j hj hB
    by_cases ej : j = i
    · rw [ej]; exact hL
    · have hBj : B j := by
        rcases hB with h | h
        · exact h
        · omega
      have hj9 := (i9 j hBj).1
      refine qc_L_mono (l := l) (i10 j (by omega) hBj) hPe (fun x hx => Or.inl hx) (qc_set_n ej) (qc_set_n ej) (qc_set_n ej) (fun _ => qc_set_n ej) hBj (fun x hx => (i9 x hx).2) ?_ (fun p hp => ⟨(hf p hp).1, (hf p hp).2.1, (hf p hp).2.2.1⟩) (fun p hp _ => (hf p hp).2.2.2) ?_
      · intro h
        have h2 := (i11 j (by omega) hBj h).2 i i7 (by omega)
        omega
      · intro k5 h
        have h2 := (i11 j (by omega) hBj (Or.inr (Or.inr (Or.inr ⟨k5, h⟩))))
        have h3 := h2.2 i i7 (by omega)
        exact (hf (P j) (by omega)).2.2.2
  · intro j hj hB h
    by_cases ej : j = i
    · subst ej
      have hm := hM h
      rw [hPe j i7, qc_set_s]
      refine ⟨hm.1, fun j' hB' hj' => ?_⟩
      rcases hB' with h' | h'
      · have := (i9 j' h').1
        omega
      · rw [h', qc_set_s]
        exact hm.2
    · have hBj : B j := by
        rcases hB with h | h
        · exact h
        · omega
      have hj9 := (i9 j hBj).1
      have hm := i11 j (by omega) hBj (hjk j (by omega) h)
      rw [hPe j hBj, qc_set_n ej]
      refine ⟨hm.1, fun j' hB' hj' => ?_⟩
      rcases hB' with h' | h'
      · rw [hPe j' h']
        exact hm.2 j' h' hj'
      · rw [h', qc_set_s]
        have := hm.2 i i7 (by omega)
        omega
  · intro j hj hB k
    by_cases ej : j = i
    · subst ej
      exact Or.inr (Or.inl (hJ k))
    · have hBj : B j := by
        rcases hB with h | h
        · exact h
        · omega
      have hj9 := (i9 j hBj).1
      rcases i12 j (by omega) hBj k with h | ⟨s, hs, h⟩ | h
      · left
        obtain ⟨h1, h2, h3⟩ := h
        have hm : Q j < l := by
          have hk : qc_jk K tg j := by
            unfold qc_jk
            omega
          have := (i11 j (by omega) hBj hk).2 i i7 (by omega)
          omega
        unfold qc_J
        rw [qc_set_n ej, qc_set_n ej, (hf (Q j) hm).2.2.2, hPe _ h2]
        exact ⟨h1, Or.inl h2, h3⟩
      · right
        rw [← h]
        exact hJ2 s hs
      · omega
  · intro p hp
    by_cases hpl : p < l
    · exact qc_V_le (qc_V_fr hf hpl (i14 p hpl)) hl
    · exact hV p (by omega) hp
/-- a target is mended: token q, to where the code now ends -/
theorem qc_I_fix {K : Nat → Nat} {V : Nat → Int32} {N : Nat} {op sl st nu ok oo oS : Nat → Int32} {P Q e1 e2 tg qs os : Nat → Nat} {B : Nat → Prop} {q e0 d l : Nat}
    (hI : qc_I K V N op sl st nu ok oo oS P Q e1 e2 tg qs os B q (e0 + 1) d l) (hq : q < e0 + 1) (hB : B q)
    (hc : (K q = 3 ∧ qc_Cl K (qc_dp K q) true q e0) ∨ (K q = 6 ∧ qc_Cl K (qc_dp K q) false q e0) ∨ (K q = 4 ∧ ∃ b, qc_dp K q = b + 1 ∧ qc_Cl K b false q e0)) :
    qc_I K V N op sl st (upd nu (Q q) (nI l)) ok oo oS P Q e1 e2 (qc_set tg q (e0 + 1)) qs os B N (e0 + 1) d l ∧ Q q < l := by
  obtain ⟨i1, i2, i3, i4, i5, i6, i7, i8, i9, i10, i11, i12, i13, i14⟩ := hI
  have hk : K q = 3 ∨ K q = 4 ∨ K q = 6 := by
    rcases hc with h | h | h
    · exact Or.inl h.1
    · exact Or.inr (Or.inr h.1)
    · exact Or.inr (Or.inl h.1)
  have hkq : ∀ g : Nat → Nat, qc_jk K g q := by
    intro g
    unfold qc_jk
    omega
  have hjk : ∀ j, qc_jk K (qc_set tg q (e0 + 1)) j → qc_jk K tg j := by
    intro j h
    by_cases ej : j = q
    · rw [ej]; exact hkq _
    · unfold qc_jk at h ⊢
      rw [qc_set_n ej] at h
      exact h
  have hql : Q q < l := by
    have := (i11 q hq hB (hkq _)).2 _ i7 hq
    omega
  have hL := i10 q hq hB
  have hop : op (Q q) = nI 40 ∨ op (Q q) = nI 41 := by
    rcases hk with h | h | h
    · exact Or.inr (hL.2.2.2.1 (Or.inl h)).2.2.1
    · left
      have h4 := hL.2.2.2.2.1 h
      rw [h4.1]
      exact h4.2.1
    · exact Or.inr (hL.2.2.2.1 (Or.inr h)).2.2.1
  have hne : ∀ j, j < e0 + 1 → B j → qc_jk K tg j → j ≠ q → Q j ≠ Q q := by
    intro j hj hBj hjj hn
    have m1 := i11 j hj hBj hjj
    have m2 := i11 q hq hB (hkq _)
    by_cases hlt : j < q
    · have := m1.2 q hB hlt
      omega
    · have := m2.2 j hBj (by omega)
      omega
  refine ⟨⟨i1, i2, i3, i4, i5, i6, i7, i8, i9, ?_, ?_, ?_, i13, ?_⟩, hql⟩
  · intro j hj hBj
    refine qc_L_mono (l := l) (i10 j hj hBj) (fun _ _ => rfl) (fun _ h => h) rfl rfl rfl (fun k5 => qc_set_n (fun z => by rw [z] at k5; omega)) hBj (fun x hx => (i9 x hx).2) (fun h => ?_) (fun p _ => ⟨rfl, rfl, rfl⟩) (fun p hp h => pk_un (fun z => ?_)) (fun k5 h5 => pk_un (fun z => ?_))
    · have := (i11 j hj hBj h).2 _ i7 hj
      omega
    · rw [z] at h
      exact h hop
    · have hjj : qc_jk K tg j := Or.inr (Or.inr (Or.inr ⟨k5, h5⟩))
      have hjq : j ≠ q := fun y => by rw [y] at k5; omega
      have m1 := i11 j hj hBj hjj
      have m2 := i11 q hq hB (hkq _)
      by_cases hlt : j < q
      · have := m1.2 q hB hlt
        omega
      · have := m2.2 j hBj (by omega)
        omega
  · intro j hj hBj h
    exact i11 j hj hBj (hjk j h)
  · intro j hj hBj k
    by_cases ej : j = q
    · subst ej
      left
      refine ⟨?_, ?_, e0, qc_set_s, hc⟩
      · rw [qc_set_s, pk_us, i8]
      · rw [qc_set_s]; exact i7
    · have hjj : qc_jk K tg j := by
        unfold qc_jk
        omega
      rcases i12 j hj hBj k with h | h | h
      · left
        unfold qc_J
        rw [qc_set_n ej, pk_un (hne j hj hBj hjj ej)]
        exact h
      · exact Or.inr (Or.inl h)
      · exact absurd h ej
  · intro p hp
    have h := i14 p hp
    by_cases hpq : p = Q q
    · rw [hpq] at h ⊢
      unfold qc_V at h ⊢
      rcases h with h | h | h | ⟨h1, h2, _⟩ | ⟨h1, h2, _⟩
      · exact absurd hop (qc_40 h)
      · exact absurd hop (qc_no h.1 (by decide))
      · rcases h.1 with g | g | g | g <;> exact absurd hop (qc_no g (by decide))
      · exact Or.inr (Or.inr (Or.inr (Or.inl ⟨h1, h2, l, Nat.le_refl l, pk_us⟩)))
      · exact Or.inr (Or.inr (Or.inr (Or.inr ⟨h1, h2, l, Nat.le_refl l, pk_us⟩)))
    · unfold qc_V qc_to qe_IO at h ⊢
      rw [pk_un hpq]
      exact h
end
section
/-! the reference's wrong: from the start of a statement it answers F -/
/-- from token i on, depth d with kinds sk, left L, missing m, used x4, the answer is F -/
def qw_H (N : Nat) (kd : Nat → Int32) (F : Int32) (i d L m : Nat) (x4 : Int32) (sk : Nat → Nat) : Prop :=
  ∀ {f_threads f_argument f_phases f_races f_behind f_over : Int32} {a_value a_open a_words a_counters a_own a_next a_storers a_readers a_added a_variables a_at a_steps a_finished a_done a_stack : Nat → Int32} {post : Int32 → SY → Prop} {n : Nat}, N - i < n → (∀ s, s < d → a_open s = nI (sk s)) → (∀ o : Nat → Int32, post F (nI N, f_threads, f_argument, f_phases, f_races, f_behind, f_over, kd, a_value, o, a_words, a_counters, a_own, a_next, a_storers, a_readers, a_added, a_variables, a_at, a_steps, a_finished, a_done, a_stack)) →
    wY_wrong_12 post (nI N) f_threads f_argument f_phases f_races f_behind f_over n (nI d) (nI L) (nI m) x4 (nI i) kd a_value a_open a_words a_counters a_own a_next a_storers a_readers a_added a_variables a_at a_steps a_finished a_done a_stack
def qw_G (N : Nat) (kd : Nat → Int32) (F : Int32) (i d : Nat) (sk : Nat → Nat) : Prop := ∀ x4 : Int32, qw_H N kd F i d 0 0 x4 sk
section
variable {f_tokens f_threads f_argument f_phases f_races f_behind f_over : Int32} {a_kind a_value a_open a_words a_counters a_own a_next a_storers a_readers a_added a_variables a_at a_steps a_finished a_done a_stack : Nat → Int32}
theorem qw_operands {post : Int32 → Prop} {k : Nat} (hk : k < 128) (ho : k ≤ 16 ∨ 20 ≤ k) (h : post (nI (qe_ar k))) : wpY_operands post (f_tokens, f_threads, f_argument, f_phases, f_races, f_behind, f_over, a_kind, a_value, a_open, a_words, a_counters, a_own, a_next, a_storers, a_readers, a_added, a_variables, a_at, a_steps, a_finished, a_done, a_stack) (nI k) := by
  unfold wpY_operands
  dsimp only
  unfold qe_ar at h
  refine pk_le 15 k (fun h1 => pk_lt k 17 (fun h2 => ?_) (fun h2 => pk_eq k 29 (fun h3 => ?_) (fun h3 => pk_eq k 30 (fun h4 => ?_) (fun h4 => pk_eq k 31 (fun h5 => ?_) (fun h5 => ?_))))) (fun h1 => ?_)
  · rw [if_neg (by omega), if_pos (by omega)] at h; exact h
  · rw [if_neg (by omega), if_neg (by omega), if_pos h3] at h; exact h
  · rw [if_neg (by omega), if_neg (by omega), if_neg (by omega), if_pos h4] at h; exact h
  · rw [if_neg (by omega), if_neg (by omega), if_neg (by omega), if_neg (by omega), if_pos h5] at h; exact h
  · rw [if_neg (by omega), if_neg (by omega), if_neg (by omega), if_neg (by omega), if_neg (by omega)] at h; exact h
  · rw [if_pos h1] at h; exact h
end
section
variable {N : Nat} {kd V : Nat → Int32} {K : Nat → Nat} {F : Int32} {f e d L : Nat} {sk : Nat → Nat}
theorem qw_expr_ok (hT : qe_T N kd V K) (hP : qe_P K f e) (he : e ≤ N) (hL : L = 1 ∨ L = 2) (h1 : L = 1 → qw_G N kd F e d sk) (h2 : L = 2 → qw_H N kd F e d 1 1 0 sk) (r : Nat) :
    ∀ {j : Nat}, j + (r + 1) = e - f → qw_H N kd F (f + j) d L (qe_ms K f j) (nI j) sk := by
  obtain ⟨hN, hT⟩ := hT
  have hP1 := hP.1
  have hP2 := hP.2.1
  induction r with
  | zero =>
    intro j hj f_threads f_argument f_phases f_races f_behind f_over a_value a_open a_words a_counters a_own a_next a_storers a_readers a_added a_variables a_at a_steps a_finished a_done a_stack post n hn ho hp
    obtain ⟨m, rfl⟩ : ∃ m, n = m + 1 := ⟨n - 1, by omega⟩
    have hml := qe_ms_le K f j
    have hpj := hP.2.2.2 j (by omega)
    obtain ⟨tk, tok, _⟩ := hT (f + j) (by omega)
    have k31 : K (f + j) ≤ 31 ∧ (K (f + j) ≤ 16 ∨ 20 ≤ K (f + j)) := by rcases tok with h | h | h <;> omega
    have vi : vp_in (nI (f + j)) 64 := vp_in_nI (by omega) (by decide)
    have ci : (nI (f + j)).toNatClampNeg = f + j := nI_clamp (by omega)
    have ems : nI (qe_ms K f j) + (nI (qe_ar (K (f + j))) - 1) = 0 := by
      rw [qz_am (by omega)]
      show nI (qe_ms K f (j + 1)) = 0
      rw [show j + 1 = e - f by omega, hP.2.2.1]
      rfl
    unfold wY_wrong_12
    refine br_f (nI_ge (by omega) (by omega)) ⟨vi, nm_r (e' := nI (K (f + j))) (by rw [ci]; exact tk) ?_⟩
    refine br_f (nI_ge (a := 0) (by omega) (by omega)) (br_f (nI_nlt (b := 10) (by omega) (by omega)) (br_f (qz_ne (b := 16) (by omega) (by omega) (by decide)) ?_))
    refine nm_e ?_
    refine qw_operands (by omega) k31.2 ?_
    refine nm_r ems (br_t rfl ?_)
    rcases hL with rfl | rfl
    · refine nm_r (e' := nI 0) (by decide) ?_
      unfold wY_wrong_172
      refine br_t rfl (br_t (by decide) (nm_r (nI_1 _) ?_))
      have hg : qw_H N kd F e d 0 0 (nI j + 1) sk := h1 rfl _
      rw [show e = f + j + 1 by omega] at hg
      exact hg (by omega) ho hp
    · refine nm_r (e' := nI 1) (by decide) ?_
      unfold wY_wrong_172
      refine br_t rfl (br_f (by decide) (nm_r (nI_1 _) ?_))
      have hg : qw_H N kd F e d 1 1 0 sk := h2 rfl
      rw [show e = f + j + 1 by omega] at hg
      exact hg (by omega) ho hp
  | succ r ih =>
    intro j hj f_threads f_argument f_phases f_races f_behind f_over a_value a_open a_words a_counters a_own a_next a_storers a_readers a_added a_variables a_at a_steps a_finished a_done a_stack post n hn ho hp
    obtain ⟨m, rfl⟩ : ∃ m, n = m + 1 := ⟨n - 1, by omega⟩
    have hml := qe_ms_le K f j
    have hml1 := qe_ms_le K f (j + 1)
    have hpj := hP.2.2.2 j (by omega)
    have hpj1 := hP.2.2.2 (j + 1) (by omega)
    obtain ⟨tk, tok, _⟩ := hT (f + j) (by omega)
    have k31 : K (f + j) ≤ 31 ∧ (K (f + j) ≤ 16 ∨ 20 ≤ K (f + j)) := by rcases tok with h | h | h <;> omega
    have vi : vp_in (nI (f + j)) 64 := vp_in_nI (by omega) (by decide)
    have ci : (nI (f + j)).toNatClampNeg = f + j := nI_clamp (by omega)
    have ems : nI (qe_ms K f j) + (nI (qe_ar (K (f + j))) - 1) = nI (qe_ms K f (j + 1)) := qz_am (by omega)
    unfold wY_wrong_12
    refine br_f (nI_ge (by omega) (by omega)) ⟨vi, nm_r (e' := nI (K (f + j))) (by rw [ci]; exact tk) ?_⟩
    refine br_f (nI_ge (a := 0) (by omega) (by omega)) (br_f (nI_nlt (b := 10) (by omega) (by omega)) (br_f (qz_ne (b := 16) (by omega) (by omega) (by decide)) ?_))
    refine nm_r (nI_1 _) ?_
    refine qw_operands (by omega) k31.2 ?_
    refine nm_r ems (br_f (nI_ne0 (by omega) (by omega)) ?_)
    unfold wY_wrong_172
    refine br_f (nI_ne0 (by omega) (by omega)) (nm_r (nI_1 _) ?_)
    exact ih (j := j + 1) (by omega) (by omega) ho hp
theorem qw_expr_bad {g : Nat} (hT : qe_T N kd V K) (hF : qe_F K N f g) (r : Nat) :
    ∀ {j : Nat}, j + r = g - f → qw_H N kd (nI g) (f + j) d L (qe_ms K f j) (nI j) sk := by
  obtain ⟨hN, hT⟩ := hT
  obtain ⟨f1, f2, f3, f4, f5, f6⟩ := hF
  induction r with
  | zero =>
    intro j hj f_threads f_argument f_phases f_races f_behind f_over a_value a_open a_words a_counters a_own a_next a_storers a_readers a_added a_variables a_at a_steps a_finished a_done a_stack post n hn ho hp
    obtain ⟨m, rfl⟩ : ∃ m, n = m + 1 := ⟨n - 1, by omega⟩
    have hml := qe_ms_le K f j
    have eg : g = f + j := by omega
    subst eg
    rw [show f + j - f = j by omega] at f5
    unfold wY_wrong_12
    by_cases hgN : f + j = N
    · refine br_t ?_ (br_t ?_ ?_)
      · exact nI_le (by omega) (by omega)
      · exact nI_lt (a := 0) (by omega) (by omega)
      · have := hp a_open
        rw [hgN] at this
        exact this
    · obtain ⟨tk, tok, _⟩ := hT (f + j) (by omega)
      have k31 : K (f + j) ≤ 31 := by rcases tok with h | h | h <;> omega
      have vi : vp_in (nI (f + j)) 64 := vp_in_nI (by omega) (by decide)
      have ci : (nI (f + j)).toNatClampNeg = f + j := nI_clamp (by omega)
      refine br_f (nI_ge (by omega) (by omega)) ⟨vi, nm_r (e' := nI (K (f + j))) (by rw [ci]; exact tk) ?_⟩
      refine br_f (nI_ge (a := 0) (by omega) (by omega)) ?_
      refine pk_lt (K (f + j)) 10 (fun _ => hp _) (fun h10 => ?_)
      exact br_t (by rw [show j = 16 by omega]; rfl) (hp _)
  | succ r ih =>
    intro j hj f_threads f_argument f_phases f_races f_behind f_over a_value a_open a_words a_counters a_own a_next a_storers a_readers a_added a_variables a_at a_steps a_finished a_done a_stack post n hn ho hp
    obtain ⟨m, rfl⟩ : ∃ m, n = m + 1 := ⟨n - 1, by omega⟩
    have hml := qe_ms_le K f j
    have hml1 := qe_ms_le K f (j + 1)
    have hpj := f4 j (by omega)
    have hms1 : 1 ≤ qe_ms K f (j + 1) := by
      by_cases h : j + 1 = g - f
      · rw [h]; exact f5
      · exact (f4 (j + 1) (by omega)).1
    obtain ⟨tk, tok, _⟩ := hT (f + j) (by omega)
    have k31 : K (f + j) ≤ 31 ∧ (K (f + j) ≤ 16 ∨ 20 ≤ K (f + j)) := by rcases tok with h | h | h <;> omega
    have vi : vp_in (nI (f + j)) 64 := vp_in_nI (by omega) (by decide)
    have ci : (nI (f + j)).toNatClampNeg = f + j := nI_clamp (by omega)
    have ems : nI (qe_ms K f j) + (nI (qe_ar (K (f + j))) - 1) = nI (qe_ms K f (j + 1)) := qz_am (by omega)
    unfold wY_wrong_12
    refine br_f (nI_ge (by omega) (by omega)) ⟨vi, nm_r (e' := nI (K (f + j))) (by rw [ci]; exact tk) ?_⟩
    refine br_f (nI_ge (a := 0) (by omega) (by omega)) (br_f (nI_nlt (b := 10) (by omega) (by omega)) (br_f (qz_ne (b := 16) (by omega) (by omega) (by decide)) ?_))
    refine nm_r (nI_1 _) ?_
    refine qw_operands (by omega) k31.2 ?_
    refine nm_r ems (br_f (nI_ne0 (by omega) (by omega)) ?_)
    unfold wY_wrong_172
    refine br_f (nI_ne0 (by omega) (by omega)) (nm_r (nI_1 _) ?_)
    exact ih (j := j + 1) (by omega) (by omega) ho hp
end
section
variable {N : Nat} {kd V : Nat → Int32} {K : Nat → Nat} {F : Int32} {i d : Nat} {sk : Nat → Nat}
theorem qw_end (hN : N ≤ 64) (hd : d ≤ 32) : qw_G N kd (if d = 0 then -1 else nI N) N d sk := by
  intro x4 f_threads f_argument f_phases f_races f_behind f_over a_value a_open a_words a_counters a_own a_next a_storers a_readers a_added a_variables a_at a_steps a_finished a_done a_stack post n hn ho hp
  obtain ⟨m, rfl⟩ : ∃ m, n = m + 1 := ⟨n - 1, by omega⟩
  unfold wY_wrong_12
  refine br_t (nI_le (by omega) (by omega)) (br_f (by decide) ?_)
  refine pk_le d 0 (fun h => ?_) (fun h => ?_)
  · rw [if_pos (by omega)] at hp; exact hp _
  · rw [if_neg (by omega)] at hp; exact hp _
theorem qw_tok (hT : qe_T N kd V K) (hi : i < N) (hk : 9 < K i) : qw_G N kd (nI i) i d sk := by
  intro x4 f_threads f_argument f_phases f_races f_behind f_over a_value a_open a_words a_counters a_own a_next a_storers a_readers a_added a_variables a_at a_steps a_finished a_done a_stack post n hn ho hp
  obtain ⟨hN, hT⟩ := hT
  obtain ⟨m, rfl⟩ : ∃ m, n = m + 1 := ⟨n - 1, by omega⟩
  obtain ⟨tk, tok, _⟩ := hT i hi
  have k31 : K i ≤ 31 := by rcases tok with h | h | h <;> omega
  have vi : vp_in (nI i) 64 := vp_in_nI (by omega) (by decide)
  have ci : (nI i).toNatClampNeg = i := nI_clamp (by omega)
  unfold wY_wrong_12
  refine br_f (nI_ge (by omega) (by omega)) ⟨vi, nm_r (e' := nI (K i)) (by rw [ci]; exact tk) ?_⟩
  exact br_t (by decide) (br_t (nI_lt (a := 9) hk (by omega)) (hp _))
theorem qw_else_bad (hT : qe_T N kd V K) (hi : i < N) (hk : K i = 4) (hd : d ≤ 32) (hb : d = 0 ∨ (sk (d - 1) ≠ 3 ∧ sk (d - 1) < 32)) : qw_G N kd (nI i) i d sk := by
  intro x4 f_threads f_argument f_phases f_races f_behind f_over a_value a_open a_words a_counters a_own a_next a_storers a_readers a_added a_variables a_at a_steps a_finished a_done a_stack post n hn ho hp
  obtain ⟨hN, hT⟩ := hT
  obtain ⟨m, rfl⟩ : ∃ m, n = m + 1 := ⟨n - 1, by omega⟩
  obtain ⟨tk, tok, _⟩ := hT i hi
  have vi : vp_in (nI i) 64 := vp_in_nI (by omega) (by decide)
  have ci : (nI i).toNatClampNeg = i := nI_clamp (by omega)
  unfold wY_wrong_12
  refine br_f (nI_ge (by omega) (by omega)) ⟨vi, nm_r (e' := nI 4) (by rw [ci, tk, hk]) ?_⟩
  refine br_t (by decide) (br_f (by decide) (br_t (by decide) ?_))
  refine pk_eq d 0 (fun _ => hp _) (fun h => ?_)
  have ed : nI d - 1 = nI (d - 1) := qz_m (by omega)
  rw [ed]
  refine ⟨vp_in_nI (by omega) (by decide), ?_⟩
  rw [nI_clamp (by omega), ho (d - 1) (by omega)]
  exact br_f (qz_ne (b := 3) (by omega) (by omega) (by decide)) (hp _)
theorem qw_else (hT : qe_T N kd V K) (hi : i < N) (hk : K i = 4) (hd : d ≤ 32) (hd0 : 1 ≤ d) (hb : sk (d - 1) = 3) (h : qw_G N kd F (i + 1) d (qc_set sk (d - 1) 4)) : qw_G N kd F i d sk := by
  intro x4 f_threads f_argument f_phases f_races f_behind f_over a_value a_open a_words a_counters a_own a_next a_storers a_readers a_added a_variables a_at a_steps a_finished a_done a_stack post n hn ho hp
  obtain ⟨hN, hT⟩ := hT
  obtain ⟨m, rfl⟩ : ∃ m, n = m + 1 := ⟨n - 1, by omega⟩
  obtain ⟨tk, tok, _⟩ := hT i hi
  have vi : vp_in (nI i) 64 := vp_in_nI (by omega) (by decide)
  have ci : (nI i).toNatClampNeg = i := nI_clamp (by omega)
  have ed : nI d - 1 = nI (d - 1) := qz_m (by omega)
  have cd : (nI (d - 1)).toNatClampNeg = d - 1 := nI_clamp (by omega)
  unfold wY_wrong_12
  refine br_f (nI_ge (by omega) (by omega)) ⟨vi, nm_r (e' := nI 4) (by rw [ci, tk, hk]) ?_⟩
  refine br_t (by decide) (br_f (by decide) (br_t (by decide) (br_f (nI_ne0 (by omega) (by omega)) ?_)))
  rw [ed]
  refine ⟨vp_in_nI (by omega) (by decide), ?_⟩
  rw [cd, ho (d - 1) (by omega), hb]
  refine br_t (by decide) ?_
  unfold wY_wrong_104
  refine br_f (by decide) ?_
  unfold wY_wrong_117
  refine br_f (by decide) (br_f (by decide) ?_)
  unfold wY_wrong_141
  refine br_t (by decide) ?_
  rw [ed]
  refine ⟨vp_in_nI (by omega) (by decide), nm_r (e' := upd a_open (d - 1) 4) (by rw [cd]) ?_⟩
  unfold wY_wrong_156
  refine br_f (by decide) ?_
  unfold wY_wrong_165 wpY_expressions
  dsimp only
  repeat (first | refine br_f (by decide) ?_ | refine br_t (by decide) ?_)
  refine nm_r (nI_1 _) ?_
  refine h x4 (by omega) (fun s hs => ?_) hp
  by_cases es : s = d - 1
  · rw [es, pk_us, qc_set_s]; rfl
  · rw [pk_un es, qc_set_n es]; exact ho s hs
theorem qw_fin_bad (hT : qe_T N kd V K) (hi : i < N) (hk : K i = 5) (hd : d = 0) : qw_G N kd (nI i) i d sk := by
  intro x4 f_threads f_argument f_phases f_races f_behind f_over a_value a_open a_words a_counters a_own a_next a_storers a_readers a_added a_variables a_at a_steps a_finished a_done a_stack post n hn ho hp
  obtain ⟨hN, hT⟩ := hT
  obtain ⟨m, rfl⟩ : ∃ m, n = m + 1 := ⟨n - 1, by omega⟩
  obtain ⟨tk, tok, _⟩ := hT i hi
  have vi : vp_in (nI i) 64 := vp_in_nI (by omega) (by decide)
  have ci : (nI i).toNatClampNeg = i := nI_clamp (by omega)
  subst hd
  unfold wY_wrong_12
  refine br_f (nI_ge (by omega) (by omega)) ⟨vi, nm_r (e' := nI 5) (by rw [ci, tk, hk]) ?_⟩
  refine br_t (by decide) (br_f (by decide) (br_f (by decide) ?_))
  unfold wY_wrong_104
  exact br_t (by decide) (br_t (by decide) (hp _))
theorem qw_fin (hT : qe_T N kd V K) (hi : i < N) (hk : K i = 5) (hd : d ≤ 32) (hd0 : 1 ≤ d) (h : qw_G N kd F (i + 1) (d - 1) sk) : qw_G N kd F i d sk := by
  intro x4 f_threads f_argument f_phases f_races f_behind f_over a_value a_open a_words a_counters a_own a_next a_storers a_readers a_added a_variables a_at a_steps a_finished a_done a_stack post n hn ho hp
  obtain ⟨hN, hT⟩ := hT
  obtain ⟨m, rfl⟩ : ∃ m, n = m + 1 := ⟨n - 1, by omega⟩
  obtain ⟨tk, tok, _⟩ := hT i hi
  have vi : vp_in (nI i) 64 := vp_in_nI (by omega) (by decide)
  have ci : (nI i).toNatClampNeg = i := nI_clamp (by omega)
  unfold wY_wrong_12
  refine br_f (nI_ge (by omega) (by omega)) ⟨vi, nm_r (e' := nI 5) (by rw [ci, tk, hk]) ?_⟩
  refine br_t (by decide) (br_f (by decide) (br_f (by decide) ?_))
  unfold wY_wrong_104
  refine br_t (by decide) (br_f (nI_ne0 (by omega) (by omega)) ?_)
  unfold wY_wrong_117
  refine br_f (by decide) (br_f (by decide) ?_)
  unfold wY_wrong_141
  refine br_f (by decide) ?_
  unfold wY_wrong_156
  refine br_t (by decide) (nm_r (qz_mm (by omega)) ?_)
  unfold wY_wrong_165 wpY_expressions
  dsimp only
  repeat (first | refine br_f (by decide) ?_ | refine br_t (by decide) ?_)
  refine nm_r (nI_1 _) ?_
  exact h x4 (by omega) (fun s hs => ho s (by omega)) hp
theorem qw_simple (hT : qe_T N kd V K) (hi : i < N) (hk : K i = 7 ∨ K i = 8) (h : qw_G N kd F (i + 1) d sk) : qw_G N kd F i d sk := by
  intro x4 f_threads f_argument f_phases f_races f_behind f_over a_value a_open a_words a_counters a_own a_next a_storers a_readers a_added a_variables a_at a_steps a_finished a_done a_stack post n hn ho hp
  obtain ⟨hN, hT⟩ := hT
  obtain ⟨m, rfl⟩ : ∃ m, n = m + 1 := ⟨n - 1, by omega⟩
  obtain ⟨tk, tok, _⟩ := hT i hi
  have vi : vp_in (nI i) 64 := vp_in_nI (by omega) (by decide)
  have ci : (nI i).toNatClampNeg = i := nI_clamp (by omega)
  unfold wY_wrong_12
  refine br_f (nI_ge (by omega) (by omega)) ⟨vi, nm_r (e' := nI (K i)) (by rw [ci, tk]) ?_⟩
  rcases hk with hk | hk
  all_goals
    rw [hk]
    refine br_t (by decide) (br_f (by decide) (br_f (by decide) ?_))
    unfold wY_wrong_104
    refine br_f (by decide) ?_
    unfold wY_wrong_117
    refine br_f (by decide) (br_f (by decide) ?_)
    unfold wY_wrong_141
    refine br_f (by decide) ?_
    unfold wY_wrong_156
    refine br_f (by decide) ?_
    unfold wY_wrong_165 wpY_expressions
    dsimp only
    repeat (first | refine br_f (by decide) ?_ | refine br_t (by decide) ?_)
    refine nm_r (nI_1 _) ?_
    exact h x4 (by omega) ho hp
theorem qw_set (hT : qe_T N kd V K) (hi : i < N) (hk : K i = 0) (h : qw_H N kd F (i + 1) d 1 1 0 sk) : qw_G N kd F i d sk := by
  intro x4 f_threads f_argument f_phases f_races f_behind f_over a_value a_open a_words a_counters a_own a_next a_storers a_readers a_added a_variables a_at a_steps a_finished a_done a_stack post n hn ho hp
  obtain ⟨hN, hT⟩ := hT
  obtain ⟨m, rfl⟩ : ∃ m, n = m + 1 := ⟨n - 1, by omega⟩
  obtain ⟨tk, tok, _⟩ := hT i hi
  have vi : vp_in (nI i) 64 := vp_in_nI (by omega) (by decide)
  have ci : (nI i).toNatClampNeg = i := nI_clamp (by omega)
  unfold wY_wrong_12
  refine br_f (nI_ge (by omega) (by omega)) ⟨vi, nm_r (e' := nI 0) (by rw [ci, tk, hk]) ?_⟩
  refine br_t (by decide) (br_f (by decide) (br_f (by decide) ?_))
  unfold wY_wrong_104
  refine br_f (by decide) ?_
  unfold wY_wrong_117
  refine br_f (by decide) (br_f (by decide) ?_)
  unfold wY_wrong_141
  refine br_f (by decide) ?_
  unfold wY_wrong_156
  refine br_f (by decide) ?_
  unfold wY_wrong_165 wpY_expressions
  dsimp only
  repeat (first | refine br_f (by decide) ?_ | refine br_t (by decide) ?_)
  refine nm_r (nI_1 _) ?_
  exact h (by omega) ho hp
theorem qw_store (hT : qe_T N kd V K) (hi : i < N) (hk : K i = 1 ∨ K i = 2) (h : qw_H N kd F (i + 1) d 2 1 0 sk) : qw_G N kd F i d sk := by
  intro x4 f_threads f_argument f_phases f_races f_behind f_over a_value a_open a_words a_counters a_own a_next a_storers a_readers a_added a_variables a_at a_steps a_finished a_done a_stack post n hn ho hp
  obtain ⟨hN, hT⟩ := hT
  obtain ⟨m, rfl⟩ : ∃ m, n = m + 1 := ⟨n - 1, by omega⟩
  obtain ⟨tk, tok, _⟩ := hT i hi
  have vi : vp_in (nI i) 64 := vp_in_nI (by omega) (by decide)
  have ci : (nI i).toNatClampNeg = i := nI_clamp (by omega)
  unfold wY_wrong_12
  refine br_f (nI_ge (by omega) (by omega)) ⟨vi, nm_r (e' := nI (K i)) (by rw [ci, tk]) ?_⟩
  rcases hk with hk | hk
  all_goals
    rw [hk]
    refine br_t (by decide) (br_f (by decide) (br_f (by decide) ?_))
    unfold wY_wrong_104
    refine br_f (by decide) ?_
    unfold wY_wrong_117
    refine br_f (by decide) (br_f (by decide) ?_)
    unfold wY_wrong_141
    refine br_f (by decide) ?_
    unfold wY_wrong_156
    refine br_f (by decide) ?_
    unfold wY_wrong_165 wpY_expressions
    dsimp only
    repeat (first | refine br_f (by decide) ?_ | refine br_t (by decide) ?_)
    refine nm_r (nI_1 _) ?_
    exact h (by omega) ho hp
theorem qw_begin (hT : qe_T N kd V K) (hi : i < N) (hk : K i = 3 ∨ K i = 6) (hd : d < 32) (h : qw_H N kd F (i + 1) (d + 1) 1 1 0 (qc_set sk d (K i))) : qw_G N kd F i d sk := by
  intro x4 f_threads f_argument f_phases f_races f_behind f_over a_value a_open a_words a_counters a_own a_next a_storers a_readers a_added a_variables a_at a_steps a_finished a_done a_stack post n hn ho hp
  obtain ⟨hN, hT⟩ := hT
  obtain ⟨m, rfl⟩ : ∃ m, n = m + 1 := ⟨n - 1, by omega⟩
  obtain ⟨tk, tok, _⟩ := hT i hi
  have vi : vp_in (nI i) 64 := vp_in_nI (by omega) (by decide)
  have ci : (nI i).toNatClampNeg = i := nI_clamp (by omega)
  have vd : vp_in (nI d) 64 := vp_in_nI (by omega) (by decide)
  have cd : (nI d).toNatClampNeg = d := nI_clamp (by omega)
  have ho' : ∀ s, s < d + 1 → upd a_open d (nI (K i)) s = nI (qc_set sk d (K i) s) := by
    intro s hs
    by_cases es : s = d
    · rw [es, pk_us, qc_set_s]
    · rw [pk_un es, qc_set_n es]; exact ho s (by omega)
  unfold wY_wrong_12
  refine br_f (nI_ge (by omega) (by omega)) ⟨vi, nm_r (e' := nI (K i)) (by rw [ci, tk]) ?_⟩
  rcases hk with hk | hk
  all_goals
    rw [hk] at ho' h ⊢
    refine br_t (by decide) (br_f (by decide) (br_f (by decide) ?_))
    unfold wY_wrong_104
    refine br_f (by decide) ?_
    unfold wY_wrong_117
    repeat (first | refine br_f (by decide) ?_ | refine br_t (by decide) ?_)
    unfold wY_wrong_130
    refine nm_r (nI_1 _) ⟨vd, nm_r (by rw [cd]) ?_⟩
    unfold wY_wrong_141
    refine br_f (by decide) ?_
    unfold wY_wrong_156
    refine br_f (by decide) ?_
    unfold wY_wrong_165 wpY_expressions
    dsimp only
    repeat (first | refine br_f (by decide) ?_ | refine br_t (by decide) ?_)
    refine nm_r (nI_1 _) ?_
    exact h (by omega) ho' hp
end
end
section
/-! the invariant while code is made: one lemma a form of statement -/
section
variable {K : Nat → Nat} {V : Nat → Int32} {N : Nat} {op sl st nu ok oo oS op1 sl1 st1 nu1 : Nat → Int32} {P Q e1 e2 tg qs os : Nat → Nat} {B : Nat → Prop} {i d l e l1 : Nat}
theorem qc_S_adv {P' Q' : Nat → Nat} {B' : Nat → Prop} (hS : qc_S K P Q qs os B ok oo oS i d) (hP : ∀ x, B x → P' x = P x) (hQ : ∀ x, x < i → Q' x = Q x) (hB : ∀ x, B x → B' x) (hie : i ≤ e)
    (hd : ∀ x, i < x → x ≤ e → d ≤ qc_dp K x) (h4 : ∀ x, i ≤ x → x < e → ¬ K x = 4) : qc_S K P' Q' qs os B' ok oo oS e d := by
  intro s hs
  obtain ⟨a1, a2, a3, a4, a5, a6, a7, a8, a9⟩ := hS s hs
  refine ⟨by omega, hB _ a2, a3, by rw [hQ _ a1]; exact a4, hB _ a5, a6, a7, fun x h1 h2 => ?_, ?_⟩
  · by_cases hx : x ≤ i
    · exact a8 x h1 hx
    · have := hd x (by omega) h2
      omega
  · rcases a9 with ⟨b1, b2, b3⟩ | ⟨b1, b2, b3⟩ | b
    · refine Or.inl ⟨b1, b2, fun x h1 h2 => ?_⟩
      by_cases hx : x < i
      · exact b3 x h1 hx
      · intro h
        exact h4 x (by omega) h2 h.2
    · exact Or.inr (Or.inl ⟨b1, b2, by rw [hP _ a5]; exact b3⟩)
    · exact Or.inr (Or.inr b)
theorem qc_V_up {l a : Nat} {k s : Nat} {x y : Int32} (h : ∀ p, a ≤ p → p < l → qc_V op sl st nu (l + 1) p) (hv : qc_V (upd op l (nI k)) (upd sl l (nI s)) (upd st l y) (upd nu l x) (l + 1) l) :
    ∀ p, a ≤ p → p < l + 1 → qc_V (upd op l (nI k)) (upd sl l (nI s)) (upd st l y) (upd nu l x) (l + 1) p := by
  intro p h1 h2
  by_cases hp : p = l
  · rw [hp]; exact hv
  · exact qc_V_fr (qe_fr_up _ _ _ _) (by omega) (h p h1 (by omega))
theorem qc_x0 (hI : qc_I K V N op sl st nu ok oo oS P Q e1 e2 tg qs os B N i d l) (hk : K i = 0) (hv : qe_V6 (V i)) (hi : i < 64) (hP : qe_P K (i + 1) e) (he : e ≤ N) (hX : qe_X K V (i + 1) e 0 op1 sl1 st1 nu1 l l1) (hf : qe_fr l op sl st nu op1 sl1 st1 nu1) :
    qc_I K V N (upd op1 l1 (nI 0)) (upd sl1 l1 (nI 0)) (upd st1 l1 (nI i)) (upd nu1 l1 (V i)) ok oo oS (qc_set P e (l1 + 1)) (qc_set Q i l1) (qc_set e1 i e) (qc_set e2 i 0) (qc_set tg i 0) qs os (fun x => B x ∨ x = e) N e d (l1 + 1) := by
  have hI' := hI
  obtain ⟨i1, i2, i3, i4, i5, i6, i7, i8, i9, i10, i11, i12, i13, i14⟩ := hI'
  have x1 := hX.1
  have x2 := hX.2.1
  have p1 := hP.1
  have d1 : qc_dp K (i + 1) = d := by rw [qc_dp_n (by omega) (by omega) (by omega)]; exact i3
  have dx : ∀ x, i < x → x ≤ e → qc_dp K x = d := fun x h1 h2 => by rw [qc_dp_x hP x (by omega) h2]; exact d1
  have hPe : ∀ x, B x → qc_set P e (l1 + 1) x = P x := fun x hx => qc_set_n (by have := (i9 x hx).1; omega)
  refine qc_I_ext hI (by omega) he (by omega) (by omega) (qe_fr_tr hf x1 (qe_fr_up _ _ _ _)) (dx e (by omega) (Nat.le_refl e)) (by omega) ?_ ?_ ?_ (fun s hs => Or.inl ⟨s, hs, rfl⟩) ?_ ?_
  · refine ⟨by omega, fun _ => ?_, fun k => absurd k (by omega), fun k => absurd k (by omega), fun k => absurd k (by omega), fun k => absurd k (by omega), fun k => absurd k (by omega)⟩
    unfold qc_L0
    rw [qc_set_s, qc_set_s, hPe i i7, i8, qc_set_s, pk_us, pk_us, pk_us]
    exact ⟨hP, qe_X_fr (qe_fr_up _ _ _ _) (Nat.le_refl l1) hX, rfl, rfl, rfl, rfl, Or.inr rfl⟩
  · intro h
    unfold qc_jk at h
    omega
  · intro h
    omega
  · exact qc_S_adv i13 hPe (fun x hx => qc_set_n (by omega)) (fun x hx => Or.inl hx) (by omega) (fun x h1 h2 => by rw [dx x h1 h2]; exact Nat.le_refl d) (fun x h1 h2 => by
      by_cases hx : x = i
      · rw [hx]; omega
      · have := qc_P_k hP (by omega) h2
        omega)
  · exact qc_V_up (fun p h1 h2 => Or.inl (hX.2.2.1 p h1 h2)) (Or.inr (Or.inl ⟨pk_us, by rw [pk_us]; exact hv, i, hi, pk_us⟩))
theorem qc_x1 {m : Nat} (hI : qc_I K V N op sl st nu ok oo oS P Q e1 e2 tg qs os B N i d l) (hk : K i = 1 ∨ K i = 2) (hi : i < 64) (hP : qe_P K (i + 1) m) (hP2 : qe_P K m e) (he : e ≤ N) {lm : Nat} (hX : qe_X K V (i + 1) m 0 op1 sl1 st1 nu1 l lm) (hX2 : qe_X K V m e 1 op1 sl1 st1 nu1 lm l1) (hf : qe_fr l op sl st nu op1 sl1 st1 nu1) :
    qc_I K V N (upd op1 l1 (nI (K i))) (upd sl1 l1 (nI 0)) (upd st1 l1 (nI i)) (upd nu1 l1 0) ok oo oS (qc_set P e (l1 + 1)) (qc_set Q i l1) (qc_set e1 i m) (qc_set e2 i e) (qc_set tg i 0) qs os (fun x => B x ∨ x = e) N e d (l1 + 1) := by
  have hI' := hI
  obtain ⟨i1, i2, i3, i4, i5, i6, i7, i8, i9, i10, i11, i12, i13, i14⟩ := hI'
  have x1 := hX.1
  have x2 := hX.2.1
  have x3 := hX2.1
  have x4 := hX2.2.1
  have p1 := hP.1
  have p2 := hP2.1
  have d1 : qc_dp K (i + 1) = d := by rw [qc_dp_n (by omega) (by omega) (by omega)]; exact i3
  have d2 : qc_dp K m = d := by rw [qc_dp_x hP m (by omega) (Nat.le_refl m)]; exact d1
  have dx : ∀ x, i < x → x ≤ e → qc_dp K x = d := fun x h1 h2 => by
    by_cases hx : x ≤ m
    · rw [qc_dp_x hP x (by omega) hx]; exact d1
    · rw [qc_dp_x hP2 x (by omega) h2]; exact d2
  have hPe : ∀ x, B x → qc_set P e (l1 + 1) x = P x := fun x hx => qc_set_n (by have := (i9 x hx).1; omega)
  refine qc_I_ext hI (by omega) he (by omega) (by omega) (qe_fr_tr hf (by omega) (qe_fr_up _ _ _ _)) (dx e (by omega) (Nat.le_refl e)) (by omega) ?_ ?_ ?_ (fun s hs => Or.inl ⟨s, hs, rfl⟩) ?_ ?_
  · refine ⟨by omega, fun k => absurd k (by omega), fun _ => ?_, fun k => absurd k (by omega), fun k => absurd k (by omega), fun k => absurd k (by omega), fun k => absurd k (by omega)⟩
    unfold qc_L1
    rw [qc_set_s, qc_set_s, hPe i i7, i8, qc_set_s, qc_set_s, pk_us, pk_us]
    exact ⟨hP, hP2, ⟨lm, qe_X_fr (qe_fr_up _ _ _ _) x3 hX, qe_X_fr (qe_fr_up _ _ _ _) (Nat.le_refl l1) hX2⟩, rfl, rfl, rfl, Or.inr rfl⟩
  · intro h
    unfold qc_jk at h
    omega
  · intro h
    omega
  · exact qc_S_adv i13 hPe (fun x hx => qc_set_n (by omega)) (fun x hx => Or.inl hx) (by omega) (fun x h1 h2 => by rw [dx x h1 h2]; exact Nat.le_refl d) (fun x h1 h2 => by
      by_cases hx : x = i
      · rw [hx]; omega
      · by_cases hx2 : x < m
        · have := qc_P_k hP (by omega) hx2
          omega
        · have := qc_P_k hP2 (by omega) h2
          omega)
  · refine qc_V_up (fun p h1 h2 => ?_) (Or.inr (Or.inr (Or.inl ⟨?_, i, hi, pk_us⟩)))
    · by_cases hp : p < lm
      · exact Or.inl (hX.2.2.1 p h1 hp)
      · exact Or.inl (hX2.2.2.1 p (by omega) h2)
    · rw [pk_us]
      rcases hk with h | h
      · rw [h]; exact Or.inl rfl
      · rw [h]; exact Or.inr (Or.inl rfl)
theorem qc_x3 (hI : qc_I K V N op sl st nu ok oo oS P Q e1 e2 tg qs os B N i d l) (hk : K i = 3 ∨ K i = 6) (hi : i < 64) (hP : qe_P K (i + 1) e) (he : e ≤ N) (hX : qe_X K V (i + 1) e 0 op1 sl1 st1 nu1 l l1) (hf : qe_fr l op sl st nu op1 sl1 st1 nu1) :
    qc_I K V N (upd op1 l1 (nI 41)) (upd sl1 l1 (nI 0)) (upd st1 l1 (nI i)) (upd nu1 l1 0) (upd ok d (nI (K i))) (upd oo d (nI l1)) (upd oS d (nI l)) (qc_set P e (l1 + 1)) (qc_set Q i l1) (qc_set e1 i e) (qc_set e2 i 0) (qc_set tg i 0) (qc_set qs d i) (qc_set os d i) (fun x => B x ∨ x = e) N e (d + 1) (l1 + 1) := by
  have hI' := hI
  obtain ⟨i1, i2, i3, i4, i5, i6, i7, i8, i9, i10, i11, i12, i13, i14⟩ := hI'
  have x1 := hX.1
  have x2 := hX.2.1
  have p1 := hP.1
  have d1 : qc_dp K (i + 1) = d + 1 := by rw [qc_dp_o hk, i3]
  have dx : ∀ x, i < x → x ≤ e → qc_dp K x = d + 1 := fun x h1 h2 => by rw [qc_dp_x hP x (by omega) h2]; exact d1
  have hPe : ∀ x, B x → qc_set P e (l1 + 1) x = P x := fun x hx => qc_set_n (by have := (i9 x hx).1; omega)
  have n4 : ∀ x, i ≤ x → x < e → ¬ K x = 4 := fun x h1 h2 => by
    by_cases hx : x = i
    · rw [hx]; omega
    · have := qc_P_k hP (by omega) h2
      omega
  refine qc_I_ext hI (by omega) he (by omega) (by omega) (qe_fr_tr hf x1 (qe_fr_up _ _ _ _)) (dx e (by omega) (Nat.le_refl e)) (by omega) ?_ ?_ ?_ (fun s hs => Or.inl ⟨s, by omega, qc_set_n (by omega)⟩) ?_ ?_
  · refine ⟨by omega, fun k => absurd k (by omega), fun k => absurd k (by omega), fun _ => ?_, fun k => absurd k (by omega), fun k => absurd k (by omega), fun k => absurd k (by omega)⟩
    unfold qc_L3
    rw [qc_set_s, qc_set_s, hPe i i7, i8, qc_set_s, pk_us, pk_us]
    exact ⟨hP, qe_X_fr (qe_fr_up _ _ _ _) (Nat.le_refl l1) hX, rfl, rfl, rfl, Or.inr rfl⟩
  · intro h
    omega
  · intro h
    exact ⟨d, by omega, qc_set_s⟩
  · have hS := qc_S_adv (e := e) i13 hPe (Q' := qc_set Q i l1) (fun x hx => qc_set_n (by omega)) (B' := fun x => B x ∨ x = e) (fun x hx => Or.inl hx) (by omega) (fun x h1 h2 => by rw [dx x h1 h2]; omega) n4
    intro s hs
    by_cases es : s = d
    · subst es
      rw [qc_set_s, qc_set_s, pk_us, pk_us, pk_us, qc_set_s, hPe i i7, i8]
      refine ⟨by omega, Or.inl i7, rfl, rfl, Or.inl i7, Nat.le_refl i, i3, fun x h1 h2 => by rw [dx x h1 h2]; omega, ?_⟩
      rcases hk with h | h
      · exact Or.inl ⟨h, rfl, fun x h1 h2 h3 => n4 x (by omega) h2 h3.2⟩
      · exact Or.inr (Or.inl ⟨h, rfl, rfl⟩)
    · rw [qc_set_n es, qc_set_n es, pk_un es, pk_un es, pk_un es]
      exact hS s (by omega)
  · exact qc_V_up (fun p h1 h2 => Or.inl (hX.2.2.1 p h1 h2)) (Or.inr (Or.inr (Or.inr (Or.inl ⟨pk_us, ⟨i, hi, pk_us⟩, 0, by omega, pk_us⟩))))
theorem qc_x7 (hI : qc_I K V N op sl st nu ok oo oS P Q e1 e2 tg qs os B N i d l) (hk : K i = 7 ∨ K i = 8) (hi : i < 64) (he : i + 1 ≤ N) :
    qc_I K V N (upd op l (nI (K i))) (upd sl l (nI 0)) (upd st l (nI i)) (upd nu l 0) ok oo oS (qc_set P (i + 1) (l + 1)) (qc_set Q i l) (qc_set e1 i 0) (qc_set e2 i 0) (qc_set tg i 0) qs os (fun x => B x ∨ x = i + 1) N (i + 1) d (l + 1) := by
  have hI' := hI
  obtain ⟨i1, i2, i3, i4, i5, i6, i7, i8, i9, i10, i11, i12, i13, i14⟩ := hI'
  have d1 : qc_dp K (i + 1) = d := by rw [qc_dp_n (by omega) (by omega) (by omega)]; exact i3
  have hPe : ∀ x, B x → qc_set P (i + 1) (l + 1) x = P x := fun x hx => qc_set_n (by have := (i9 x hx).1; omega)
  refine qc_I_ext hI (by omega) he (by omega) (by omega) (qe_fr_up _ _ _ _) d1 (by omega) ?_ ?_ ?_ (fun s hs => Or.inl ⟨s, hs, rfl⟩) ?_ ?_
  · refine ⟨by omega, fun k => absurd k (by omega), fun k => absurd k (by omega), fun k => absurd k (by omega), fun k => absurd k (by omega), fun k => absurd k (by omega), fun _ => ?_⟩
    unfold qc_L7
    rw [hPe i i7, i8, qc_set_s, pk_us, pk_us]
    exact ⟨rfl, rfl, rfl, Or.inr rfl⟩
  · intro h
    unfold qc_jk at h
    omega
  · intro h
    omega
  · exact qc_S_adv i13 hPe (fun x hx => qc_set_n (by omega)) (fun x hx => Or.inl hx) (by omega) (fun x h1 h2 => by rw [show x = i + 1 by omega, d1]; exact Nat.le_refl d) (fun x h1 h2 => by rw [show x = i by omega]; omega)
  · refine qc_V_up (fun p h1 h2 => absurd h1 (by omega)) (Or.inr (Or.inr (Or.inl ⟨?_, i, hi, pk_us⟩)))
    rw [pk_us]
    rcases hk with h | h
    · rw [h]; exact Or.inr (Or.inr (Or.inl rfl))
    · rw [h]; exact Or.inr (Or.inr (Or.inr rfl))
/-- what the token on top of the open blocks is closed by -/
theorem qc_top (hS : qc_S K P Q qs os B ok oo oS i d) (h1 : 1 ≤ d) (hd : qc_dp K i = d) (hk : K i = 5 ∨ (K i = 4 ∧ K (qs (d - 1)) = 3)) :
    (K (qs (d - 1)) = 3 ∧ qc_Cl K (qc_dp K (qs (d - 1))) true (qs (d - 1)) i) ∨ (K (qs (d - 1)) = 6 ∧ qc_Cl K (qc_dp K (qs (d - 1))) false (qs (d - 1)) i) ∨ (K (qs (d - 1)) = 4 ∧ ∃ b, qc_dp K (qs (d - 1)) = b + 1 ∧ qc_Cl K b false (qs (d - 1)) i) := by
  obtain ⟨a1, a2, a3, a4, a5, a6, a7, a8, a9⟩ := hS (d - 1) (by omega)
  have k5 : K i = 5 → qc_dp K (i + 1) = d - 1 := fun k => by rw [qc_dp_c k, hd]
  rcases a9 with ⟨b1, b2, b3⟩ | ⟨b1, b2, b3⟩ | ⟨b1, b2, b3⟩
  · left
    rw [b2] at a7 a8
    refine ⟨b1, a1, ?_, fun x h2 h3 => ⟨?_, ?_⟩⟩
    · rcases hk with k | ⟨k, _⟩
      · left
        rw [k5 k, a7]
      · right
        refine ⟨rfl, ?_, k⟩
        rw [qc_dp_n (by omega) (by omega) (by omega), hd, a7]
        omega
    · rw [a7]
      exact a8 (x + 1) (by omega) (by omega)
    · rw [a7]
      intro h
      exact b3 x h2 h3 h.2
  · right
    left
    rw [b2] at a7 a8
    refine ⟨b1, a1, ?_, fun x h2 h3 => ⟨?_, fun h => absurd h.1 (by decide)⟩⟩
    · rcases hk with k | ⟨_, k⟩
      · left
        rw [k5 k, a7]
      · omega
    · rw [a7]
      exact a8 (x + 1) (by omega) (by omega)
  · right
    right
    refine ⟨b1, d - 1, b3, a1, ?_, fun x h2 h3 => ⟨?_, fun h => absurd h.1 (by decide)⟩⟩
    · rcases hk with k | ⟨_, k⟩
      · exact Or.inl (k5 k)
      · omega
    · exact a8 (x + 1) (by omega) (by omega)
theorem qc_S_pop (hS : qc_S K P Q qs os B ok oo oS i d) : qc_S K P Q qs os B ok oo oS i (d - 1) := fun s hs => hS s (by omega)
/-- ELSE -/
theorem qc_x4 (hI : qc_I K V N op sl st nu ok oo oS P Q e1 e2 tg qs os B N i d l) (hk : K i = 4) (he : i + 1 ≤ N) (h1 : 1 ≤ d) (hq : K (qs (d - 1)) = 3) :
    Q (qs (d - 1)) < l ∧ qc_I K V N (upd op l (nI 40)) (upd sl l (nI 0)) (upd st l (-1)) (upd (upd nu l 0) (Q (qs (d - 1))) (nI (l + 1))) (upd ok (d - 1) (nI 4)) (upd oo (d - 1) (nI l)) oS (qc_set P (i + 1) (l + 1)) (qc_set Q i l) (qc_set e1 i 0) (qc_set e2 i 0) (qc_set (qc_set tg i 0) (qs (d - 1)) (i + 1)) (qc_set qs (d - 1) i) os (fun x => B x ∨ x = i + 1) N (i + 1) d (l + 1) := by
  have hI' := hI
  obtain ⟨i1, i2, i3, i4, i5, i6, i7, i8, i9, i10, i11, i12, i13, i14⟩ := hI'
  obtain ⟨a1, a2, a3, a4, a5, a6, a7, a8, a9⟩ := i13 (d - 1) (by omega)
  have d1 : qc_dp K (i + 1) = d := by rw [qc_dp_n (by omega) (by omega) (by omega)]; exact i3
  have hPe : ∀ x, B x → qc_set P (i + 1) (l + 1) x = P x := fun x hx => qc_set_n (by have := (i9 x hx).1; omega)
  have hos : os (d - 1) = qs (d - 1) := by
    rcases a9 with b | b | b
    · exact b.2.1
    · exact b.2.1
    · omega
  have hE := qc_I_ext (e := i + 1) (l' := l + 1) (q := l) (a1 := 0) (a2 := 0) (t := 0) (ex' := qs (d - 1)) (qs' := qc_set qs (d - 1) i) (os' := os) (ok' := upd ok (d - 1) (nI 4)) (oo' := upd oo (d - 1) (nI l)) (oS' := oS) hI (by omega) he (by omega) (by omega) (qe_fr_up (nI 40) (nI 0) (-1) 0) d1 (by omega)
    (by
      refine ⟨by omega, fun k => absurd k (by omega), fun k => absurd k (by omega), fun k => absurd k (by omega), fun _ => ?_, fun k => absurd k (by omega), fun k => absurd k (by omega)⟩
      unfold qc_L4
      rw [hPe i i7, i8, qc_set_s, pk_us, pk_us]
      exact ⟨rfl, rfl, rfl⟩)
    (by intro _; omega) (by intro _; exact ⟨d - 1, by omega, qc_set_s⟩)
    (by
      intro s hs
      by_cases es : s = d - 1
      · rw [es]; exact Or.inr rfl
      · exact Or.inl ⟨s, hs, qc_set_n es⟩)
    (by
      intro s hs
      by_cases es : s = d - 1
      · subst es
        rw [qc_set_s, pk_us, pk_us, qc_set_s]
        refine ⟨by omega, Or.inl i7, by rw [hk], rfl, Or.inl a5, by omega, a7, fun x h2 h3 => ?_, Or.inr (Or.inr ⟨hk, by rw [hos]; exact hq, by omega⟩)⟩
        by_cases hx : x ≤ i
        · exact a8 x h2 hx
        · rw [show x = i + 1 by omega, d1]
          omega
      · rw [qc_set_n es, pk_un es, pk_un es]
        obtain ⟨c1, c2, c3, c4, c5, c6, c7, c8, c9⟩ := i13 s hs
        refine ⟨by omega, Or.inl c2, c3, by rw [qc_set_n (by omega)]; exact c4, Or.inl c5, c6, c7, fun x h2 h3 => ?_, ?_⟩
        · by_cases hx : x ≤ i
          · exact c8 x h2 hx
          · rw [show x = i + 1 by omega, d1]
            omega
        · rcases c9 with ⟨b1, b2, b3⟩ | ⟨b1, b2, b3⟩ | b
          · refine Or.inl ⟨b1, b2, fun x h2 h3 => ?_⟩
            by_cases hx : x < i
            · exact b3 x h2 hx
            · rw [show x = i by omega, d1]
              omega
          · exact Or.inr (Or.inl ⟨b1, b2, by rw [hPe _ c5]; exact b3⟩)
          · exact Or.inr (Or.inr b))
    (qc_V_up (fun p g1 g2 => absurd g1 (by omega)) (Or.inr (Or.inr (Or.inr (Or.inr ⟨pk_us, pk_us, 0, by omega, pk_us⟩)))))
  have hF := qc_I_fix hE (by omega) (Or.inl a2) (qc_top i13 h1 i3 (Or.inr ⟨hk, hq⟩))
  rw [qc_set_n (show qs (d - 1) ≠ i by omega)] at hF
  have hm := (i11 (qs (d - 1)) a1 a2 (Or.inl hq)).2 i i7 a1
  exact ⟨by omega, hF.1⟩
/-- END of a WHILE -/
theorem qc_x6 (hI : qc_I K V N op sl st nu ok oo oS P Q e1 e2 tg qs os B N i d l) (hk : K i = 5) (he : i + 1 ≤ N) (h1 : 1 ≤ d) (hq : K (qs (d - 1)) = 6) :
    Q (qs (d - 1)) < l ∧ qc_I K V N (upd op l (nI 40)) (upd sl l (nI 0)) (upd st l (-1)) (upd (upd nu l (oS (d - 1))) (Q (qs (d - 1))) (nI (l + 1))) ok oo oS (qc_set P (i + 1) (l + 1)) (qc_set Q i l) (qc_set e1 i 0) (qc_set e2 i 0) (qc_set (qc_set tg i (os (d - 1))) (qs (d - 1)) (i + 1)) qs os (fun x => B x ∨ x = i + 1) N (i + 1) (d - 1) (l + 1) := by
  have hI' := hI
  obtain ⟨i1, i2, i3, i4, i5, i6, i7, i8, i9, i10, i11, i12, i13, i14⟩ := hI'
  obtain ⟨a1, a2, a3, a4, a5, a6, a7, a8, a9⟩ := i13 (d - 1) (by omega)
  have d1 : qc_dp K (i + 1) = d - 1 := by rw [qc_dp_c hk, i3]
  have hPe : ∀ x, B x → qc_set P (i + 1) (l + 1) x = P x := fun x hx => qc_set_n (by have := (i9 x hx).1; omega)
  obtain ⟨b1, b2, b3⟩ : K (qs (d - 1)) = 6 ∧ os (d - 1) = qs (d - 1) ∧ oS (d - 1) = nI (P (os (d - 1))) := by
    rcases a9 with b | b | b
    · omega
    · exact b
    · omega
  have hPo := (i9 _ a5).2
  have hE := qc_I_ext (e := i + 1) (l' := l + 1) (q := l) (a1 := 0) (a2 := 0) (t := os (d - 1)) (ex' := qs (d - 1)) (qs' := qs) (os' := os) (ok' := ok) (oo' := oo) (oS' := oS) hI (by omega) he (by omega) (by omega) (qe_fr_up (nI 40) (nI 0) (-1) (oS (d - 1))) d1 (by omega)
    (by
      refine ⟨by omega, fun k => absurd k (by omega), fun k => absurd k (by omega), fun k => absurd k (by omega), fun k => absurd k (by omega), fun _ => ?_, fun k => absurd k (by omega)⟩
      unfold qc_L5
      refine ⟨Or.inr rfl, os (d - 1), ⟨by omega, by omega, Or.inr (by rw [b2]; exact hq), fun x h2 h3 => ?_⟩, Or.inl a5, Or.inl ?_⟩
      · have := a8 x h2 (by omega)
        omega
      · rw [hPe i i7, i8, qc_set_s, qc_set_s, pk_us, pk_us, pk_us, hPe _ a5]
        exact ⟨by rw [b2]; exact hq, rfl, rfl, rfl, rfl, b3⟩)
    (by intro _; omega) (by intro _; omega)
    (by
      intro s hs
      by_cases es : s = d - 1
      · rw [es]; exact Or.inr rfl
      · exact Or.inl ⟨s, by omega, rfl⟩)
    (qc_S_adv (qc_S_pop i13) hPe (fun x hx => qc_set_n (by omega)) (fun x hx => Or.inl hx) (by omega) (fun x h1 h2 => by rw [show x = i + 1 by omega, d1]; exact Nat.le_refl _) (fun x h1 h2 => by rw [show x = i by omega]; omega))
    (qc_V_up (fun p g1 g2 => absurd g1 (by omega)) (Or.inr (Or.inr (Or.inr (Or.inr ⟨pk_us, pk_us, P (os (d - 1)), by omega, by rw [pk_us]; exact b3⟩)))))
  have hF := qc_I_fix hE (by omega) (Or.inl a2) (qc_top i13 h1 i3 (Or.inl hk))
  rw [qc_set_n (show qs (d - 1) ≠ i by omega)] at hF
  have hm := (i11 (qs (d - 1)) a1 a2 (Or.inr (Or.inr (Or.inl hq)))).2 i i7 a1
  exact ⟨by omega, hF.1⟩
/-- END of an IF or an ELSE -/
theorem qc_x5 (hI : qc_I K V N op sl st nu ok oo oS P Q e1 e2 tg qs os B N i d l) (hk : K i = 5) (he : i + 1 ≤ N) (h1 : 1 ≤ d) (hq : K (qs (d - 1)) ≠ 6) :
    Q (qs (d - 1)) < l ∧ qc_I K V N op sl st (upd nu (Q (qs (d - 1))) (nI l)) ok oo oS (qc_set P (i + 1) l) (qc_set Q i 0) (qc_set e1 i 0) (qc_set e2 i 0) (qc_set (qc_set tg i (i + 1)) (qs (d - 1)) (i + 1)) qs os (fun x => B x ∨ x = i + 1) N (i + 1) (d - 1) l := by
  have hI' := hI
  obtain ⟨i1, i2, i3, i4, i5, i6, i7, i8, i9, i10, i11, i12, i13, i14⟩ := hI'
  obtain ⟨a1, a2, a3, a4, a5, a6, a7, a8, a9⟩ := i13 (d - 1) (by omega)
  have d1 : qc_dp K (i + 1) = d - 1 := by rw [qc_dp_c hk, i3]
  have hPe : ∀ x, B x → qc_set P (i + 1) l x = P x := fun x hx => qc_set_n (by have := (i9 x hx).1; omega)
  have ho3 : K (os (d - 1)) = 3 ∧ (K (qs (d - 1)) = 3 ∨ K (qs (d - 1)) = 4) := by
    rcases a9 with b | b | b
    · rw [b.2.1]; exact ⟨b.1, Or.inl b.1⟩
    · omega
    · exact ⟨b.2.1, Or.inr b.1⟩
  have hE := qc_I_ext (e := i + 1) (l' := l) (q := 0) (a1 := 0) (a2 := 0) (t := i + 1) (ex' := qs (d - 1)) (qs' := qs) (os' := os) (ok' := ok) (oo' := oo) (oS' := oS) hI (by omega) he (by omega) (by omega) qe_fr_rf d1 (by omega)
    (by
      refine ⟨by omega, fun k => absurd k (by omega), fun k => absurd k (by omega), fun k => absurd k (by omega), fun k => absurd k (by omega), fun _ => ?_, fun k => absurd k (by omega)⟩
      unfold qc_L5
      refine ⟨Or.inr rfl, os (d - 1), ⟨by omega, by omega, Or.inl ho3.1, fun x h2 h3 => ?_⟩, Or.inl a5, Or.inr ⟨ho3.1, qc_set_s, ?_⟩⟩
      · have := a8 x h2 (by omega)
        omega
      · rw [hPe i i7, i8, qc_set_s])
    (by
      intro h
      unfold qc_jk at h
      rw [qc_set_s] at h
      omega) (by intro _; omega)
    (by
      intro s hs
      by_cases es : s = d - 1
      · rw [es]; exact Or.inr rfl
      · exact Or.inl ⟨s, by omega, rfl⟩)
    (qc_S_adv (qc_S_pop i13) hPe (fun x hx => qc_set_n (by omega)) (fun x hx => Or.inl hx) (by omega) (fun x h1 h2 => by rw [show x = i + 1 by omega, d1]; exact Nat.le_refl _) (fun x h1 h2 => by rw [show x = i by omega]; omega))
    (fun p g1 g2 => absurd g1 (by omega))
  have hF := qc_I_fix hE (by omega) (Or.inl a2) (qc_top i13 h1 i3 (Or.inl hk))
  rw [qc_set_n (show qs (d - 1) ≠ i by omega)] at hF
  have hm := (i11 (qs (d - 1)) a1 a2 (by unfold qc_jk; omega)).2 i i7 a1
  exact ⟨by omega, hF.1⟩
end
/-- what the whole code is like -/
def qc_CODE (N : Nat) (K : Nat → Nat) (V op sl st nu : Nat → Int32) (P Q e1 e2 tg : Nat → Nat) (B : Nat → Prop) : Prop :=
  B 0 ∧ P 0 = 0 ∧ (∀ j, B j → j ≤ N ∧ P j ≤ P N) ∧ (∀ j, j < N → B j → qc_L K V op sl st nu P Q e1 e2 tg B j) ∧ (∀ j, j < N → B j → (K j = 3 ∨ K j = 4 ∨ K j = 6) → qc_J K nu P Q tg B j) ∧
  (∀ j, j < N → B j → qc_jk K tg j → P j ≤ Q j ∧ Q j < P N) ∧ op (P N) = nI 42 ∧ st (P N) = -1 ∧ P N ≤ 128 ∧ ∀ p, p < P N → qc_V op sl st nu (P N) p
theorem qc_fin {K : Nat → Nat} {V : Nat → Int32} {N l : Nat} {op sl st nu ok oo oS : Nat → Int32} {P Q e1 e2 tg qs os : Nat → Nat} {B : Nat → Prop} {s x : Int32} (hN : N ≤ 64) (hI : qc_I K V N op sl st nu ok oo oS P Q e1 e2 tg qs os B N N 0 l) :
    qc_CODE N K V (upd op l (nI 42)) (upd sl l s) (upd st l (-1)) (upd nu l x) P Q e1 e2 tg B := by
  obtain ⟨i1, i2, i3, i4, i5, i6, i7, i8, i9, i10, i11, i12, i13, i14⟩ := hI
  have hf : qe_fr l op sl st nu (upd op l (nI 42)) (upd sl l s) (upd st l (-1)) (upd nu l x) := qe_fr_up _ _ _ _
  have hM : ∀ j, j < N → B j → qc_jk K tg j → Q j < l := fun j hj hB h => by
    have := (i11 j hj hB h).2 N i7 hj
    omega
  refine ⟨i6, i5, fun j hj => by rw [i8]; exact i9 j hj, fun j hj hB => ?_, fun j hj hB k => ?_, fun j hj hB h => ⟨(i11 j hj hB h).1, by rw [i8]; exact hM j hj hB h⟩, by rw [i8, pk_us], by rw [i8, pk_us], by omega, fun p hp => ?_⟩
  · refine qc_L_mono (l := l) (i10 j hj hB) (fun _ _ => rfl) (fun _ h => h) rfl rfl rfl (fun _ => rfl) hB (fun x hx => (i9 x hx).2) (hM j hj hB) (fun p hp => ⟨(hf p hp).1, (hf p hp).2.1, (hf p hp).2.2.1⟩) (fun p hp _ => (hf p hp).2.2.2) (fun k5 h5 => ?_)
    have h2 := i11 j hj hB (Or.inr (Or.inr (Or.inr ⟨k5, h5⟩)))
    have h3 := hM j hj hB (Or.inr (Or.inr (Or.inr ⟨k5, h5⟩)))
    exact (hf (P j) (by omega)).2.2.2
  · have hm := hM j hj hB (by unfold qc_jk; omega)
    rcases i12 j hj hB k with h | ⟨s, hs, _⟩ | h
    · unfold qc_J
      rw [(hf (Q j) hm).2.2.2]
      exact h
    · omega
    · omega
  · rw [i8] at hp ⊢
    exact qc_V_fr hf hp (i14 p hp)
end
section
/-! the component's begin, close, next, compile, in step with the reference's wrong -/
section
variable {f_tokens f_length f_fault f_compiled f_open f_waits f_ended f_threads f_arg f_phase f_races f_ran f_over : Int32} {a_kind a_value a_op a_slot a_statement a_number a_openKind a_openOut a_openStart a_isConstant a_constant a_at a_slots a_variables a_steps a_words a_counters a_added a_own a_ownPhase a_storedPhase a_readPhase a_racePhase a_storedBy a_readBy a_readByMore a_doneCount : Nat → Int32}
theorem qc_begin {post : SX → Prop} {d l k s t : Nat} (hd : d < 32) (hk : k < 128) (hs : s < 512) (hl : l < 224) (ht : t < 128)
    (h : post (f_tokens, nI (l + 1), f_fault, f_compiled, nI (d + 1), f_waits, f_ended, f_threads, f_arg, f_phase, f_races, f_ran, f_over, a_kind, a_value, upd a_op l (nI 41), upd a_slot l (nI 0), upd a_statement l (nI t), upd a_number l 0, upd a_openKind d (nI k), upd a_openOut d (nI l), upd a_openStart d (nI s), a_isConstant, a_constant, a_at, a_slots, a_variables, a_steps, a_words, a_counters, a_added, a_own, a_ownPhase, a_storedPhase, a_readPhase, a_racePhase, a_storedBy, a_readBy, a_readByMore, a_doneCount)) :
    wpX_begin post (f_tokens, nI l, f_fault, f_compiled, nI d, f_waits, f_ended, f_threads, f_arg, f_phase, f_races, f_ran, f_over, a_kind, a_value, a_op, a_slot, a_statement, a_number, a_openKind, a_openOut, a_openStart, a_isConstant, a_constant, a_at, a_slots, a_variables, a_steps, a_words, a_counters, a_added, a_own, a_ownPhase, a_storedPhase, a_readPhase, a_racePhase, a_storedBy, a_readBy, a_readByMore, a_doneCount) (nI k) (nI s) (nI t) := by
  have hi : vp_in (nI d) 32 := vp_in_nI hd (by decide)
  have ed : (nI d).toNatClampNeg = d := nI_clamp (by omega)
  unfold wpX_begin
  dsimp only
  refine ⟨hi, nm_r (e' := upd a_openKind d (nI k)) (by rw [ed, qz_byte hk]) ⟨hi, nm_r (e' := upd a_openStart d (nI s)) (by rw [ed, qz_short hs]) (nm_r (nI_1 d) ⟨hi, nm_r (e' := upd a_openOut d (nI l)) (by rw [ed, qz_short (by omega)]) ?_⟩)⟩⟩
  exact qc_emit (k := 41) (s := 0) hl (by decide) (by decide) (qz_byte ht) h
theorem qc_cl142 {post : Int32 → SX → Prop} {l q i : Nat} (hq : q < 224) (h : post (nI (i + 1)) (f_tokens, nI l, f_fault, f_compiled, f_open, f_waits, f_ended, f_threads, f_arg, f_phase, f_races, f_ran, f_over, a_kind, a_value, a_op, a_slot, a_statement, upd a_number q (nI l), a_openKind, a_openOut, a_openStart, a_isConstant, a_constant, a_at, a_slots, a_variables, a_steps, a_words, a_counters, a_added, a_own, a_ownPhase, a_storedPhase, a_readPhase, a_racePhase, a_storedBy, a_readBy, a_readByMore, a_doneCount)) : wX_close_142 post (nI i) (nI q) f_tokens (nI l) f_fault f_compiled f_open f_waits f_ended f_threads f_arg f_phase f_races f_ran f_over a_kind a_value a_op a_slot a_statement a_number a_openKind a_openOut a_openStart a_isConstant a_constant a_at a_slots a_variables a_steps a_words a_counters a_added a_own a_ownPhase a_storedPhase a_readPhase a_racePhase a_storedBy a_readBy a_readByMore a_doneCount := by
  unfold wX_close_142
  exact ⟨vp_in_nI hq (by decide), nm_r (e' := upd a_number q (nI l)) (by rw [nI_clamp (by omega)]) (by rw [nI_1]; exact h)⟩
theorem qc_cl82e {post : Int32 → SX → Prop} {d l q i : Nat} (hd : d < 32) (hi : i < 64) (hq : q < 224) (hl : l < 223) (hk : a_kind i = 4) (ho : a_openOut d = nI q)
    (h : post (nI (i + 1)) (f_tokens, nI (l + 1), f_fault, f_compiled, nI (d + 1), f_waits, f_ended, f_threads, f_arg, f_phase, f_races, f_ran, f_over, a_kind, a_value, upd a_op l (nI 40), upd a_slot l (nI 0), upd a_statement l (-1), upd (upd a_number l 0) q (nI (l + 1)), upd a_openKind d (nI 4), upd a_openOut d (nI l), a_openStart, a_isConstant, a_constant, a_at, a_slots, a_variables, a_steps, a_words, a_counters, a_added, a_own, a_ownPhase, a_storedPhase, a_readPhase, a_racePhase, a_storedBy, a_readBy, a_readByMore, a_doneCount)) :
    wX_close_82 post (nI i) f_tokens (nI l) f_fault f_compiled (nI d) f_waits f_ended f_threads f_arg f_phase f_races f_ran f_over a_kind a_value a_op a_slot a_statement a_number a_openKind a_openOut a_openStart a_isConstant a_constant a_at a_slots a_variables a_steps a_words a_counters a_added a_own a_ownPhase a_storedPhase a_readPhase a_racePhase a_storedBy a_readBy a_readByMore a_doneCount := by
  have vd : vp_in (nI d) 32 := vp_in_nI hd (by decide)
  have ed : (nI d).toNatClampNeg = d := nI_clamp (by omega)
  have ei : (nI i).toNatClampNeg = i := nI_clamp (by omega)
  unfold wX_close_82
  refine ⟨vd, nm_r (e' := nI q) (by rw [ed]; exact ho) ⟨vp_in_nI hi (by decide), br_t (by rw [ei]; exact hk) ⟨vd, nm_r (e' := upd a_openKind d (nI 4)) (by rw [ed, qz_b4]; rfl) (nm_r (nI_1 d) ⟨vd, nm_r (e' := upd a_openOut d (nI l)) (by rw [ed, qz_short (by omega)]) ?_⟩)⟩⟩⟩
  refine qc_emit (k := 40) (s := 0) (by omega) (by decide) (by decide) qz_bm1 ?_
  exact qc_cl142 hq h
theorem qc_cl82n {post : Int32 → SX → Prop} {d l q i : Nat} (hd : d < 32) (hi : i < 64) (hq : q < 224) (hk : ¬ a_kind i = 4) (ho : a_openOut d = nI q)
    (h : post (nI (i + 1)) (f_tokens, nI l, f_fault, f_compiled, nI d, f_waits, f_ended, f_threads, f_arg, f_phase, f_races, f_ran, f_over, a_kind, a_value, a_op, a_slot, a_statement, upd a_number q (nI l), a_openKind, a_openOut, a_openStart, a_isConstant, a_constant, a_at, a_slots, a_variables, a_steps, a_words, a_counters, a_added, a_own, a_ownPhase, a_storedPhase, a_readPhase, a_racePhase, a_storedBy, a_readBy, a_readByMore, a_doneCount)) :
    wX_close_82 post (nI i) f_tokens (nI l) f_fault f_compiled (nI d) f_waits f_ended f_threads f_arg f_phase f_races f_ran f_over a_kind a_value a_op a_slot a_statement a_number a_openKind a_openOut a_openStart a_isConstant a_constant a_at a_slots a_variables a_steps a_words a_counters a_added a_own a_ownPhase a_storedPhase a_readPhase a_racePhase a_storedBy a_readBy a_readByMore a_doneCount := by
  have vd : vp_in (nI d) 32 := vp_in_nI hd (by decide)
  have ed : (nI d).toNatClampNeg = d := nI_clamp (by omega)
  have ei : (nI i).toNatClampNeg = i := nI_clamp (by omega)
  unfold wX_close_82
  exact ⟨vd, nm_r (e' := nI q) (by rw [ed]; exact ho) ⟨vp_in_nI hi (by decide), br_f (by rw [ei]; exact hk) (qc_cl142 hq h)⟩⟩
end
/-- what next does at token i: on to a further statement, or a fault; and the reference likewise -/
def qc_NX (N : Nat) (kd V : Nat → Int32) (K : Nat → Nat) (i d l : Nat) (op sl st nu ok oo oS isC cst : Nat → Int32) (qs : Nat → Nat) : Prop :=
  (∃ (e d' l' : Nat) (op' sl' st' nu' ok' oo' oS' isC' cst' : Nat → Int32) (P' Q' e1' e2' tg' qs' os' : Nat → Nat) (B' : Nat → Prop), i < e ∧ qc_I K V N op' sl' st' nu' ok' oo' oS' P' Q' e1' e2' tg' qs' os' B' N e d' l' ∧
    (∀ F : Int32, qw_G N kd F e d' (fun s => K (qs' s)) → qw_G N kd F i d (fun s => K (qs s))) ∧
    ∀ {f_compiled f_waits f_ended f_threads f_arg f_phase f_races f_ran f_over : Int32} {a_at a_slots a_variables a_steps a_words a_counters a_added a_own a_ownPhase a_storedPhase a_readPhase a_racePhase a_storedBy a_readBy a_readByMore a_doneCount : Nat → Int32} {post : Int32 → SX → Prop}, post (nI e) (nI N, nI (l'), -1, f_compiled, nI (d'), f_waits, f_ended, f_threads, f_arg, f_phase, f_races, f_ran, f_over, kd, V, op', sl', st', nu', ok', oo', oS', isC', cst', a_at, a_slots, a_variables, a_steps, a_words, a_counters, a_added, a_own, a_ownPhase, a_storedPhase, a_readPhase, a_racePhase, a_storedBy, a_readBy, a_readByMore, a_doneCount) → wpX_next post (nI N, nI (l), -1, f_compiled, nI (d), f_waits, f_ended, f_threads, f_arg, f_phase, f_races, f_ran, f_over, kd, V, op, sl, st, nu, ok, oo, oS, isC, cst, a_at, a_slots, a_variables, a_steps, a_words, a_counters, a_added, a_own, a_ownPhase, a_storedPhase, a_readPhase, a_racePhase, a_storedBy, a_readBy, a_readByMore, a_doneCount) (nI i)) ∨
  (∃ (g d' l' : Nat) (op' sl' st' nu' ok' oo' oS' isC' cst' : Nat → Int32), g ≤ N ∧ l' < 224 ∧ qw_G N kd (nI g) i d (fun s => K (qs s)) ∧
    ∀ {f_compiled f_waits f_ended f_threads f_arg f_phase f_races f_ran f_over : Int32} {a_at a_slots a_variables a_steps a_words a_counters a_added a_own a_ownPhase a_storedPhase a_readPhase a_racePhase a_storedBy a_readBy a_readByMore a_doneCount : Nat → Int32} {post : Int32 → SX → Prop}, post (-1) (nI N, nI (l'), nI g, f_compiled, nI (d'), f_waits, f_ended, f_threads, f_arg, f_phase, f_races, f_ran, f_over, kd, V, op', sl', st', nu', ok', oo', oS', isC', cst', a_at, a_slots, a_variables, a_steps, a_words, a_counters, a_added, a_own, a_ownPhase, a_storedPhase, a_readPhase, a_racePhase, a_storedBy, a_readBy, a_readByMore, a_doneCount) → wpX_next post (nI N, nI (l), -1, f_compiled, nI (d), f_waits, f_ended, f_threads, f_arg, f_phase, f_races, f_ran, f_over, kd, V, op, sl, st, nu, ok, oo, oS, isC, cst, a_at, a_slots, a_variables, a_steps, a_words, a_counters, a_added, a_own, a_ownPhase, a_storedPhase, a_readPhase, a_racePhase, a_storedBy, a_readBy, a_readByMore, a_doneCount) (nI i))
section
variable {N : Nat} {kd V : Nat → Int32} {K : Nat → Nat} {i d l : Nat} {op sl st nu ok oo oS isC cst : Nat → Int32} {P Q e1 e2 tg qs os : Nat → Nat} {B : Nat → Prop}
theorem qc_n0 (hT : qe_T N kd V K) (hI : qc_I K V N op sl st nu ok oo oS P Q e1 e2 tg qs os B N i d l) (hi : i < N) (hk : K i = 0) : qc_NX N kd V K i d l op sl st nu ok oo oS isC cst qs := by
  have hN := hT.1
  obtain ⟨tk, tok, tv⟩ := hT.2 i hi
  have i2 := hI.2.1
  have vi : vp_in (nI i) 64 := vp_in_nI (by omega) (by decide)
  have ci : (nI i).toNatClampNeg = i := nI_clamp (by omega)
  rcases qc_one (f := i + 1) (l := l) (op := op) (sl := sl) (st := st) (nu := nu) (isC := isC) (cst := cst) hT (by omega) (by omega) (by omega) with ⟨e, l1, op1, sl1, st1, nu1, isC1, cst1, hP, he, hX, hfr, hw⟩ | ⟨g, hF, hw⟩
  · left
    have p1 := hP.1
    have p2 := hP.2.1
    have x2 := hX.2.1
    refine ⟨e, d, l1 + 1, upd op1 l1 (nI 0), upd sl1 l1 (nI 0), upd st1 l1 (nI i), upd nu1 l1 (V i), ok, oo, oS, isC1, cst1, _, _, _, _, _, qs, os, _, by omega, qc_x0 hI hk (tv (Or.inl hk)) (by omega) hP he hX hfr, fun F hG => qw_set hT hi hk ?_, ?_⟩
    · exact qw_expr_ok (L := 1) hT hP he (Or.inl rfl) (fun _ => hG) (fun h => absurd h (by decide)) (e - (i + 1) - 1) (j := 0) (by omega)
    · intros
      rename_i post hp
      unfold wpX_next
      dsimp only
      refine ⟨vi, nm_r (e' := nI 0) (by rw [ci, tk, hk]) ?_⟩
      refine br_f (by decide) (br_f (by decide) (br_t (by decide) ?_))
      rw [nI_1 i]
      refine hw ?_
      refine ⟨vi, ?_⟩
      rw [ci]
      exact qc_emit (k := 0) (s := 0) (by omega) (by decide) (by decide) (qz_byte (by omega)) hp
  · right
    refine ⟨g, d, l + 1, upd op l (nI 0), upd sl l (nI 0), upd st l (nI i), upd nu l (V i), ok, oo, oS, isC, cst, hF.2.2.1, by omega, qw_set hT hi hk ?_, ?_⟩
    · exact qw_expr_bad (L := 1) hT hF (g - (i + 1)) (j := 0) (by omega)
    · intros
      rename_i post hp
      unfold wpX_next
      dsimp only
      refine ⟨vi, nm_r (e' := nI 0) (by rw [ci, tk, hk]) ?_⟩
      refine br_f (by decide) (br_f (by decide) (br_t (by decide) ?_))
      rw [nI_1 i]
      refine hw ?_
      refine ⟨vi, ?_⟩
      rw [ci]
      exact qc_emit (k := 0) (s := 0) (by omega) (by decide) (by decide) (qz_byte (by omega)) hp
theorem qc_n1 (hT : qe_T N kd V K) (hI : qc_I K V N op sl st nu ok oo oS P Q e1 e2 tg qs os B N i d l) (hi : i < N) (hk : K i = 1 ∨ K i = 2) : qc_NX N kd V K i d l op sl st nu ok oo oS isC cst qs := by
  have hN := hT.1
  obtain ⟨tk, tok, _⟩ := hT.2 i hi
  have i2 := hI.2.1
  have vi : vp_in (nI i) 64 := vp_in_nI (by omega) (by decide)
  have ci : (nI i).toNatClampNeg = i := nI_clamp (by omega)
  have hgo : ∀ {post : Int32 → SX → Prop} {f_tokens f_length f_fault f_compiled f_open f_waits f_ended f_threads f_arg f_phase f_races f_ran f_over : Int32} {a_value a_op a_slot a_statement a_number a_openKind a_openOut a_openStart a_isConstant a_constant a_at a_slots a_variables a_steps a_words a_counters a_added a_own a_ownPhase a_storedPhase a_readPhase a_racePhase a_storedBy a_readBy a_readByMore a_doneCount : Nat → Int32}, wX_next_83 post (nI i) f_tokens f_length f_fault f_compiled f_open f_waits f_ended f_threads f_arg f_phase f_races f_ran f_over kd a_value a_op a_slot a_statement a_number a_openKind a_openOut a_openStart a_isConstant a_constant a_at a_slots a_variables a_steps a_words a_counters a_added a_own a_ownPhase a_storedPhase a_readPhase a_racePhase a_storedBy a_readBy a_readByMore a_doneCount → wpX_next post (f_tokens, f_length, f_fault, f_compiled, f_open, f_waits, f_ended, f_threads, f_arg, f_phase, f_races, f_ran, f_over, kd, a_value, a_op, a_slot, a_statement, a_number, a_openKind, a_openOut, a_openStart, a_isConstant, a_constant, a_at, a_slots, a_variables, a_steps, a_words, a_counters, a_added, a_own, a_ownPhase, a_storedPhase, a_readPhase, a_racePhase, a_storedBy, a_readBy, a_readByMore, a_doneCount) (nI i) := by
    intro post f_tokens f_length f_fault f_compiled f_open f_waits f_ended f_threads f_arg f_phase f_races f_ran f_over a_value a_op a_slot a_statement a_number a_openKind a_openOut a_openStart a_isConstant a_constant a_at a_slots a_variables a_steps a_words a_counters a_added a_own a_ownPhase a_storedPhase a_readPhase a_racePhase a_storedBy a_readBy a_readByMore a_doneCount h
    unfold wpX_next
    dsimp only
    refine ⟨vi, nm_r (e' := nI (K i)) (by rw [ci, tk]) ?_⟩
    rcases hk with hk | hk
    · rw [hk]
      exact br_f (by decide) (br_f (by decide) (br_f (by decide) (br_t (by decide) h)))
    · rw [hk]
      exact br_f (by decide) (br_f (by decide) (br_f (by decide) (br_f (by decide) (br_t (by decide) h))))
  rcases qc_two (f := i + 1) (l := l) (op := op) (sl := sl) (st := st) (nu := nu) (isC := isC) (cst := cst) hT (by omega) (by omega) (by omega) with ⟨m, e, lm, l1, op1, sl1, st1, nu1, isC1, cst1, hP, hP2, he, hX, hX2, hfr, hw⟩ | ⟨g, hF, hw⟩
  · left
    have p1 := hP.1
    have p2 := hP.2.1
    have x2 := hX.2.1
    have q1 := hP2.1
    have q2 := hP2.2.1
    have y2 := hX2.2.1
    refine ⟨e, d, l1 + 1, upd op1 l1 (nI (K i)), upd sl1 l1 (nI 0), upd st1 l1 (nI i), upd nu1 l1 0, ok, oo, oS, isC1, cst1, _, _, _, _, _, qs, os, _, by omega, qc_x1 hI hk (by omega) hP hP2 he hX hX2 hfr, fun F hG => qw_store hT hi hk ?_, ?_⟩
    · have h2 : qw_H N kd F m d 1 1 0 (fun s => K (qs s)) := qw_expr_ok (L := 1) hT hP2 he (Or.inl rfl) (fun _ => hG) (fun h => absurd h (by decide)) (e - m - 1) (j := 0) (by omega)
      intro f_threads f_argument f_phases f_races f_behind f_over a_value a_open a_words a_counters a_own a_next a_storers a_readers a_added a_variables a_at a_steps a_finished a_done a_stack post n hn ho hp
      exact qw_expr_ok (L := 2) hT hP (by omega) (Or.inr rfl) (fun h => absurd h (by decide)) (fun _ => h2) (m - (i + 1) - 1) (j := 0) (by omega) hn ho hp
    · intros
      rename_i post hp
      apply hgo
      unfold wX_next_83
      rw [nI_1 i]
      refine hw ?_
      refine ⟨vi, ?_⟩
      rw [ci, tk]
      exact qc_emit (k := K i) (s := 0) (by omega) (by omega) (by decide) (qz_byte (by omega)) hp
  · right
    have hgN : g ≤ N := by
      rcases hF with h | ⟨e1, _, _, h⟩
      · exact h.2.2.1
      · exact h.2.2.1
    refine ⟨g, d, l + 1, upd op l (nI (K i)), upd sl l (nI 0), upd st l (nI i), upd nu l 0, ok, oo, oS, isC, cst, hgN, by omega, qw_store hT hi hk ?_, ?_⟩
    · rcases hF with h | ⟨m, h1, h2, h3⟩
      · exact qw_expr_bad (L := 2) hT h (g - (i + 1)) (j := 0) (by omega)
      · have p1 := h1.1
        have g2 : qw_H N kd (nI g) m d 1 1 0 (fun s => K (qs s)) := qw_expr_bad (L := 1) hT h3 (g - m) (j := 0) (by omega)
        intro f_threads f_argument f_phases f_races f_behind f_over a_value a_open a_words a_counters a_own a_next a_storers a_readers a_added a_variables a_at a_steps a_finished a_done a_stack post n hn ho hp
        exact qw_expr_ok (L := 2) hT h1 h2 (Or.inr rfl) (fun h => absurd h (by decide)) (fun _ => g2) (m - (i + 1) - 1) (j := 0) (by omega) hn ho hp
    · intros
      rename_i post hp
      apply hgo
      unfold wX_next_83
      rw [nI_1 i]
      refine hw ?_
      refine ⟨vi, ?_⟩
      rw [ci, tk]
      exact qc_emit (k := K i) (s := 0) (by omega) (by omega) (by decide) (qz_byte (by omega)) hp
theorem qc_sk {qs : Nat → Nat} {d i : Nat} : (fun s => K (qc_set qs d i s)) = qc_set (fun s => K (qs s)) d (K i) := by
  funext s
  unfold qc_set
  by_cases h : s = d
  · rw [if_pos h, if_pos h]
  · rw [if_neg h, if_neg h]
theorem qc_n3 (hT : qe_T N kd V K) (hI : qc_I K V N op sl st nu ok oo oS P Q e1 e2 tg qs os B N i d l) (hi : i < N) (hk : K i = 3 ∨ K i = 6) : qc_NX N kd V K i d l op sl st nu ok oo oS isC cst qs := by
  have hN := hT.1
  obtain ⟨tk, tok, _⟩ := hT.2 i hi
  have i2 := hI.2.1
  have i4 := hI.2.2.2.1
  have vi : vp_in (nI i) 64 := vp_in_nI (by omega) (by decide)
  have ci : (nI i).toNatClampNeg = i := nI_clamp (by omega)
  have hgo : ∀ {post : Int32 → SX → Prop} {f_tokens f_length f_fault f_compiled f_open f_waits f_ended f_threads f_arg f_phase f_races f_ran f_over : Int32} {a_value a_op a_slot a_statement a_number a_openKind a_openOut a_openStart a_isConstant a_constant a_at a_slots a_variables a_steps a_words a_counters a_added a_own a_ownPhase a_storedPhase a_readPhase a_racePhase a_storedBy a_readBy a_readByMore a_doneCount : Nat → Int32}, wX_next_106 post (nI i) f_length f_tokens f_length f_fault f_compiled f_open f_waits f_ended f_threads f_arg f_phase f_races f_ran f_over kd a_value a_op a_slot a_statement a_number a_openKind a_openOut a_openStart a_isConstant a_constant a_at a_slots a_variables a_steps a_words a_counters a_added a_own a_ownPhase a_storedPhase a_readPhase a_racePhase a_storedBy a_readBy a_readByMore a_doneCount → wpX_next post (f_tokens, f_length, f_fault, f_compiled, f_open, f_waits, f_ended, f_threads, f_arg, f_phase, f_races, f_ran, f_over, kd, a_value, a_op, a_slot, a_statement, a_number, a_openKind, a_openOut, a_openStart, a_isConstant, a_constant, a_at, a_slots, a_variables, a_steps, a_words, a_counters, a_added, a_own, a_ownPhase, a_storedPhase, a_readPhase, a_racePhase, a_storedBy, a_readBy, a_readByMore, a_doneCount) (nI i) := by
    intro post f_tokens f_length f_fault f_compiled f_open f_waits f_ended f_threads f_arg f_phase f_races f_ran f_over a_value a_op a_slot a_statement a_number a_openKind a_openOut a_openStart a_isConstant a_constant a_at a_slots a_variables a_steps a_words a_counters a_added a_own a_ownPhase a_storedPhase a_readPhase a_racePhase a_storedBy a_readBy a_readByMore a_doneCount h
    unfold wpX_next
    dsimp only
    refine ⟨vi, nm_r (e' := nI (K i)) (by rw [ci, tk]) ?_⟩
    rcases hk with hk | hk
    · rw [hk]
      exact br_f (by decide) (br_f (by decide) (br_f (by decide) (br_f (by decide) (br_f (by decide) (br_t (by decide) h)))))
    · rw [hk]
      exact br_f (by decide) (br_f (by decide) (br_f (by decide) (br_f (by decide) (br_f (by decide) (br_f (by decide) (br_f (by decide) (br_f (by decide) (br_t (by decide) h))))))))
  rcases qc_one (f := i + 1) (l := l) (op := op) (sl := sl) (st := st) (nu := nu) (isC := isC) (cst := cst) hT (by omega) (by omega) (by omega) with ⟨e, l1, op1, sl1, st1, nu1, isC1, cst1, hP, he, hX, hfr, hw⟩ | ⟨g, hF, hw⟩
  · left
    have p1 := hP.1
    have p2 := hP.2.1
    have x2 := hX.2.1
    refine ⟨e, d + 1, l1 + 1, upd op1 l1 (nI 41), upd sl1 l1 (nI 0), upd st1 l1 (nI i), upd nu1 l1 0, upd ok d (nI (K i)), upd oo d (nI l1), upd oS d (nI l), isC1, cst1, _, _, _, _, _, qc_set qs d i, qc_set os d i, _, by omega, qc_x3 hI hk (by omega) hP he hX hfr, fun F hG => qw_begin hT hi hk (by omega) ?_, ?_⟩
    · rw [qc_sk] at hG
      exact qw_expr_ok (L := 1) hT hP he (Or.inl rfl) (fun _ => hG) (fun h => absurd h (by decide)) (e - (i + 1) - 1) (j := 0) (by omega)
    · intros
      rename_i post hp
      apply hgo
      unfold wX_next_106
      rw [nI_1 i]
      refine hw ?_
      refine ⟨vi, ?_⟩
      rw [ci, tk]
      exact qc_begin (by omega) (by omega) (by omega) (by omega) (by omega) hp
  · right
    refine ⟨g, d + 1, l + 1, upd op l (nI 41), upd sl l (nI 0), upd st l (nI i), upd nu l 0, upd ok d (nI (K i)), upd oo d (nI l), upd oS d (nI l), isC, cst, hF.2.2.1, by omega, qw_begin hT hi hk (by omega) ?_, ?_⟩
    · exact qw_expr_bad (L := 1) hT hF (g - (i + 1)) (j := 0) (by omega)
    · intros
      rename_i post hp
      apply hgo
      unfold wX_next_106
      rw [nI_1 i]
      refine hw ?_
      refine ⟨vi, ?_⟩
      rw [ci, tk]
      exact qc_begin (by omega) (by omega) (by omega) (by omega) (by omega) hp
theorem qc_n7 (hT : qe_T N kd V K) (hI : qc_I K V N op sl st nu ok oo oS P Q e1 e2 tg qs os B N i d l) (hi : i < N) (hk : K i = 7 ∨ K i = 8) : qc_NX N kd V K i d l op sl st nu ok oo oS isC cst qs := by
  have hN := hT.1
  obtain ⟨tk, tok, _⟩ := hT.2 i hi
  have i2 := hI.2.1
  have vi : vp_in (nI i) 64 := vp_in_nI (by omega) (by decide)
  have ci : (nI i).toNatClampNeg = i := nI_clamp (by omega)
  left
  refine ⟨i + 1, d, l + 1, upd op l (nI (K i)), upd sl l (nI 0), upd st l (nI i), upd nu l 0, ok, oo, oS, isC, cst, _, _, _, _, _, qs, os, _, by omega, qc_x7 hI hk (by omega) (by omega), fun F hG => qw_simple hT hi hk hG, ?_⟩
  intro f_compiled f_waits f_ended f_threads f_arg f_phase f_races f_ran f_over a_at a_slots a_variables a_steps a_words a_counters a_added a_own a_ownPhase a_storedPhase a_readPhase a_racePhase a_storedBy a_readBy a_readByMore a_doneCount post hp
  have h8 : wX_next_134 post (nI i) (nI N) (nI (l)) (-1) f_compiled (nI (d)) f_waits f_ended f_threads f_arg f_phase f_races f_ran f_over kd V op sl st nu ok oo oS isC cst a_at a_slots a_variables a_steps a_words a_counters a_added a_own a_ownPhase a_storedPhase a_readPhase a_racePhase a_storedBy a_readBy a_readByMore a_doneCount := by
    unfold wX_next_134
    refine ⟨vi, ?_⟩
    rw [ci, tk]
    rw [nI_1 i]
    exact qc_emit (k := K i) (s := 0) (by omega) (by omega) (by decide) (qz_byte (by omega)) hp
  unfold wpX_next
  dsimp only
  refine ⟨vi, nm_r (e' := nI (K i)) (by rw [ci, tk]) ?_⟩
  rcases hk with hk | hk
  · rw [hk]
    exact br_f (by decide) (br_f (by decide) (br_f (by decide) (br_f (by decide) (br_f (by decide) (br_f (by decide) (br_f (by decide) (br_f (by decide) (br_f (by decide) (br_t (by decide) h8)))))))))
  · rw [hk]
    exact br_f (by decide) (br_f (by decide) (br_f (by decide) (br_f (by decide) (br_f (by decide) (br_f (by decide) (br_f (by decide) (br_f (by decide) (br_f (by decide) (br_f (by decide) (br_t (by decide) h8))))))))))
theorem qc_n9 (hT : qe_T N kd V K) (hI : qc_I K V N op sl st nu ok oo oS P Q e1 e2 tg qs os B N i d l) (hi : i < N) (hk : 9 < K i) : qc_NX N kd V K i d l op sl st nu ok oo oS isC cst qs := by
  have hN := hT.1
  obtain ⟨tk, tok, _⟩ := hT.2 i hi
  have k31 : K i ≤ 31 := by rcases tok with h | h | h <;> omega
  have i2 := hI.2.1
  have vi : vp_in (nI i) 64 := vp_in_nI (by omega) (by decide)
  have ci : (nI i).toNatClampNeg = i := nI_clamp (by omega)
  right
  refine ⟨i, d, l, op, sl, st, nu, ok, oo, oS, isC, cst, by omega, by omega, qw_tok hT hi hk, ?_⟩
  intros
  rename_i post hp
  unfold wpX_next
  dsimp only
  refine ⟨vi, nm_r (e' := nI (K i)) (by rw [ci, tk]) ?_⟩
  exact br_f (nI_pos (by omega)) (br_t (nI_lt (a := 8) (by omega) (by omega)) hp)
theorem qc_n4 (hT : qe_T N kd V K) (hI : qc_I K V N op sl st nu ok oo oS P Q e1 e2 tg qs os B N i d l) (hi : i < N) (hk : K i = 4 ∨ K i = 5) : qc_NX N kd V K i d l op sl st nu ok oo oS isC cst qs := by
  have hN := hT.1
  obtain ⟨tk, tok, _⟩ := hT.2 i hi
  have i2 := hI.2.1
  have i4 := hI.2.2.2.1
  have iS := hI.2.2.2.2.2.2.2.2.2.2.2.2.1
  have vi : vp_in (nI i) 64 := vp_in_nI (by omega) (by decide)
  have ci : (nI i).toNatClampNeg = i := nI_clamp (by omega)
  have hgo : ∀ {post : Int32 → SX → Prop} {f_tokens f_length f_fault f_compiled f_open f_waits f_ended f_threads f_arg f_phase f_races f_ran f_over : Int32} {a_value a_op a_slot a_statement a_number a_openKind a_openOut a_openStart a_isConstant a_constant a_at a_slots a_variables a_steps a_words a_counters a_added a_own a_ownPhase a_storedPhase a_readPhase a_racePhase a_storedBy a_readBy a_readByMore a_doneCount : Nat → Int32}, wpX_close post (f_tokens, f_length, f_fault, f_compiled, f_open, f_waits, f_ended, f_threads, f_arg, f_phase, f_races, f_ran, f_over, kd, a_value, a_op, a_slot, a_statement, a_number, a_openKind, a_openOut, a_openStart, a_isConstant, a_constant, a_at, a_slots, a_variables, a_steps, a_words, a_counters, a_added, a_own, a_ownPhase, a_storedPhase, a_readPhase, a_racePhase, a_storedBy, a_readBy, a_readByMore, a_doneCount) (nI i) → wpX_next post (f_tokens, f_length, f_fault, f_compiled, f_open, f_waits, f_ended, f_threads, f_arg, f_phase, f_races, f_ran, f_over, kd, a_value, a_op, a_slot, a_statement, a_number, a_openKind, a_openOut, a_openStart, a_isConstant, a_constant, a_at, a_slots, a_variables, a_steps, a_words, a_counters, a_added, a_own, a_ownPhase, a_storedPhase, a_readPhase, a_racePhase, a_storedBy, a_readBy, a_readByMore, a_doneCount) (nI i) := by
    intro post f_tokens f_length f_fault f_compiled f_open f_waits f_ended f_threads f_arg f_phase f_races f_ran f_over a_value a_op a_slot a_statement a_number a_openKind a_openOut a_openStart a_isConstant a_constant a_at a_slots a_variables a_steps a_words a_counters a_added a_own a_ownPhase a_storedPhase a_readPhase a_racePhase a_storedBy a_readBy a_readByMore a_doneCount h
    unfold wpX_next
    dsimp only
    refine ⟨vi, nm_r (e' := nI (K i)) (by rw [ci, tk]) ?_⟩
    rcases hk with hk | hk
    · rw [hk]
      exact br_f (by decide) (br_f (by decide) (br_f (by decide) (br_f (by decide) (br_f (by decide) (br_f (by decide) (br_t (by decide) h))))))
    · rw [hk]
      exact br_f (by decide) (br_f (by decide) (br_f (by decide) (br_f (by decide) (br_f (by decide) (br_f (by decide) (br_f (by decide) (br_t (by decide) h)))))))
  by_cases hd : d = 0
  · subst hd
    right
    refine ⟨i, 0, l, op, sl, st, nu, ok, oo, oS, isC, cst, by omega, by omega, ?_, ?_⟩
    · rcases hk with h | h
      · exact qw_else_bad hT hi h (by omega) (Or.inl rfl)
      · exact qw_fin_bad hT hi h rfl
    · intros
      rename_i post hp
      apply hgo
      unfold wpX_close
      dsimp only
      refine br_t (by decide) ?_
      unfold wX_close_22
      exact br_t (by decide) hp
  · obtain ⟨a1, a2, a3, a4, a5, a6, a7, a8, a9⟩ := iS (d - 1) (by omega)
    have kq : K (qs (d - 1)) = 3 ∨ K (qs (d - 1)) = 6 ∨ K (qs (d - 1)) = 4 := by
      rcases a9 with b | b | b
      · exact Or.inl b.1
      · exact Or.inr (Or.inl b.1)
      · exact Or.inr (Or.inr b.1)
    have ed : nI d - 1 = nI (d - 1) := qz_m (by omega)
    have vd : vp_in (nI (d - 1)) 32 := vp_in_nI (by omega) (by decide)
    have cd : (nI (d - 1)).toNatClampNeg = d - 1 := nI_clamp (by omega)
    have hgo2 : ∀ {post : Int32 → SX → Prop} {f_tokens f_length f_fault f_compiled f_waits f_ended f_threads f_arg f_phase f_races f_ran f_over : Int32} {a_value a_op a_slot a_statement a_number a_openOut a_openStart a_isConstant a_constant a_at a_slots a_variables a_steps a_words a_counters a_added a_own a_ownPhase a_storedPhase a_readPhase a_racePhase a_storedBy a_readBy a_readByMore a_doneCount : Nat → Int32}, wX_close_22 post (nI i) (nI (K (qs (d - 1)))) f_tokens f_length f_fault f_compiled (nI d) f_waits f_ended f_threads f_arg f_phase f_races f_ran f_over kd a_value a_op a_slot a_statement a_number ok a_openOut a_openStart a_isConstant a_constant a_at a_slots a_variables a_steps a_words a_counters a_added a_own a_ownPhase a_storedPhase a_readPhase a_racePhase a_storedBy a_readBy a_readByMore a_doneCount → wpX_next post (f_tokens, f_length, f_fault, f_compiled, nI d, f_waits, f_ended, f_threads, f_arg, f_phase, f_races, f_ran, f_over, kd, a_value, a_op, a_slot, a_statement, a_number, ok, a_openOut, a_openStart, a_isConstant, a_constant, a_at, a_slots, a_variables, a_steps, a_words, a_counters, a_added, a_own, a_ownPhase, a_storedPhase, a_readPhase, a_racePhase, a_storedBy, a_readBy, a_readByMore, a_doneCount) (nI i) := by
      intro post f_tokens f_length f_fault f_compiled f_waits f_ended f_threads f_arg f_phase f_races f_ran f_over a_value a_op a_slot a_statement a_number a_openOut a_openStart a_isConstant a_constant a_at a_slots a_variables a_steps a_words a_counters a_added a_own a_ownPhase a_storedPhase a_readPhase a_racePhase a_storedBy a_readBy a_readByMore a_doneCount h
      apply hgo
      unfold wpX_close
      dsimp only
      refine br_f (nI_ge (a := 0) (by omega) (by omega)) ?_
      rw [ed]
      refine ⟨vd, ?_⟩
      rw [cd, a3]
      exact h
    rcases hk with hk | hk
    · by_cases hq : K (qs (d - 1)) = 3
      · left
        obtain ⟨hQ, hI2⟩ := qc_x4 hI hk (by omega) (by omega) hq
        refine ⟨i + 1, d, l + 1, _, _, _, _, _, _, _, isC, cst, _, _, _, _, _, qc_set qs (d - 1) i, os, _, by omega, hI2, fun F hG => qw_else hT hi hk (by omega) (by omega) hq ?_, ?_⟩
        · rw [qc_sk, hk] at hG
          exact hG
        · intros
          rename_i post hp
          apply hgo2
          unfold wX_close_22
          rw [hq]
          refine br_f (by decide) ⟨vi, br_t (by rw [ci, tk, hk]; rfl) (br_t (by decide) ?_)⟩
          unfold wX_close_49
          refine nm_r ed (br_f (by decide) ?_)
          refine qc_cl82e (by omega) (by omega) (by omega) (by omega) (by rw [tk, hk]; rfl) a4 ?_
          rw [show d - 1 + 1 = d by omega]
          exact hp
      · right
        refine ⟨i, d, l, op, sl, st, nu, ok, oo, oS, isC, cst, by omega, by omega, qw_else_bad hT hi hk (by omega) (Or.inr ⟨hq, by omega⟩), ?_⟩
        intros
        rename_i post hp
        apply hgo2
        unfold wX_close_22
        exact br_f (nI_pos (by omega)) ⟨vi, br_t (by rw [ci, tk, hk]; rfl) (br_f (qz_ne (b := 3) hq (by omega) (by decide)) hp)⟩
    · left
      have nk4 : ¬ kd i = 4 := by
        rw [tk, hk]
        decide
      by_cases hq : K (qs (d - 1)) = 6
      · obtain ⟨hQ, hI2⟩ := qc_x6 hI hk (by omega) (by omega) hq
        refine ⟨i + 1, d - 1, l + 1, _, _, _, _, ok, oo, oS, isC, cst, _, _, _, _, _, qs, os, _, by omega, hI2, fun F hG => qw_fin hT hi hk (by omega) (by omega) hG, ?_⟩
        intros
        rename_i post hp
        apply hgo2
        unfold wX_close_22
        refine br_f (nI_pos (by omega)) ⟨vi, br_f (by rw [ci]; exact nk4) ?_⟩
        unfold wX_close_49
        refine nm_r ed (br_t (by rw [hq]; rfl) ⟨vd, ?_⟩)
        rw [cd]
        refine qc_emit (k := 40) (s := 0) (by omega) (by decide) (by decide) qz_bm1 ?_
        exact qc_cl82n (by omega) (by omega) (by omega) nk4 a4 hp
      · obtain ⟨hQ, hI2⟩ := qc_x5 hI hk (by omega) (by omega) hq
        refine ⟨i + 1, d - 1, l, op, sl, st, _, ok, oo, oS, isC, cst, _, _, _, _, _, qs, os, _, by omega, hI2, fun F hG => qw_fin hT hi hk (by omega) (by omega) hG, ?_⟩
        intros
        rename_i post hp
        apply hgo2
        unfold wX_close_22
        refine br_f (nI_pos (by omega)) ⟨vi, br_f (by rw [ci]; exact nk4) ?_⟩
        unfold wX_close_49
        refine nm_r ed (br_f (qz_ne (b := 6) hq (by omega) (by decide)) ?_)
        exact qc_cl82n (by omega) (by omega) (by omega) nk4 a4 hp
theorem qc_next (hT : qe_T N kd V K) (hI : qc_I K V N op sl st nu ok oo oS P Q e1 e2 tg qs os B N i d l) (hi : i < N) : qc_NX N kd V K i d l op sl st nu ok oo oS isC cst qs := by
  have tok := (hT.2 i hi).2.1
  by_cases h9 : 9 < K i
  · exact qc_n9 hT hI hi h9
  · have h8 : K i ≤ 8 := by rcases tok with h | h | h <;> omega
    rcases (show K i = 0 ∨ (K i = 1 ∨ K i = 2) ∨ (K i = 3 ∨ K i = 6) ∨ (K i = 4 ∨ K i = 5) ∨ (K i = 7 ∨ K i = 8) by omega) with h | h | h | h | h
    · exact qc_n0 hT hI hi h
    · exact qc_n1 hT hI hi h
    · exact qc_n3 hT hI hi h
    · exact qc_n4 hT hI hi h
    · exact qc_n7 hT hI hi h
end
/-- the code is sound if there is no fault -/
def qc_CO (N : Nat) (K : Nat → Nat) (V op sl st nu : Nat → Int32) : Prop := ∃ (P Q e1 e2 tg : Nat → Nat) (B : Nat → Prop), qc_CODE N K V op sl st nu P Q e1 e2 tg B
section
variable {N : Nat} {kd V : Nat → Int32} {K : Nat → Nat}
theorem qc_comp30 (hT : qe_T N kd V K) (r : Nat) : ∀ {i d l : Nat} {op sl st nu ok oo oS isC cst : Nat → Int32} {P Q e1 e2 tg qs os : Nat → Nat} {B : Nat → Prop}, N - i < r → qc_I K V N op sl st nu ok oo oS P Q e1 e2 tg qs os B N i d l →
    ∃ (F : Int32) (l' d' : Nat) (op' sl' st' nu' ok' oo' oS' isC' cst' : Nat → Int32), qw_G N kd F i d (fun s => K (qs s)) ∧ (F = -1 ∨ ∃ f, f ≤ N ∧ F = nI f) ∧ (F = -1 → qc_CO N K V op' sl' st' nu') ∧
      ∀ {f_compiled f_waits f_ended f_threads f_arg f_phase f_races f_ran f_over : Int32} {a_at a_slots a_variables a_steps a_words a_counters a_added a_own a_ownPhase a_storedPhase a_readPhase a_racePhase a_storedBy a_readBy a_readByMore a_doneCount : Nat → Int32} {post : SX → Prop} {n : Nat}, N - i < n → post (nI N, nI (l'), F, f_compiled, nI (d'), f_waits, f_ended, f_threads, f_arg, f_phase, f_races, f_ran, f_over, kd, V, op', sl', st', nu', ok', oo', oS', isC', cst', a_at, a_slots, a_variables, a_steps, a_words, a_counters, a_added, a_own, a_ownPhase, a_storedPhase, a_readPhase, a_racePhase, a_storedBy, a_readBy, a_readByMore, a_doneCount) → wX_compile_30 post n (nI i) (nI N) (nI (l)) (-1) f_compiled (nI (d)) f_waits f_ended f_threads f_arg f_phase f_races f_ran f_over kd V op sl st nu ok oo oS isC cst a_at a_slots a_variables a_steps a_words a_counters a_added a_own a_ownPhase a_storedPhase a_readPhase a_racePhase a_storedBy a_readBy a_readByMore a_doneCount := by
  have hN := hT.1
  induction r with
  | zero => intro i d l op sl st nu ok oo oS isC cst P Q e1 e2 tg qs os B h; omega
  | succ r ih =>
    intro i d l op sl st nu ok oo oS isC cst P Q e1 e2 tg qs os B hr hI
    have i1 := hI.1
    have i2 := hI.2.1
    have i4 := hI.2.2.2.1
    by_cases hi : i = N
    · subst hi
      refine ⟨if d = 0 then -1 else nI i, l + 1, d, upd op l (nI 42), upd sl l (nI 0), upd st l (-1), upd nu l 0, ok, oo, oS, isC, cst, qw_end hN (by omega), ?_, ?_, ?_⟩
      · by_cases hd : d = 0
        · rw [if_pos hd]; exact Or.inl rfl
        · rw [if_neg hd]; exact Or.inr ⟨i, Nat.le_refl i, rfl⟩
      · intro hF
        by_cases hd : d = 0
        · subst hd
          exact ⟨_, _, _, _, _, _, qc_fin hN hI⟩
        · rw [if_neg hd] at hF
          exact absurd hF (qz_nneg (by omega))
      · intros
        rename_i post n hn hp
        obtain ⟨m, rfl⟩ : ∃ m, n = m + 1 := ⟨n - 1, by omega⟩
        unfold wX_compile_30
        refine br_f (nI_pos (by omega)) (br_t (nI_le (by omega) (by omega)) ?_)
        unfold wX_compile_51
        refine br_t rfl ?_
        refine pk_le d 0 (fun h => ?_) (fun h => ?_)
        · rw [if_pos (by omega)] at hp
          unfold wX_compile_74
          exact qc_emit (k := 42) (s := 0) (by omega) (by decide) (by decide) qz_bm1 hp
        · rw [if_neg (by omega)] at hp
          unfold wX_compile_74
          exact qc_emit (k := 42) (s := 0) (by omega) (by decide) (by decide) qz_bm1 hp
    · rcases qc_next (isC := isC) (cst := cst) hT hI (by omega) with ⟨e, d', l', op', sl', st', nu', ok', oo', oS', isC', cst', P', Q', e1', e2', tg', qs', os', B', h1, hI', hG, hw⟩ | ⟨g, d', l', op', sl', st', nu', ok', oo', oS', isC', cst', h1, h2, hG, hw⟩
      · have j1 := hI'.1
        obtain ⟨F, l2, d2, op2, sl2, st2, nu2, ok2, oo2, oS2, isC2, cst2, hG2, hF, hCo, hw2⟩ := ih (isC := isC') (cst := cst') (by omega) hI'
        refine ⟨F, l2, d2, op2, sl2, st2, nu2, ok2, oo2, oS2, isC2, cst2, hG F hG2, hF, hCo, ?_⟩
        intros
        rename_i post n hn hp
        obtain ⟨m, rfl⟩ : ∃ m, n = m + 1 := ⟨n - 1, by omega⟩
        unfold wX_compile_30
        refine br_f (nI_pos (by omega)) (br_f (nI_ge (by omega) (by omega)) ?_)
        refine hw ?_
        exact hw2 (by omega) hp
      · refine ⟨nI g, l' + 1, d', upd op' l' (nI 42), upd sl' l' (nI 0), upd st' l' (-1), upd nu' l' 0, ok', oo', oS', isC', cst', hG, Or.inr ⟨g, h1, rfl⟩, fun h => absurd h (qz_nneg (by omega)), ?_⟩
        intros
        rename_i post n hn hp
        obtain ⟨m, rfl⟩ : ∃ m, n = m + 1 + 1 := ⟨n - 2, by omega⟩
        unfold wX_compile_30
        refine br_f (nI_pos (by omega)) (br_f (nI_ge (by omega) (by omega)) ?_)
        refine hw ?_
        unfold wX_compile_30
        refine br_t (by decide) ?_
        unfold wX_compile_51
        refine br_f (qz_nneg (by omega)) ?_
        unfold wX_compile_74
        exact qc_emit (k := 42) (s := 0) (by omega) (by decide) (by decide) qz_bm1 hp
/-- compile from scratch -/
theorem qc_comp {op sl st nu ok oo oS isC cst : Nat → Int32} (hT : qe_T N kd V K) :
    ∃ (F : Int32) (l' d' : Nat) (op' sl' st' nu' ok' oo' oS' isC' cst' : Nat → Int32), qw_G N kd F 0 0 (fun s => K s) ∧ (F = -1 ∨ ∃ f, f ≤ N ∧ F = nI f) ∧ (F = -1 → qc_CO N K V op' sl' st' nu') ∧
      ∀ {f_length f_fault f_open f_waits f_ended f_threads f_arg f_phase f_races f_ran f_over : Int32} {a_at a_slots a_variables a_steps a_words a_counters a_added a_own a_ownPhase a_storedPhase a_readPhase a_racePhase a_storedBy a_readBy a_readByMore a_doneCount : Nat → Int32} {post : SX → Prop},
        post (nI N, nI l', F, 1, nI d', f_waits, f_ended, f_threads, f_arg, f_phase, f_races, f_ran, f_over, kd, V, op', sl', st', nu', ok', oo', oS', isC', cst', a_at, a_slots, a_variables, a_steps, a_words, a_counters, a_added, a_own, a_ownPhase, a_storedPhase, a_readPhase, a_racePhase, a_storedBy, a_readBy, a_readByMore, a_doneCount) →
        wpX_compile post (nI N, f_length, f_fault, 0, f_open, f_waits, f_ended, f_threads, f_arg, f_phase, f_races, f_ran, f_over, kd, V, op, sl, st, nu, ok, oo, oS, isC, cst, a_at, a_slots, a_variables, a_steps, a_words, a_counters, a_added, a_own, a_ownPhase, a_storedPhase, a_readPhase, a_racePhase, a_storedBy, a_readBy, a_readByMore, a_doneCount) := by
  have hI : qc_I K V N op sl st nu ok oo oS (fun _ => 0) (fun _ => 0) (fun _ => 0) (fun _ => 0) (fun _ => 0) (fun s => s) (fun s => s) (fun x => x = 0) N 0 0 0 := by
    refine ⟨Nat.zero_le N, Nat.le_refl 0, rfl, Nat.le_refl 0, rfl, rfl, rfl, rfl, fun j hj => ⟨by omega, Nat.le_refl 0⟩, fun j hj => absurd hj (Nat.not_lt_zero j), fun j hj => absurd hj (Nat.not_lt_zero j), fun j hj => absurd hj (Nat.not_lt_zero j), fun s hs => absurd hs (Nat.not_lt_zero s), fun p hp => absurd hp (Nat.not_lt_zero p)⟩
  obtain ⟨F, l', d', op', sl', st', nu', ok', oo', oS', isC', cst', h1, h2, h3, hw⟩ := qc_comp30 (isC := isC) (cst := cst) hT (N - 0 + 1) (by omega) hI
  refine ⟨F, l', d', op', sl', st', nu', ok', oo', oS', isC', cst', h1, h2, h3, ?_⟩
  intros
  rename_i post hp
  unfold wpX_compile
  dsimp only
  exact br_t rfl ⟨N - 0 + 1, hw (by omega) hp⟩
/-- whatever asks the reference's wrong is told F -/
def qw_W (N : Nat) (kd : Nat → Int32) (F : Int32) : Prop := ∀ {f_threads f_argument f_phases f_races f_behind f_over : Int32} {a_value a_open a_words a_counters a_own a_next a_storers a_readers a_added a_variables a_at a_steps a_finished a_done a_stack : Nat → Int32} {post : Int32 → SY → Prop}, (∀ o : Nat → Int32, post F (nI N, f_threads, f_argument, f_phases, f_races, f_behind, f_over, kd, a_value, o, a_words, a_counters, a_own, a_next, a_storers, a_readers, a_added, a_variables, a_at, a_steps, a_finished, a_done, a_stack)) → wpY_wrong post (nI N, f_threads, f_argument, f_phases, f_races, f_behind, f_over, kd, a_value, a_open, a_words, a_counters, a_own, a_next, a_storers, a_readers, a_added, a_variables, a_at, a_steps, a_finished, a_done, a_stack)
theorem qw_W_of {F : Int32} {sk : Nat → Nat} (h : qw_G N kd F 0 0 sk) : qw_W N kd F := by
  intro f_threads f_argument f_phases f_races f_behind f_over a_value a_open a_words a_counters a_own a_next a_storers a_readers a_added a_variables a_at a_steps a_finished a_done a_stack post hp
  unfold wpY_wrong
  dsimp only
  exact ⟨N - 0 + 1, h 0 (by omega) (fun s hs => absurd hs (Nat.not_lt_zero s)) hp⟩
end
end
section
/-! one thread, pure: the component's instruction, the reference's step, a phase of both -/
/-- steps, variables, own words, stored, read, added, done, state (0 goes on, 1 waits, 2 ended), over -/
abbrev qt_C : Type := Nat × (Nat → Int32) × (Nat → Int32) × (Nat → Bool) × (Nat → Bool) × (Nat → Int32) × (Nat → Int32) × Nat × Bool
abbrev qt_sp (c : qt_C) : Nat := c.1
abbrev qt_vr (c : qt_C) : Nat → Int32 := c.2.1
abbrev qt_ow (c : qt_C) : Nat → Int32 := c.2.2.1
abbrev qt_S (c : qt_C) : Nat → Bool := c.2.2.2.1
abbrev qt_R (c : qt_C) : Nat → Bool := c.2.2.2.2.1
abbrev qt_A (c : qt_C) : Nat → Int32 := c.2.2.2.2.2.1
abbrev qt_D (c : qt_C) : Nat → Int32 := c.2.2.2.2.2.2.1
abbrev qt_fl (c : qt_C) : Nat := c.2.2.2.2.2.2.2.1
abbrev qt_ov (c : qt_C) : Bool := c.2.2.2.2.2.2.2.2
def qt_cnt (c : qt_C) (k : Nat) : qt_C := (qt_sp c + 1, qt_vr c, qt_ow c, qt_S c, qt_R c, qt_A c, upd (qt_D c) k (qt_D c k + 1), qt_fl c, qt_ov c)
def qt_rd (c : qt_C) (R : Nat → Bool) : qt_C := (qt_sp c, qt_vr c, qt_ow c, qt_S c, R, qt_A c, qt_D c, qt_fl c, qt_ov c)
def qt_vs (c : qt_C) (v : Nat) (x : Int32) : qt_C := (qt_sp c, upd (qt_vr c) v x, qt_ow c, qt_S c, qt_R c, qt_A c, qt_D c, qt_fl c, qt_ov c)
def qt_sw (c : qt_C) (i : Nat) (x : Int32) : qt_C := (qt_sp c, qt_vr c, upd (qt_ow c) i x, (fun j => if j = i then true else qt_S c j), qt_R c, qt_A c, qt_D c, qt_fl c, qt_ov c)
def qt_ad (c : qt_C) (i : Nat) (x : Int32) : qt_C := (qt_sp c, qt_vr c, qt_ow c, qt_S c, qt_R c, upd (qt_A c) i (qt_A c i + x), qt_D c, qt_fl c, qt_ov c)
def qt_f (c : qt_C) (f : Nat) : qt_C := (qt_sp c, qt_vr c, qt_ow c, qt_S c, qt_R c, qt_A c, qt_D c, f, qt_ov c)
def qt_over (c : qt_C) : qt_C := (qt_sp c, qt_vr c, qt_ow c, qt_S c, qt_R c, qt_A c, qt_D c, 2, true)
abbrev qt_X : Type := Nat × (Nat → Int32) × qt_C
abbrev qt_Y : Type := Nat × qt_C
def qt_env (ct : Nat → Int32) (tn ag : Int32) (t : Nat) (c : qt_C) : qe_E := (qt_vr c, qt_ow c, ct, nI t, tn, ag)
/-- an instruction o at p, counted already -/
def qt_x2 (op sl nu : Nat → Int32) (ct : Nat → Int32) (tn ag : Int32) (t p : Nat) (s : Nat → Int32) (c : qt_C) : qt_X :=
  if 10 ≤ (op p).toNatClampNeg ∧ (op p).toNatClampNeg ≤ 31 then
    (p + 1, (qe_i (qt_env ct tn ag t c) (op p).toNatClampNeg (sl p).toNatClampNeg (nu p) (s, qt_R c)).1, qt_rd c (qe_i (qt_env ct tn ag t c) (op p).toNatClampNeg (sl p).toNatClampNeg (nu p) (s, qt_R c)).2)
  else if (op p).toNatClampNeg = 0 then (p + 1, s, qt_vs c (nu p).toNatClampNeg (s 0))
  else if (op p).toNatClampNeg = 1 then (p + 1, s, qt_sw c (qz_w (s 0)) (s 1))
  else if (op p).toNatClampNeg = 2 then (p + 1, s, qt_ad c (qz_w (s 0)) (s 1))
  else if (op p).toNatClampNeg = 7 then (p + 1, s, qt_f c 1)
  else if (op p).toNatClampNeg = 40 then ((nu p).toNatClampNeg, s, c)
  else if (op p).toNatClampNeg = 41 then (if s 0 = 0 then (nu p).toNatClampNeg else p + 1, s, c)
  else (p + 1, s, qt_f c 2)
def qt_x (op sl st nu : Nat → Int32) (ct : Nat → Int32) (tn ag : Int32) (t : Nat) (l : qt_X) : qt_X :=
  if qt_fl l.2.2 ≠ 0 then l
  else if qt_sp l.2.2 = 300 ∧ (op l.1).toNatClampNeg ≠ 40 ∧ (op l.1).toNatClampNeg ≠ 42 then (l.1, l.2.1, qt_over l.2.2)
  else qt_x2 op sl nu ct tn ag t l.1 l.2.1 (if st l.1 < 0 then l.2.2 else qt_cnt l.2.2 (st l.1).toNatClampNeg)
def qt_xn (op sl st nu : Nat → Int32) (ct : Nat → Int32) (tn ag : Int32) (t : Nat) : Nat → qt_X → qt_X
  | 0, l => l
  | n + 1, l => qt_xn op sl st nu ct tn ag t n (qt_x op sl st nu ct tn ag t l)
def qt_ev (E : qe_E) (K : Nat → Nat) (V : Nat → Int32) (f e : Nat) (R : Nat → Bool) : qe_S := qe_y E K V e (fun _ => 0, R) (e - f)
/-- a counted statement at token i -/
def qt_y1 (K : Nat → Nat) (V : Nat → Int32) (e1 e2 tg : Nat → Nat) (ct : Nat → Int32) (tn ag : Int32) (t i : Nat) (c : qt_C) : qt_Y :=
  if K i = 8 then (i, qt_f c 2) else if K i = 7 then (i + 1, qt_f c 1)
  else if K i = 0 then (e1 i, qt_vs (qt_rd c (qt_ev (qt_env ct tn ag t c) K V (i + 1) (e1 i) (qt_R c)).2) (V i).toNatClampNeg ((qt_ev (qt_env ct tn ag t c) K V (i + 1) (e1 i) (qt_R c)).1 0))
  else if K i = 1 then (e2 i, qt_sw (qt_rd c (qt_ev (qt_env ct tn ag t c) K V (e1 i) (e2 i) (qt_ev (qt_env ct tn ag t c) K V (i + 1) (e1 i) (qt_R c)).2).2) (qz_w ((qt_ev (qt_env ct tn ag t c) K V (i + 1) (e1 i) (qt_R c)).1 0)) ((qt_ev (qt_env ct tn ag t c) K V (e1 i) (e2 i) (qt_ev (qt_env ct tn ag t c) K V (i + 1) (e1 i) (qt_R c)).2).1 0))
  else if K i = 2 then (e2 i, qt_ad (qt_rd c (qt_ev (qt_env ct tn ag t c) K V (e1 i) (e2 i) (qt_ev (qt_env ct tn ag t c) K V (i + 1) (e1 i) (qt_R c)).2).2) (qz_w ((qt_ev (qt_env ct tn ag t c) K V (i + 1) (e1 i) (qt_R c)).1 0)) ((qt_ev (qt_env ct tn ag t c) K V (e1 i) (e2 i) (qt_ev (qt_env ct tn ag t c) K V (i + 1) (e1 i) (qt_R c)).2).1 0))
  else (if (qt_ev (qt_env ct tn ag t c) K V (i + 1) (e1 i) (qt_R c)).1 0 = 0 then tg i else e1 i, qt_rd c (qt_ev (qt_env ct tn ag t c) K V (i + 1) (e1 i) (qt_R c)).2)
def qt_y (N : Nat) (K : Nat → Nat) (V : Nat → Int32) (e1 e2 tg : Nat → Nat) (ct : Nat → Int32) (tn ag : Int32) (t : Nat) (y : qt_Y) : qt_Y :=
  if qt_fl y.2 ≠ 0 then y
  else if y.1 = N then (y.1, qt_f y.2 2)
  else if K y.1 = 4 ∨ K y.1 = 5 then (tg y.1, y.2)
  else if qt_sp y.2 = 300 then (y.1, qt_over y.2)
  else qt_y1 K V e1 e2 tg ct tn ag t y.1 (qt_cnt y.2 y.1)
def qt_yn (N : Nat) (K : Nat → Nat) (V : Nat → Int32) (e1 e2 tg : Nat → Nat) (ct : Nat → Int32) (tn ag : Int32) (t : Nat) : Nat → qt_Y → qt_Y
  | 0, y => y
  | n + 1, y => qt_yn N K V e1 e2 tg ct tn ag t n (qt_y N K V e1 e2 tg ct tn ag t y)
section
variable {N : Nat} {K : Nat → Nat} {V op sl st nu : Nat → Int32} {P Q e1 e2 tg : Nat → Nat} {B : Nat → Prop} {ct : Nat → Int32} {tn ag : Int32} {t : Nat}
theorem qt_xn_add (a : Nat) : ∀ (b : Nat) (l : qt_X), qt_xn op sl st nu ct tn ag t (b + a) l = qt_xn op sl st nu ct tn ag t a (qt_xn op sl st nu ct tn ag t b l)
  | 0, l => by rw [Nat.zero_add]; rfl
  | b + 1, l => by
    rw [show b + 1 + a = (b + a) + 1 by omega]
    show qt_xn op sl st nu ct tn ag t (b + a) (qt_x op sl st nu ct tn ag t l) = _
    rw [qt_xn_add a b]
    rfl
theorem qt_x_go {p : Nat} {s : Nat → Int32} {c : qt_C} (hf : qt_fl c = 0) (hs : ¬ (qt_sp c = 300 ∧ (op p).toNatClampNeg ≠ 40 ∧ (op p).toNatClampNeg ≠ 42)) :
    qt_x op sl st nu ct tn ag t (p, s, c) = qt_x2 op sl nu ct tn ag t p s (if st p < 0 then c else qt_cnt c (st p).toNatClampNeg) := by
  unfold qt_x
  rw [if_neg (by dsimp only; omega), if_neg hs]
theorem qt_x_gor {p : Nat} {s : Nat → Int32} {c : qt_C} {R : Nat → Bool} (hf : qt_fl c = 0) (hs : qt_sp c ≠ 300) :
    qt_x op sl st nu ct tn ag t (p, s, qt_rd c R) = qt_x2 op sl nu ct tn ag t p s (if st p < 0 then qt_rd c R else qt_cnt (qt_rd c R) (st p).toNatClampNeg) :=
  qt_x_go (c := qt_rd c R) hf (fun z => hs z.1)
/-- the code of an expression -/
theorem qt_run {a : Nat} {s : Nat → Int32} {c : qt_C} (hf : qt_fl c = 0) (hs : qt_sp c ≠ 300) : ∀ k, (∀ p, a ≤ p → p < a + k → qe_IO op sl st nu p) →
    qt_xn op sl st nu ct tn ag t k (a, s, c) = (a + k, (qe_run op sl nu (qt_env ct tn ag t c) a (s, qt_R c) k).1, qt_rd c (qe_run op sl nu (qt_env ct tn ag t c) a (s, qt_R c) k).2)
  | 0, _ => rfl
  | k + 1, h => by
    rw [qt_xn_add 1 k, qt_run hf hs k (fun p h1 h2 => h p h1 (by omega))]
    obtain ⟨o, s', h1, h2, h3, h4, h5, h6, h7, h8, h9⟩ := h (a + k) (by omega) (by omega)
    show qt_x op sl st nu ct tn ag t (a + k, _, _) = _
    rw [qt_x_gor hf hs, h9, if_pos (by decide)]
    unfold qt_x2
    have e1 : (op (a + k)).toNatClampNeg = o := by rw [h1, nI_clamp (by omega)]
    rw [if_pos (by rw [e1]; exact ⟨h3, h4⟩)]
    rfl
theorem qt_st {j p : Nat} (hj : j < 64) (h : st p = nI j) (c : qt_C) : (if st p < 0 then c else qt_cnt c (st p).toNatClampNeg) = qt_cnt c j := by
  rw [h, if_neg (nI_pos (by omega)), nI_clamp (by omega)]
theorem qt_stm {p : Nat} (h : st p = -1) (c : qt_C) : (if st p < 0 then c else qt_cnt c (st p).toNatClampNeg) = c := by
  rw [h, if_pos (by decide)]
/-- what an expression's code computes is what the reference computes -/
theorem qt_expr {f e base a b : Nat} {s : Nat → Int32} {c : qt_C} (hf : qt_fl c = 0) (hs : qt_sp c ≠ 300) (hX : qe_X K V f e base op sl st nu a b) :
    ∃ s', qt_xn op sl st nu ct tn ag t (b - a) (a, s, c) = (b, s', qt_rd c (qt_ev (qt_env ct tn ag t c) K V f e (qt_R c)).2) ∧ s' base = (qt_ev (qt_env ct tn ag t c) K V f e (qt_R c)).1 0 ∧ ∀ j, j < base → s' j = s j := by
  obtain ⟨x1, x2, x3, x4⟩ := hX
  obtain ⟨y1, y2, y3⟩ := x4 (qt_env ct tn ag t c) (s, qt_R c) (fun _ => 0, qt_R c) rfl
  refine ⟨_, ?_, y3, y2⟩
  rw [qt_run hf hs (b - a) (fun p h1 h2 => x3 p h1 (by omega)), y1, show a + (b - a) = b by omega]
  rfl
theorem qt_hd (hC : qc_CODE N K V op sl st nu P Q e1 e2 tg B) {i : Nat} (hi : i < N) (hB : B i) (h4 : K i ≠ 4) (h5 : K i ≠ 5) : (op (P i)).toNatClampNeg ≠ 40 ∧ (op (P i)).toNatClampNeg ≠ 42 := by
  obtain ⟨l0, l1, l2, l3, _, _, l6⟩ := hC.2.2.2.1 i hi hB
  have hio : ∀ p, qe_IO op sl st nu p → (op p).toNatClampNeg ≠ 40 ∧ (op p).toNatClampNeg ≠ 42 := by
    intro p h
    obtain ⟨k, s, h1, _, h3, h4, _⟩ := h
    rw [h1, nI_clamp (by omega)]
    omega
  have hlt : ∀ (p k : Nat), op p = nI k → (k ≤ 8 ∨ k = 41) → (op p).toNatClampNeg ≠ 40 ∧ (op p).toNatClampNeg ≠ 42 := by
    intro p k h1 h2
    rw [h1, nI_clamp (by omega)]
    omega
  rcases (show K i = 0 ∨ (K i = 1 ∨ K i = 2) ∨ (K i = 3 ∨ K i = 6) ∨ (K i = 7 ∨ K i = 8) by omega) with h | h | h | h
  · obtain ⟨a1, a2, a3, _⟩ := l1 h
    by_cases hq : P i = Q i
    · rw [hq]; exact hlt _ 0 a3 (by omega)
    · have := a2.1
      exact hio _ (a2.2.2.1 (P i) (Nat.le_refl _) (by omega))
  · obtain ⟨a1, _, ⟨q1, a2, a2'⟩, a3, _⟩ := l2 h
    have b1 := a2.1
    have b2 := a2'.1
    by_cases hq : P i = Q i
    · rw [hq]; exact hlt _ (K i) a3 (by omega)
    · by_cases hq1 : P i = q1
      · exact hio _ (a2'.2.2.1 (P i) (by omega) (by omega))
      · exact hio _ (a2.2.2.1 (P i) (Nat.le_refl _) (by omega))
  · obtain ⟨a1, a2, a3, _⟩ := l3 h
    by_cases hq : P i = Q i
    · rw [hq]; exact hlt _ 41 a3 (by omega)
    · have := a2.1
      exact hio _ (a2.2.2.1 (P i) (Nat.le_refl _) (by omega))
  · obtain ⟨a1, _⟩ := l6 h
    exact hlt _ (K i) a1 (by omega)
/-- a step of the reference is some instructions of the component -/
theorem qt_sim (hN : N ≤ 64) (hC : qc_CODE N K V op sl st nu P Q e1 e2 tg B) {i : Nat} {s : Nat → Int32} {c : qt_C} (hB : B i) (hf : qt_fl c = 0) :
    ∃ n p' s', qt_xn op sl st nu ct tn ag t n (P i, s, c) = (p', s', (qt_y N K V e1 e2 tg ct tn ag t (i, c)).2) ∧ (qt_fl (qt_y N K V e1 e2 tg ct tn ag t (i, c)).2 ≠ 2 → p' = P (qt_y N K V e1 e2 tg ct tn ag t (i, c)).1 ∧ B (qt_y N K V e1 e2 tg ct tn ag t (i, c)).1) := by
  have hC' := hC
  obtain ⟨c1, c2, c3, c4, c5, c6, c7, c8, c9, c10⟩ := hC'
  have hiN := (c3 i hB).1
  have hf' : ¬ qt_fl ((i, c) : qt_Y).2 ≠ 0 := by dsimp only; omega
  unfold qt_y
  rw [if_neg hf']
  dsimp only
  by_cases hi : i = N
  · rw [if_pos hi]
    refine ⟨1, P i + 1, s, ?_, fun h => absurd rfl h⟩
    show qt_x op sl st nu ct tn ag t (P i, s, c) = _
    have e42 : (op (P i)).toNatClampNeg = 42 := by rw [hi, c7]; rfl
    rw [qt_x_go hf (fun z => z.2.2 e42), hi, qt_stm c8, ← hi]
    unfold qt_x2
    rw [e42]
    rfl
  · rw [if_neg hi]
    have hL := c4 i (by omega) hB
    by_cases h45 : K i = 4 ∨ K i = 5
    · rw [if_pos h45]
      rcases h45 with h4 | h5
      · obtain ⟨a1, a2, a3⟩ := hL.2.2.2.2.1 h4
        obtain ⟨b1, b2, _⟩ := c5 i (by omega) hB (Or.inr (Or.inl h4))
        have hPt := (c3 _ b2).2
        refine ⟨1, P (tg i), s, ?_, fun _ => ⟨rfl, b2⟩⟩
        show qt_x op sl st nu ct tn ag t (P i, s, c) = _
        have e40 : (op (P i)).toNatClampNeg = 40 := by rw [a2]; rfl
        rw [qt_x_go hf (fun z => z.2.1 e40), qt_stm a3]
        unfold qt_x2
        rw [a1] at b1
        rw [e40, b1, nI_clamp (by omega)]
        rfl
      · obtain ⟨a1, o, a2, a3, a4⟩ := hL.2.2.2.2.2.1 h5
        rcases a4 with ⟨b1, b2, b3, b4, b5, b6⟩ | ⟨b1, b2, b3⟩
        · have hPt := (c3 _ a3).2
          refine ⟨1, P o, s, ?_, fun _ => by rw [b2]; exact ⟨rfl, a3⟩⟩
          show qt_x op sl st nu ct tn ag t (P i, s, c) = _
          have e40 : (op (P i)).toNatClampNeg = 40 := by rw [b4]; rfl
          rw [qt_x_go hf (fun z => z.2.1 e40), qt_stm b5]
          unfold qt_x2
          rw [e40, b6, nI_clamp (by omega)]
          rfl
        · exact ⟨0, P i, s, rfl, fun _ => by rw [b2]; exact ⟨b3.symm, a1⟩⟩
    · rw [if_neg h45]
      by_cases hs : qt_sp c = 300
      · rw [if_pos hs]
        refine ⟨1, P i, s, ?_, fun h => absurd rfl h⟩
        show qt_x op sl st nu ct tn ag t (P i, s, c) = _
        unfold qt_x
        rw [if_neg (by dsimp only; omega), if_pos ⟨hs, qt_hd hC (by omega) hB (by omega) (by omega)⟩]
      · rw [if_neg hs]
        have hi64 : i < 64 := by omega
        unfold qt_y1
        by_cases k8 : K i = 8
        · rw [if_pos k8]
          obtain ⟨a1, a2, a3, a4⟩ := hL.2.2.2.2.2.2 (Or.inr k8)
          refine ⟨1, P i + 1, s, ?_, fun h => absurd rfl h⟩
          show qt_x op sl st nu ct tn ag t (P i, s, c) = _
          have eo : (op (P i)).toNatClampNeg = 8 := by rw [a1, k8]; rfl
          rw [qt_x_go hf (fun z => hs z.1), qt_st hi64 a2]
          unfold qt_x2
          rw [eo]
          rfl
        · rw [if_neg k8]
          by_cases k7 : K i = 7
          · rw [if_pos k7]
            obtain ⟨a1, a2, a3, a4⟩ := hL.2.2.2.2.2.2 (Or.inl k7)
            refine ⟨1, P i + 1, s, ?_, fun _ => ⟨a3.symm, a4⟩⟩
            show qt_x op sl st nu ct tn ag t (P i, s, c) = _
            have eo : (op (P i)).toNatClampNeg = 7 := by rw [a1, k7]; rfl
            rw [qt_x_go hf (fun z => hs z.1), qt_st hi64 a2]
            unfold qt_x2
            rw [eo]
            rfl
          · rw [if_neg k7]
            by_cases k0 : K i = 0
            · rw [if_pos k0]
              obtain ⟨a1, a2, a3, a4, a5, a6, a7⟩ := hL.2.1 k0
              obtain ⟨s', r1, r2, r3⟩ := qt_expr (ct := ct) (tn := tn) (ag := ag) (t := t) (s := s) hf hs a2
              refine ⟨(Q i - P i) + 1, Q i + 1, s', ?_, fun _ => ⟨a6.symm, a7⟩⟩
              rw [qt_xn_add 1, r1]
              show qt_x op sl st nu ct tn ag t (Q i, s', _) = _
              have eo : (op (Q i)).toNatClampNeg = 0 := by rw [a3]; rfl
              rw [qt_x_gor hf hs, qt_st hi64 a5]
              unfold qt_x2
              rw [eo, a4, r2]
              rfl
            · rw [if_neg k0]
              by_cases k12 : K i = 1 ∨ K i = 2
              · obtain ⟨a1, a1', ⟨q1, a2, a2'⟩, a3, a5, a6, a7⟩ := hL.2.2.1 k12
                obtain ⟨s', r1, r2, r3⟩ := qt_expr (ct := ct) (tn := tn) (ag := ag) (t := t) (s := s) hf hs a2
                obtain ⟨s2, w1, w2, w3⟩ := qt_expr (ct := ct) (tn := tn) (ag := ag) (t := t) (s := s') (c := qt_rd c (qt_ev (qt_env ct tn ag t c) K V (i + 1) (e1 i) (qt_R c)).2) hf hs a2'
                have go : qt_xn op sl st nu ct tn ag t ((q1 - P i) + ((Q i - q1) + 1)) (P i, s, c) = qt_x op sl st nu ct tn ag t (Q i, s2, qt_rd c (qt_ev (qt_env ct tn ag t c) K V (e1 i) (e2 i) (qt_ev (qt_env ct tn ag t c) K V (i + 1) (e1 i) (qt_R c)).2).2) := by
                  rw [qt_xn_add, r1, qt_xn_add 1, w1]
                  rfl
                have s20 : s2 0 = (qt_ev (qt_env ct tn ag t c) K V (i + 1) (e1 i) (qt_R c)).1 0 := by rw [w3 0 (by decide)]; exact r2
                have s21 : s2 1 = (qt_ev (qt_env ct tn ag t c) K V (e1 i) (e2 i) (qt_ev (qt_env ct tn ag t c) K V (i + 1) (e1 i) (qt_R c)).2).1 0 := w2
                rcases k12 with k1 | k2
                · rw [if_pos k1]
                  refine ⟨(q1 - P i) + ((Q i - q1) + 1), Q i + 1, s2, ?_, fun _ => ⟨a6.symm, a7⟩⟩
                  rw [go]
                  have eo : (op (Q i)).toNatClampNeg = 1 := by rw [a3, k1]; rfl
                  rw [qt_x_gor hf hs, qt_st hi64 a5]
                  unfold qt_x2
                  rw [eo, s20, s21]
                  rfl
                · rw [if_neg (by omega), if_pos k2]
                  refine ⟨(q1 - P i) + ((Q i - q1) + 1), Q i + 1, s2, ?_, fun _ => ⟨a6.symm, a7⟩⟩
                  rw [go]
                  have eo : (op (Q i)).toNatClampNeg = 2 := by rw [a3, k2]; rfl
                  rw [qt_x_gor hf hs, qt_st hi64 a5]
                  unfold qt_x2
                  rw [eo, s20, s21]
                  rfl
              · rw [if_neg (by omega), if_neg (by omega)]
                have k36 : K i = 3 ∨ K i = 6 := by
                  have := hL.1
                  omega
                obtain ⟨a1, a2, a3, a5, a6, a7⟩ := hL.2.2.2.1 k36
                obtain ⟨b1, b2, _⟩ := c5 i (by omega) hB (by omega)
                have hPt := (c3 _ b2).2
                obtain ⟨s', r1, r2, r3⟩ := qt_expr (ct := ct) (tn := tn) (ag := ag) (t := t) (s := s) hf hs a2
                have go : qt_xn op sl st nu ct tn ag t ((Q i - P i) + 1) (P i, s, c) = (if s' 0 = 0 then P (tg i) else Q i + 1, s', qt_rd (qt_cnt c i) (qt_ev (qt_env ct tn ag t c) K V (i + 1) (e1 i) (qt_R c)).2) := by
                  rw [qt_xn_add 1, r1]
                  show qt_x op sl st nu ct tn ag t (Q i, s', _) = _
                  have eo : (op (Q i)).toNatClampNeg = 41 := by rw [a3]; rfl
                  rw [qt_x_gor hf hs, qt_st hi64 a5]
                  unfold qt_x2
                  rw [eo, b1, nI_clamp (by omega)]
                  rfl
                refine ⟨(Q i - P i) + 1, _, s', go, fun _ => ?_⟩
                rw [r2]
                dsimp only
                by_cases hz : (qt_ev (qt_env ct tn ag t c) K V (i + 1) (e1 i) (qt_R c)).1 0 = 0
                · have hz' : (qt_ev (qt_env ct tn ag t (qt_cnt c i)) K V (i + 1) (e1 i) (qt_R (qt_cnt c i))).1 0 = 0 := hz
                  rw [if_pos hz, if_pos hz']
                  exact ⟨rfl, b2⟩
                · have hz' : ¬ (qt_ev (qt_env ct tn ag t (qt_cnt c i)) K V (i + 1) (e1 i) (qt_R (qt_cnt c i))).1 0 = 0 := hz
                  rw [if_neg hz, if_neg hz']
                  exact ⟨a6.symm, a7⟩
end
end
section
/-! one thread, pure: what is kept along its steps, and a whole phase -/
def qt_mu (N : Nat) (K : Nat → Nat) (y : qt_Y) : Nat := (300 - qt_sp y.2) * 65 + (if y.1 < N ∧ (K y.1 = 4 ∨ K y.1 = 5) then N - y.1 else 0)
theorem qt_mu_w {N : Nat} {K : Nat → Nat} (i : Nat) : (if i < N ∧ (K i = 4 ∨ K i = 5) then N - i else 0) ≤ N - i := by
  split <;> omega
section
variable {N : Nat} {K : Nat → Nat} {V op sl st nu : Nat → Int32} {P Q e1 e2 tg : Nat → Nat} {B : Nat → Prop} {ct : Nat → Int32} {tn ag : Int32} {t : Nat}
def qt_go (N : Nat) (K : Nat → Nat) (B : Nat → Prop) (y z : qt_Y) : Prop := B z.1 ∧ qt_sp z.2 ≤ 300 ∧ qt_fl z.2 ≤ 2 ∧ (qt_fl z.2 = 0 → qt_mu N K z < qt_mu N K y) ∧ (qt_fl z.2 = 1 → qt_sp y.2 < qt_sp z.2) ∧ qt_sp y.2 ≤ qt_sp z.2
theorem qt_go_c {i j : Nat} {c c' : qt_C} (hN : N ≤ 64) (hB : B j) (hs : qt_sp c' = qt_sp c + 1) (hs3 : qt_sp c + 1 ≤ 300) (hf : qt_fl c' ≤ 2) : qt_go N K B (i, c) (j, c') := by
  refine ⟨hB, by dsimp only; omega, hf, fun _ => ?_, fun _ => by dsimp only; omega, by dsimp only; omega⟩
  unfold qt_mu
  dsimp only
  have h1 := qt_mu_w (N := N) (K := K) j
  have e1 : 300 - qt_sp c = (300 - qt_sp c') + 1 := by omega
  rw [e1]
  omega
theorem qt_go_y (hN : N ≤ 64) (hC : qc_CODE N K V op sl st nu P Q e1 e2 tg B) {i : Nat} {c : qt_C} (hB : B i) (hf : qt_fl c = 0) (hs : qt_sp c ≤ 300) : qt_go N K B (i, c) (qt_y N K V e1 e2 tg ct tn ag t (i, c)) := by
  obtain ⟨c1, c2, c3, c4, c5, c6, c7, c8, c9, c10⟩ := hC
  have hiN := (c3 i hB).1
  have hf' : ¬ qt_fl ((i, c) : qt_Y).2 ≠ 0 := by dsimp only; omega
  unfold qt_y
  rw [if_neg hf']
  dsimp only
  by_cases hi : i = N
  · rw [if_pos hi]
    exact ⟨hB, hs, Nat.le_refl 2, fun h => absurd h (by show ¬ (2 : Nat) = 0; omega), fun h => absurd h (by show ¬ (2 : Nat) = 1; omega), Nat.le_refl _⟩
  · rw [if_neg hi]
    have hL := c4 i (by omega) hB
    by_cases h45 : K i = 4 ∨ K i = 5
    · rw [if_pos h45]
      have key : B (tg i) → (tg i < N ∧ (K (tg i) = 4 ∨ K (tg i) = 5) → i < tg i) → qt_go N K B (i, c) (tg i, c) := by
        intro hb hlt
        refine ⟨hb, hs, by dsimp only; omega, fun _ => ?_, fun h => absurd h (by dsimp only; omega), Nat.le_refl _⟩
        unfold qt_mu
        dsimp only
        rw [if_pos (show i < N ∧ (K i = 4 ∨ K i = 5) from ⟨by omega, h45⟩)]
        by_cases hw : tg i < N ∧ (K (tg i) = 4 ∨ K (tg i) = 5)
        · rw [if_pos hw]
          have := hlt hw
          omega
        · rw [if_neg hw]
          omega
      rcases h45 with h4 | h5
      · obtain ⟨b1, b2, e, b3, b4⟩ := c5 i (by omega) hB (Or.inr (Or.inl h4))
        have hlt : i < tg i := by
          rcases b4 with ⟨h, _⟩ | ⟨h, _⟩ | ⟨_, b, _, h⟩
          · omega
          · omega
          · have := h.1
            omega
        exact key b2 (fun _ => hlt)
      · obtain ⟨a1, o, a2, a3, a4⟩ := hL.2.2.2.2.2.1 h5
        rcases a4 with ⟨b1, b2, _⟩ | ⟨b1, b2, b3⟩
        · refine key (by rw [b2]; exact a3) (fun h => ?_)
          rw [b2] at h
          omega
        · exact key (by rw [b2]; exact a1) (fun _ => by omega)
    · rw [if_neg h45]
      by_cases hs3 : qt_sp c = 300
      · rw [if_pos hs3]
        exact ⟨hB, hs, Nat.le_refl 2, fun h => absurd h (by show ¬ (2 : Nat) = 0; omega), fun h => absurd h (by show ¬ (2 : Nat) = 1; omega), Nat.le_refl _⟩
      · rw [if_neg hs3]
        have hs4 : qt_sp c + 1 ≤ 300 := by omega
        have hf2 : qt_fl c ≤ 2 := by omega
        unfold qt_y1
        by_cases k8 : K i = 8
        · rw [if_pos k8]
          exact qt_go_c hN hB rfl hs4 (Nat.le_refl 2)
        · rw [if_neg k8]
          by_cases k7 : K i = 7
          · rw [if_pos k7]
            exact qt_go_c hN (hL.2.2.2.2.2.2 (Or.inl k7)).2.2.2 rfl hs4 (by show (1 : Nat) ≤ 2; omega)
          · rw [if_neg k7]
            by_cases k0 : K i = 0
            · rw [if_pos k0]
              exact qt_go_c hN (hL.2.1 k0).2.2.2.2.2.2 rfl hs4 hf2
            · rw [if_neg k0]
              by_cases k1 : K i = 1
              · rw [if_pos k1]
                exact qt_go_c hN (hL.2.2.1 (Or.inl k1)).2.2.2.2.2.2 rfl hs4 hf2
              · rw [if_neg k1]
                by_cases k2 : K i = 2
                · rw [if_pos k2]
                  exact qt_go_c hN (hL.2.2.1 (Or.inr k2)).2.2.2.2.2.2 rfl hs4 hf2
                · rw [if_neg k2]
                  have k36 : K i = 3 ∨ K i = 6 := by
                    have := hL.1
                    omega
                  obtain ⟨b1, b2, _⟩ := c5 i (by omega) hB (by omega)
                  refine qt_go_c hN ?_ rfl hs4 hf2
                  split
                  · exact b2
                  · exact (hL.2.2.2.1 k36).2.2.2.2.2
/-- a phase of one thread, on both sides -/
theorem qt_phase (hN : N ≤ 64) (hC : qc_CODE N K V op sl st nu P Q e1 e2 tg B) (m : Nat) : ∀ {i : Nat} {c : qt_C}, qt_mu N K (i, c) < m → B i → qt_fl c = 0 → qt_sp c ≤ 300 →
    ∃ nY i' c', qt_yn N K V e1 e2 tg ct tn ag t nY (i, c) = (i', c') ∧ qt_fl c' ≠ 0 ∧ qt_fl c' ≤ 2 ∧ B i' ∧ (qt_fl c' = 1 → qt_sp c < qt_sp c') ∧ qt_sp c' ≤ 300 ∧
      ∀ s, ∃ nX p' s', qt_xn op sl st nu ct tn ag t nX (P i, s, c) = (p', s', c') ∧ (qt_fl c' = 1 → p' = P i') := by
  induction m with
  | zero => intro i c h; omega
  | succ m ih =>
    intro i c hm hB hf hs
    obtain ⟨g1, g2, g3, g4, g5, g6⟩ := qt_go_y (ct := ct) (tn := tn) (ag := ag) (t := t) hN hC hB hf hs
    by_cases h0 : qt_fl (qt_y N K V e1 e2 tg ct tn ag t (i, c)).2 = 0
    · have h4 := g4 h0
      obtain ⟨nY, i', c', r1, r2, r3, r4, r5, r6, r7⟩ := ih (i := (qt_y N K V e1 e2 tg ct tn ag t (i, c)).1) (c := (qt_y N K V e1 e2 tg ct tn ag t (i, c)).2) (Nat.lt_of_lt_of_le h4 (Nat.le_of_lt_succ hm)) g1 h0 g2
      refine ⟨nY + 1, i', c', r1, r2, r3, r4, fun h => ?_, r6, fun s => ?_⟩
      · have := r5 h
        dsimp only at g6
        omega
      · obtain ⟨n, p1, s1, x1, x2⟩ := qt_sim (ct := ct) (tn := tn) (ag := ag) (t := t) (s := s) hN hC hB hf
        obtain ⟨nX, p', s', q1, q2⟩ := r7 s1
        refine ⟨n + nX, p', s', ?_, q2⟩
        rw [qt_xn_add, x1, (x2 (by omega)).1]
        exact q1
    · refine ⟨1, (qt_y N K V e1 e2 tg ct tn ag t (i, c)).1, (qt_y N K V e1 e2 tg ct tn ag t (i, c)).2, rfl, h0, g3, g1, g5, g2, fun s => ?_⟩
      obtain ⟨n, p1, s1, x1, x2⟩ := qt_sim (ct := ct) (tn := tn) (ag := ag) (t := t) (s := s) hN hC hB hf
      exact ⟨n, p1, s1, x1, fun h => (x2 (by omega)).1⟩
/-- what is kept along the component's instructions -/
def qt_ox (L : Nat) (l : qt_X) : Prop := l.1 ≤ L + 1 ∧ (qt_fl l.2.2 = 0 → l.1 ≤ L) ∧ qt_sp l.2.2 ≤ 300 ∧ qt_fl l.2.2 ≤ 2
theorem qt_x2_ox (hC : qc_CODE N K V op sl st nu P Q e1 e2 tg B) {p : Nat} {s : Nat → Int32} {c : qt_C} (hp : p ≤ P N) (hs : qt_sp c ≤ 300) (hf : qt_fl c = 0) : qt_ox (P N) (qt_x2 op sl nu ct tn ag t p s c) := by
  obtain ⟨c1, c2, c3, c4, c5, c6, c7, c8, c9, c10⟩ := hC
  by_cases hpN : p = P N
  · unfold qt_x2
    rw [hpN, c7]
    exact ⟨Nat.le_refl _, fun h => absurd h (by show ¬ (2 : Nat) = 0; omega), hs, Nat.le_refl 2⟩
  · have hplt : p < P N := by omega
    have hbd : ∀ l : qt_X, (l.1 = p + 1 ∨ l.1 ≤ P N) → qt_sp l.2.2 = qt_sp c → qt_fl l.2.2 ≤ 2 → qt_ox (P N) l := by
      intro l h1 h2 h3
      exact ⟨by omega, fun _ => by omega, by omega, h3⟩
    have hf2 : qt_fl c ≤ 2 := by omega
    unfold qt_x2
    split
    · exact hbd _ (Or.inl rfl) rfl hf2
    · split
      · exact hbd _ (Or.inl rfl) rfl hf2
      · split
        · exact hbd _ (Or.inl rfl) rfl hf2
        · split
          · exact hbd _ (Or.inl rfl) rfl hf2
          · split
            · exact hbd _ (Or.inl rfl) rfl (by show (1 : Nat) ≤ 2; omega)
            · have hto : ∀ x, qc_to nu (P N) p → x = (nu p).toNatClampNeg → x ≤ P N := by
                intro x ⟨y, hy, e⟩ hx
                rw [hx, e, nI_clamp (by omega)]
                exact hy
              have hv := c10 p hplt
              have hq : ((op p).toNatClampNeg = 40 ∨ (op p).toNatClampNeg = 41) → qc_to nu (P N) p := by
                intro h
                rcases hv with v | v | v | v | v
                · obtain ⟨k, s', h1, _, h3, h4, _⟩ := v
                  rw [h1, nI_clamp (by omega)] at h
                  omega
                · rw [v.1] at h
                  exact absurd h (by decide)
                · rcases v.1 with z | z | z | z <;> (rw [z] at h; exact absurd h (by decide))
                · exact v.2.2
                · exact v.2.2
              split
              · rename_i h40
                exact hbd _ (Or.inr (hto _ (hq (Or.inl h40)) rfl)) rfl hf2
              · split
                · rename_i h41
                  refine hbd _ ?_ rfl hf2
                  dsimp only
                  split
                  · exact Or.inr (hto _ (hq (Or.inr h41)) rfl)
                  · exact Or.inl rfl
                · exact hbd _ (Or.inl rfl) rfl (Nat.le_refl 2)
theorem qt_x_ox (hC : qc_CODE N K V op sl st nu P Q e1 e2 tg B) {l : qt_X} (h : qt_ox (P N) l) : qt_ox (P N) (qt_x op sl st nu ct tn ag t l) := by
  obtain ⟨h1, h2, h3, h4⟩ := h
  unfold qt_x
  split
  · exact ⟨h1, h2, h3, h4⟩
  · rename_i hf
    have hf0 : qt_fl l.2.2 = 0 := by omega
    split
    · exact ⟨h1, fun h => absurd h (by show ¬ (2 : Nat) = 0; omega), h3, Nat.le_refl 2⟩
    · rename_i hs
      refine qt_x2_ox hC (h2 hf0) ?_ ?_
      · by_cases hst : st l.1 < 0
        · rw [if_pos hst]; exact h3
        · rw [if_neg hst]
          show qt_sp l.2.2 + 1 ≤ 300
          have : qt_sp l.2.2 ≠ 300 := by
            intro e
            apply hs
            refine ⟨e, ?_⟩
            have hle := h2 hf0
            obtain ⟨c1, c2, c3, c4, c5, c6, c7, c8, c9, c10⟩ := hC
            by_cases hpN : l.1 = P N
            · rw [hpN, c8] at hst
              exact absurd (by decide) hst
            · have hv := c10 l.1 (by omega)
              rcases hv with v | v | v | v | v
              · obtain ⟨k, s', g1, _, g3, g4, _⟩ := v
                rw [g1, nI_clamp (by omega)]
                omega
              · rw [v.1]; decide
              · rcases v.1 with z | z | z | z <;> (rw [z]; decide)
              · rw [v.1]; decide
              · rw [v.2.1] at hst
                exact absurd (by decide) hst
          omega
      · split <;> exact hf0
theorem qt_x_st {l : qt_X} (h : qt_fl l.2.2 ≠ 0) : qt_x op sl st nu ct tn ag t l = l := by
  unfold qt_x
  rw [if_pos h]
theorem qt_xn_st {l : qt_X} (h : qt_fl l.2.2 ≠ 0) : ∀ n, qt_xn op sl st nu ct tn ag t n l = l
  | 0 => rfl
  | n + 1 => by
    show qt_xn op sl st nu ct tn ag t n (qt_x op sl st nu ct tn ag t l) = l
    rw [qt_x_st h]
    exact qt_xn_st h n
theorem qt_yn_st {y : qt_Y} (h : qt_fl y.2 ≠ 0) : ∀ n, qt_yn N K V e1 e2 tg ct tn ag t n y = y
  | 0 => rfl
  | n + 1 => by
    show qt_yn N K V e1 e2 tg ct tn ag t n (qt_y N K V e1 e2 tg ct tn ag t y) = y
    have e : qt_y N K V e1 e2 tg ct tn ag t y = y := by
      unfold qt_y
      rw [if_pos h]
    rw [e]
    exact qt_yn_st h n
end
end
section
/-! the component's memory in a phase: who stored, who read, races; race, read, store -/
def qx_le (ph : Nat) (x : Int32) : Prop := ∃ q : Nat, q ≤ ph ∧ x = nI q
def qx_Rc (n : Nat) (S R : Nat → Bool) : Prop := ∃ a b, a < n ∧ b < n ∧ a ≠ b ∧ S a = true ∧ (S b = true ∨ R b = true)
def qx_any (n : Nat) (S : Nat → Bool) : Prop := ∃ t, t < n ∧ S t = true
def qx_oth (n : Nat) (S : Nat → Bool) (b : Nat) : Prop := ∃ t, t < n ∧ t ≠ b ∧ S t = true
def qx_by (n : Nat) (S : Nat → Bool) (x : Int32) : Prop := ∃ b, b < n ∧ x = nI b ∧ S b = true
def qx_rb (n : Nat) (R : Nat → Bool) (x y : Int32) : Prop := ∃ b, b < n ∧ x = nI b ∧ R b = true ∧ (¬ y = 0 ↔ qx_oth n R b)
def qx_MS (n ph : Nat) (S : Nat → Bool) (x y : Int32) : Prop := qx_le ph x ∧ (x = nI ph ↔ qx_any n S) ∧ (x = nI ph → qx_by n S y)
def qx_MR (n ph : Nat) (R : Nat → Bool) (x y z : Int32) : Prop := qx_le ph x ∧ (x = nI ph ↔ qx_any n R) ∧ (x = nI ph → qx_rb n R y z)
def qx_MC (n ph : Nat) (S R : Nat → Bool) (x : Int32) : Prop := qx_le ph x ∧ (x = nI ph ↔ qx_Rc n S R)
def qx_cn (ph : Nat) (ra : Nat → Int32) : Int32 := qz_sm (fun i => if ra i = nI ph then 1 else 0) 64
/-- thread, place: as S, and (t, i) -/
def qx_s1 (S : Nat → Nat → Bool) (t i : Nat) : Nat → Nat → Bool := fun s j => if s = t ∧ j = i then true else S s j
def qx_c1 (C : Nat → Bool) (t : Nat) : Nat → Bool := fun s => if s = t then true else C s
theorem qx_s1n {S : Nat → Nat → Bool} {t i j : Nat} (h : j ≠ i) : (fun s => qx_s1 S t i s j) = fun s => S s j := by
  funext s
  unfold qx_s1
  rw [if_neg (by omega)]
theorem qx_s1e {S : Nat → Nat → Bool} {t i : Nat} : (fun s => qx_s1 S t i s i) = qx_c1 (fun s => S s i) t := by
  funext s
  unfold qx_s1 qx_c1
  by_cases h : s = t
  · rw [if_pos ⟨h, rfl⟩, if_pos h]
  · rw [if_neg (by omega), if_neg h]
theorem qx_c1s {C : Nat → Bool} {t : Nat} : qx_c1 C t t = true := if_pos rfl
theorem qx_c1n {C : Nat → Bool} {t s : Nat} (h : s ≠ t) : qx_c1 C t s = C s := if_neg h
theorem qx_c1m {C : Nat → Bool} {t s : Nat} (h : C s = true) : qx_c1 C t s = true := by
  unfold qx_c1
  split
  · rfl
  · exact h
theorem qx_c1id {C : Nat → Bool} {t : Nat} (h : C t = true) : qx_c1 C t = C := by
  funext s
  by_cases e : s = t
  · rw [e, h]; exact qx_c1s
  · exact qx_c1n e
section
variable {n ph t : Nat} {S R : Nat → Bool} {sp sb rp rb rm : Int32}
theorem qx_R1 (hn : n ≤ 32) (ht : t < n) (h : qx_MR n ph R rp rb rm) (hr : rp = nI ph) (hb : rb = nI t) : qx_MR n ph (qx_c1 R t) rp rb rm := by
  obtain ⟨b, b1, b2, b3, b4⟩ := h.2.2 hr
  have e : b = t := by
    rw [hb] at b2
    exact ((nI_eq (by omega) (by omega)).mp b2).symm
  rw [e] at b3
  rw [qx_c1id b3]
  exact h
theorem qx_R2 (hn : n ≤ 32) (ht : t < n) (h : qx_MR n ph R rp rb rm) (hr : rp = nI ph) (hb : ¬ rb = nI t) : qx_MR n ph (qx_c1 R t) rp rb 1 := by
  obtain ⟨b, b1, b2, b3, b4⟩ := h.2.2 hr
  have e : b ≠ t := by
    intro e
    rw [e] at b2
    exact hb b2
  refine ⟨h.1, ⟨fun _ => ⟨t, ht, qx_c1s⟩, fun _ => hr⟩, fun _ => ⟨b, b1, b2, qx_c1m b3, ⟨fun _ => ⟨t, ht, e.symm, qx_c1s⟩, fun _ => by decide⟩⟩⟩
theorem qx_R3 (ht : t < n) (h : qx_MR n ph R rp rb rm) (hr : ¬ rp = nI ph) : qx_MR n ph (qx_c1 R t) (nI ph) (nI t) 0 := by
  refine ⟨⟨ph, Nat.le_refl ph, rfl⟩, ⟨fun _ => ⟨t, ht, qx_c1s⟩, fun _ => rfl⟩, fun _ => ⟨t, ht, rfl, qx_c1s, ⟨fun z => absurd rfl z, fun ⟨s, s1, s2, s3⟩ => ?_⟩⟩⟩
  rw [qx_c1n s2] at s3
  exact absurd (h.2.1.mpr ⟨s, s1, s3⟩) hr
theorem qx_C1 (hn : n ≤ 32) (ht : t < n) (h : qx_MS n ph S sp sb) (hr : sp = nI ph) (hb : ¬ sb = nI t) : qx_Rc n S (qx_c1 R t) := by
  obtain ⟨b, b1, b2, b3⟩ := h.2.2 hr
  have e : b ≠ t := by
    intro e
    rw [e] at b2
    exact hb b2
  exact ⟨b, t, b1, ht, e, b3, Or.inr qx_c1s⟩
theorem qx_C2 (hn : n ≤ 32) (ht : t < n) (h : qx_MS n ph S sp sb) (hr : sp = nI ph) (hb : sb = nI t) : qx_Rc n S (qx_c1 R t) ↔ qx_Rc n S R := by
  obtain ⟨b, b1, b2, b3⟩ := h.2.2 hr
  have e : b = t := by
    rw [hb] at b2
    exact ((nI_eq (by omega) (by omega)).mp b2).symm
  rw [e] at b3
  refine ⟨fun ⟨x, y, h1, h2, h3, h4, h5⟩ => ?_, fun ⟨x, y, h1, h2, h3, h4, h5⟩ => ⟨x, y, h1, h2, h3, h4, ?_⟩⟩
  · by_cases ey : y = t
    · exact ⟨x, y, h1, h2, h3, h4, Or.inl (by rw [ey]; exact b3)⟩
    · rw [qx_c1n ey] at h5
      exact ⟨x, y, h1, h2, h3, h4, h5⟩
  · rcases h5 with h | h
    · exact Or.inl h
    · exact Or.inr (qx_c1m h)
theorem qx_C3 {R' : Nat → Bool} (h : qx_MS n ph S sp sb) (hr : ¬ sp = nI ph) : qx_Rc n S R' ↔ qx_Rc n S R := by
  refine ⟨fun ⟨x, y, h1, h2, h3, h4, h5⟩ => absurd (h.2.1.mpr ⟨x, h1, h4⟩) hr, fun ⟨x, y, h1, h2, h3, h4, h5⟩ => absurd (h.2.1.mpr ⟨x, h1, h4⟩) hr⟩
theorem qx_S1 (hn : n ≤ 32) (ht : t < n) (h : qx_MS n ph S sp sb) (hr : sp = nI ph) (hb : sb = nI t) : qx_MS n ph (qx_c1 S t) sp sb ∧ (qx_Rc n (qx_c1 S t) R ↔ (qx_Rc n S R ∨ qx_oth n R t)) := by
  obtain ⟨b, b1, b2, b3⟩ := h.2.2 hr
  have e : b = t := by
    rw [hb] at b2
    exact ((nI_eq (by omega) (by omega)).mp b2).symm
  rw [e] at b3
  rw [qx_c1id b3]
  refine ⟨h, ⟨Or.inl, fun z => ?_⟩⟩
  rcases z with z | ⟨r, r1, r2, r3⟩
  · exact z
  · exact ⟨t, r, ht, r1, r2.symm, b3, Or.inr r3⟩
theorem qx_S2 (hn : n ≤ 32) (ht : t < n) (h : qx_MS n ph S sp sb) (hr : sp = nI ph) (hb : ¬ sb = nI t) : qx_MS n ph (qx_c1 S t) sp sb ∧ qx_Rc n (qx_c1 S t) R := by
  obtain ⟨b, b1, b2, b3⟩ := h.2.2 hr
  have e : b ≠ t := by
    intro e
    rw [e] at b2
    exact hb b2
  exact ⟨⟨h.1, ⟨fun _ => ⟨t, ht, qx_c1s⟩, fun _ => hr⟩, fun _ => ⟨b, b1, b2, qx_c1m b3⟩⟩, t, b, ht, b1, e.symm, qx_c1s, Or.inl (qx_c1m b3)⟩
theorem qx_S3 (ht : t < n) (h : qx_MS n ph S sp sb) (hr : ¬ sp = nI ph) : qx_MS n ph (qx_c1 S t) (nI ph) (nI t) ∧ (qx_Rc n (qx_c1 S t) R ↔ (qx_Rc n S R ∨ qx_oth n R t)) := by
  have no : ∀ x, x < n → ¬ S x = true := fun x hx hS => hr (h.2.1.mpr ⟨x, hx, hS⟩)
  refine ⟨⟨⟨ph, Nat.le_refl ph, rfl⟩, ⟨fun _ => ⟨t, ht, qx_c1s⟩, fun _ => rfl⟩, fun _ => ⟨t, ht, rfl, qx_c1s⟩⟩, ⟨fun ⟨x, y, h1, h2, h3, h4, h5⟩ => ?_, fun z => ?_⟩⟩
  · right
    have ex : x = t := by
      apply Classical.byContradiction
      intro ex
      rw [qx_c1n ex] at h4
      exact no x h1 h4
    have ey : y ≠ t := by omega
    rcases h5 with h5 | h5
    · rw [qx_c1n ey] at h5
      exact absurd h5 (no y h2)
    · exact ⟨y, h2, ey, h5⟩
  · rcases z with ⟨x, y, h1, h2, h3, h4, h5⟩ | ⟨r, r1, r2, r3⟩
    · exact absurd h4 (no x h1)
    · exact ⟨t, r, ht, r1, r2.symm, qx_c1s, Or.inr r3⟩
end
def qx_M (n ph : Nat) (S R : Nat → Nat → Bool) (r0 ra : Int32) (sP sB rP rB rM rc : Nat → Int32) : Prop :=
  ra = r0 + qx_cn ph rc ∧ ∀ i, i < 64 → qx_MS n ph (fun t => S t i) (sP i) (sB i) ∧ qx_MR n ph (fun t => R t i) (rP i) (rB i) (rM i) ∧ qx_MC n ph (fun t => S t i) (fun t => R t i) (rc i)
theorem qx_cn_up {ph i : Nat} {rc : Nat → Int32} (hi : i < 64) (h : ¬ rc i = nI ph) : qx_cn ph (upd rc i (nI ph)) = qx_cn ph rc + 1 := by
  unfold qx_cn
  refine qz_sm_upd 64 hi (fun s hs => ?_) ?_
  · rw [pk_un hs]
  · rw [pk_us, if_pos rfl, if_neg h]
    rfl
section
variable {f_tokens f_length f_fault f_compiled f_open f_waits f_ended f_threads f_arg f_phase f_races f_ran f_over : Int32} {a_kind a_value a_op a_slot a_statement a_number a_openKind a_openOut a_openStart a_isConstant a_constant a_at a_slots a_variables a_steps a_words a_counters a_added a_own a_ownPhase a_storedPhase a_readPhase a_racePhase a_storedBy a_readBy a_readByMore a_doneCount : Nat → Int32} {n ph t i : Nat} {S R : Nat → Nat → Bool} {r0 : Int32}
theorem qx_race {post : SX → Prop} (hi : i < 64) (hp : ph < 512) (hs : f_races = r0 + qx_cn ph a_racePhase)
    (h : ∀ (f_races : Int32) (rc : Nat → Int32), f_races = r0 + qx_cn ph rc → rc i = nI ph → (∀ j, j ≠ i → rc j = a_racePhase j) → post (f_tokens, f_length, f_fault, f_compiled, f_open, f_waits, f_ended, f_threads, f_arg, nI ph, f_races, f_ran, f_over, a_kind, a_value, a_op, a_slot, a_statement, a_number, a_openKind, a_openOut, a_openStart, a_isConstant, a_constant, a_at, a_slots, a_variables, a_steps, a_words, a_counters, a_added, a_own, a_ownPhase, a_storedPhase, a_readPhase, rc, a_storedBy, a_readBy, a_readByMore, a_doneCount)) : wpX_race post (f_tokens, f_length, f_fault, f_compiled, f_open, f_waits, f_ended, f_threads, f_arg, nI ph, f_races, f_ran, f_over, a_kind, a_value, a_op, a_slot, a_statement, a_number, a_openKind, a_openOut, a_openStart, a_isConstant, a_constant, a_at, a_slots, a_variables, a_steps, a_words, a_counters, a_added, a_own, a_ownPhase, a_storedPhase, a_readPhase, a_racePhase, a_storedBy, a_readBy, a_readByMore, a_doneCount) (nI i) := by
  have vi : vp_in (nI i) 64 := vp_in_nI hi (by decide)
  have ci : (nI i).toNatClampNeg = i := nI_clamp (by omega)
  unfold wpX_race
  dsimp only
  refine ⟨vi, ?_⟩
  rw [ci]
  refine br_c (fun g => h f_races a_racePhase hs g (fun _ _ => rfl)) (fun g => ⟨vi, nm_r (e' := upd a_racePhase i (nI ph)) (by rw [qz_short hp]) (nm_r (e' := r0 + qx_cn ph (upd a_racePhase i (nI ph))) ?_ ?_)⟩)
  · rw [qx_cn_up hi g, hs, Int32.add_assoc]
  · exact h _ _ rfl pk_us (fun j hj => pk_un hj)
theorem qx_rd87 {post : Int32 → SX → Prop} {v : Int32} (ht : t < 32) (hi : i < 64) (h1 : a_ownPhase (64 * t + i) = nI ph → a_own (64 * t + i) = v) (h2 : ¬ a_ownPhase (64 * t + i) = nI ph → a_words i = v)
    (h : post v (f_tokens, f_length, f_fault, f_compiled, f_open, f_waits, f_ended, f_threads, f_arg, nI ph, f_races, f_ran, f_over, a_kind, a_value, a_op, a_slot, a_statement, a_number, a_openKind, a_openOut, a_openStart, a_isConstant, a_constant, a_at, a_slots, a_variables, a_steps, a_words, a_counters, a_added, a_own, a_ownPhase, a_storedPhase, a_readPhase, a_racePhase, a_storedBy, a_readBy, a_readByMore, a_doneCount)) : wX_read_87 post (nI t) (nI i) f_tokens f_length f_fault f_compiled f_open f_waits f_ended f_threads f_arg (nI ph) f_races f_ran f_over a_kind a_value a_op a_slot a_statement a_number a_openKind a_openOut a_openStart a_isConstant a_constant a_at a_slots a_variables a_steps a_words a_counters a_added a_own a_ownPhase a_storedPhase a_readPhase a_racePhase a_storedBy a_readBy a_readByMore a_doneCount := by
  have e : (64 : Int32) * nI t + nI i = nI (64 * t + i) := qz_lin 64 t i
  have vi : vp_in (nI (64 * t + i)) 2048 := vp_in_nI (by omega) (by decide)
  unfold wX_read_87
  rw [e, nI_clamp (show 64 * t + i < 2 ^ 31 by omega), nI_clamp (show i < 2 ^ 31 by omega)]
  exact ⟨vi, br_c (fun g => ⟨vi, by rw [h1 g]; exact h⟩) (fun g => ⟨vp_in_nI hi (by decide), by rw [h2 g]; exact h⟩)⟩
theorem qx_rd28 {post : Int32 → SX → Prop} {v : Int32} (hn : n ≤ 32) (ht : t < n) (hi : i < 64) (hp : ph < 512) (h1 : a_ownPhase (64 * t + i) = nI ph → a_own (64 * t + i) = v) (h2 : ¬ a_ownPhase (64 * t + i) = nI ph → a_words i = v)
    (hR : ∀ j, j < 64 → qx_MR n ph (fun s => R s j) (a_readPhase j) (a_readBy j) (a_readByMore j))
    (h : ∀ (rP rB rM : Nat → Int32), (∀ j, j < 64 → qx_MR n ph (fun s => qx_s1 R t i s j) (rP j) (rB j) (rM j)) → post v (f_tokens, f_length, f_fault, f_compiled, f_open, f_waits, f_ended, f_threads, f_arg, nI ph, f_races, f_ran, f_over, a_kind, a_value, a_op, a_slot, a_statement, a_number, a_openKind, a_openOut, a_openStart, a_isConstant, a_constant, a_at, a_slots, a_variables, a_steps, a_words, a_counters, a_added, a_own, a_ownPhase, a_storedPhase, rP, a_racePhase, a_storedBy, rB, rM, a_doneCount)) : wX_read_28 post (nI t) (nI i) f_tokens f_length f_fault f_compiled f_open f_waits f_ended f_threads f_arg (nI ph) f_races f_ran f_over a_kind a_value a_op a_slot a_statement a_number a_openKind a_openOut a_openStart a_isConstant a_constant a_at a_slots a_variables a_steps a_words a_counters a_added a_own a_ownPhase a_storedPhase a_readPhase a_racePhase a_storedBy a_readBy a_readByMore a_doneCount := by
  have vi : vp_in (nI i) 64 := vp_in_nI hi (by decide)
  have ci : (nI i).toNatClampNeg = i := nI_clamp (by omega)
  have hcol : ∀ (rP rB rM : Nat → Int32), (∀ j, j ≠ i → rP j = a_readPhase j ∧ rB j = a_readBy j ∧ rM j = a_readByMore j) → qx_MR n ph (qx_c1 (fun s => R s i) t) (rP i) (rB i) (rM i) → ∀ j, j < 64 → qx_MR n ph (fun s => qx_s1 R t i s j) (rP j) (rB j) (rM j) := by
    intro rP rB rM g1 g2 j hj
    by_cases e : j = i
    · subst e
      rw [qx_s1e]
      exact g2
    · rw [qx_s1n e, (g1 j e).1, (g1 j e).2.1, (g1 j e).2.2]
      exact hR j hj
  unfold wX_read_28
  refine ⟨vi, ?_⟩
  rw [ci]
  refine br_c (fun g => ⟨vi, br_c (fun gb => ?_) (fun gb => ⟨vi, nm_r (e' := upd a_readByMore i 1) (by rw [qz_z1]) ?_⟩)⟩) (fun g => ⟨vi, nm_r (e' := upd a_readPhase i (nI ph)) (by rw [qz_short hp]) ⟨vi, nm_r (e' := upd a_readBy i (nI t)) (by rw [qz_byte (by omega)]) ⟨vi, nm_r (e' := upd a_readByMore i 0) (by rw [qz_z0]) ?_⟩⟩⟩)
  · exact qx_rd87 (by omega) hi h1 h2 (h _ _ _ (hcol _ _ _ (fun _ _ => ⟨rfl, rfl, rfl⟩) (qx_R1 hn ht (hR i hi) g gb)))
  · refine qx_rd87 (by omega) hi h1 h2 (h _ _ _ (hcol _ _ _ (fun j hj => ⟨rfl, rfl, pk_un hj⟩) ?_))
    rw [pk_us]
    exact qx_R2 hn ht (hR i hi) g gb
  · refine qx_rd87 (by omega) hi h1 h2 (h _ _ _ (hcol _ _ _ (fun j hj => ⟨pk_un hj, pk_un hj, pk_un hj⟩) ?_))
    rw [pk_us, pk_us, pk_us]
    exact qx_R3 ht (hR i hi) g
/-- a thread reads a word -/
theorem qx_read {post : Int32 → SX → Prop} {v : Int32} (hn : n ≤ 32) (ht : t < n) (hi : i < 64) (hp : ph < 512) (h1 : a_ownPhase (64 * t + i) = nI ph → a_own (64 * t + i) = v) (h2 : ¬ a_ownPhase (64 * t + i) = nI ph → a_words i = v)
    (hM : qx_M n ph S R r0 f_races a_storedPhase a_storedBy a_readPhase a_readBy a_readByMore a_racePhase)
    (h : ∀ (f_races : Int32) (a_readPhase a_readBy a_readByMore a_racePhase : Nat → Int32), qx_M n ph S (qx_s1 R t i) r0 f_races a_storedPhase a_storedBy a_readPhase a_readBy a_readByMore a_racePhase → post v (f_tokens, f_length, f_fault, f_compiled, f_open, f_waits, f_ended, f_threads, f_arg, nI ph, f_races, f_ran, f_over, a_kind, a_value, a_op, a_slot, a_statement, a_number, a_openKind, a_openOut, a_openStart, a_isConstant, a_constant, a_at, a_slots, a_variables, a_steps, a_words, a_counters, a_added, a_own, a_ownPhase, a_storedPhase, a_readPhase, a_racePhase, a_storedBy, a_readBy, a_readByMore, a_doneCount)) :
    wpX_read post (f_tokens, f_length, f_fault, f_compiled, f_open, f_waits, f_ended, f_threads, f_arg, nI ph, f_races, f_ran, f_over, a_kind, a_value, a_op, a_slot, a_statement, a_number, a_openKind, a_openOut, a_openStart, a_isConstant, a_constant, a_at, a_slots, a_variables, a_steps, a_words, a_counters, a_added, a_own, a_ownPhase, a_storedPhase, a_readPhase, a_racePhase, a_storedBy, a_readBy, a_readByMore, a_doneCount) (nI t) (nI i) := by
  have vi : vp_in (nI i) 64 := vp_in_nI hi (by decide)
  have ci : (nI i).toNatClampNeg = i := nI_clamp (by omega)
  obtain ⟨m1, m2⟩ := hM
  have hcol : ∀ (rc : Nat → Int32), (∀ j, j ≠ i → rc j = a_racePhase j) → qx_MC n ph (fun s => S s i) (qx_c1 (fun s => R s i) t) (rc i) → ∀ j, j < 64 → qx_MC n ph (fun s => S s j) (fun s => qx_s1 R t i s j) (rc j) := by
    intro rc g1 g2 j hj
    by_cases e : j = i
    · subst e
      rw [qx_s1e]
      exact g2
    · rw [qx_s1n e, g1 j e]
      exact (m2 j hj).2.2
  have hgo : ∀ (f_races : Int32) (rc : Nat → Int32), f_races = r0 + qx_cn ph rc → (∀ j, j ≠ i → rc j = a_racePhase j) → qx_MC n ph (fun s => S s i) (qx_c1 (fun s => R s i) t) (rc i) → wX_read_28 post (nI t) (nI i) f_tokens f_length f_fault f_compiled f_open f_waits f_ended f_threads f_arg (nI ph) f_races f_ran f_over a_kind a_value a_op a_slot a_statement a_number a_openKind a_openOut a_openStart a_isConstant a_constant a_at a_slots a_variables a_steps a_words a_counters a_added a_own a_ownPhase a_storedPhase a_readPhase rc a_storedBy a_readBy a_readByMore a_doneCount := by
    intro f_races rc g0 g1 g2
    refine qx_rd28 hn ht hi hp h1 h2 (fun j hj => (m2 j hj).2.1) (fun rP rB rM g3 => ?_)
    exact h f_races rP rB rM rc ⟨g0, fun j hj => ⟨(m2 j hj).1, g3 j hj, hcol rc g1 g2 j hj⟩⟩
  obtain ⟨k1, k2, k3⟩ := m2 i hi
  unfold wpX_read
  dsimp only
  refine ⟨vi, ?_⟩
  rw [ci]
  refine br_c (fun g => ⟨vi, br_c (fun gb => ?_) (fun gb => ?_)⟩) (fun g => ?_)
  · exact hgo f_races a_racePhase m1 (fun _ _ => rfl) ⟨k3.1, by rw [qx_C2 hn ht k1 g gb]; exact k3.2⟩
  · refine qx_race hi hp m1 (fun f_races rc g0 g1 g2 => ?_)
    refine hgo f_races rc g0 g2 ⟨by rw [g1]; exact ⟨ph, Nat.le_refl ph, rfl⟩, ⟨fun _ => qx_C1 hn ht k1 g gb, fun _ => g1⟩⟩
  · exact hgo f_races a_racePhase m1 (fun _ _ => rfl) ⟨k3.1, by rw [qx_C3 k1 g]; exact k3.2⟩
theorem qx_st87 {post : SX → Prop} {v : Int32} (ht : t < 32) (hi : i < 64) (hp : ph < 512) (h : post (f_tokens, f_length, f_fault, f_compiled, f_open, f_waits, f_ended, f_threads, f_arg, nI ph, f_races, f_ran, f_over, a_kind, a_value, a_op, a_slot, a_statement, a_number, a_openKind, a_openOut, a_openStart, a_isConstant, a_constant, a_at, a_slots, a_variables, a_steps, a_words, a_counters, a_added, upd a_own (64 * t + i) v, upd a_ownPhase (64 * t + i) (nI ph), a_storedPhase, a_readPhase, a_racePhase, a_storedBy, a_readBy, a_readByMore, a_doneCount)) : wX_store_87 post (nI t) (nI i) v f_tokens f_length f_fault f_compiled f_open f_waits f_ended f_threads f_arg (nI ph) f_races f_ran f_over a_kind a_value a_op a_slot a_statement a_number a_openKind a_openOut a_openStart a_isConstant a_constant a_at a_slots a_variables a_steps a_words a_counters a_added a_own a_ownPhase a_storedPhase a_readPhase a_racePhase a_storedBy a_readBy a_readByMore a_doneCount := by
  have e : (64 : Int32) * nI t + nI i = nI (64 * t + i) := qz_lin 64 t i
  have vi : vp_in (nI (64 * t + i)) 2048 := vp_in_nI (by omega) (by decide)
  unfold wX_store_87
  rw [e, nI_clamp (show 64 * t + i < 2 ^ 31 by omega)]
  exact ⟨vi, nm_r (by rw [qz_short hp]) ⟨vi, nm_e h⟩⟩
/-- the second half of a store -/
theorem qx_st37 {post : SX → Prop} {v : Int32} (hn : n ≤ 32) (ht : t < n) (hi : i < 64) (hp : ph < 512) (m1 : f_races = r0 + qx_cn ph a_racePhase)
    (mS : ∀ j, j < 64 → qx_MS n ph (fun s => S s j) (a_storedPhase j) (a_storedBy j)) (mR : ∀ j, j < 64 → qx_MR n ph (fun s => R s j) (a_readPhase j) (a_readBy j) (a_readByMore j))
    (mC : ∀ j, j < 64 → j ≠ i → qx_MC n ph (fun s => S s j) (fun s => R s j) (a_racePhase j)) (mi : qx_le ph (a_racePhase i) ∧ (a_racePhase i = nI ph ↔ (qx_Rc n (fun s => S s i) (fun s => R s i) ∨ qx_oth n (fun s => R s i) t)))
    (h : ∀ (f_races : Int32) (a_storedPhase a_storedBy a_racePhase : Nat → Int32), qx_M n ph (qx_s1 S t i) R r0 f_races a_storedPhase a_storedBy a_readPhase a_readBy a_readByMore a_racePhase → post (f_tokens, f_length, f_fault, f_compiled, f_open, f_waits, f_ended, f_threads, f_arg, nI ph, f_races, f_ran, f_over, a_kind, a_value, a_op, a_slot, a_statement, a_number, a_openKind, a_openOut, a_openStart, a_isConstant, a_constant, a_at, a_slots, a_variables, a_steps, a_words, a_counters, a_added, upd a_own (64 * t + i) v, upd a_ownPhase (64 * t + i) (nI ph), a_storedPhase, a_readPhase, a_racePhase, a_storedBy, a_readBy, a_readByMore, a_doneCount)) :
    wX_store_37 post (nI t) (nI i) v f_tokens f_length f_fault f_compiled f_open f_waits f_ended f_threads f_arg (nI ph) f_races f_ran f_over a_kind a_value a_op a_slot a_statement a_number a_openKind a_openOut a_openStart a_isConstant a_constant a_at a_slots a_variables a_steps a_words a_counters a_added a_own a_ownPhase a_storedPhase a_readPhase a_racePhase a_storedBy a_readBy a_readByMore a_doneCount := by
  have vi : vp_in (nI i) 64 := vp_in_nI hi (by decide)
  have ci : (nI i).toNatClampNeg = i := nI_clamp (by omega)
  have hgo : ∀ (f_races : Int32) (sP sB rc : Nat → Int32), f_races = r0 + qx_cn ph rc → (∀ j, j ≠ i → sP j = a_storedPhase j ∧ sB j = a_storedBy j ∧ rc j = a_racePhase j) → qx_MS n ph (qx_c1 (fun s => S s i) t) (sP i) (sB i) → qx_MC n ph (qx_c1 (fun s => S s i) t) (fun s => R s i) (rc i) →
      wX_store_87 post (nI t) (nI i) v f_tokens f_length f_fault f_compiled f_open f_waits f_ended f_threads f_arg (nI ph) f_races f_ran f_over a_kind a_value a_op a_slot a_statement a_number a_openKind a_openOut a_openStart a_isConstant a_constant a_at a_slots a_variables a_steps a_words a_counters a_added a_own a_ownPhase sP a_readPhase rc sB a_readBy a_readByMore a_doneCount := by
    intro f_races sP sB rc g0 g1 g2 g3
    refine qx_st87 (by omega) hi hp (h f_races sP sB rc ⟨g0, fun j hj => ?_⟩)
    by_cases e : j = i
    · subst e
      rw [qx_s1e]
      exact ⟨g2, mR j hj, g3⟩
    · rw [qx_s1n e, (g1 j e).1, (g1 j e).2.1, (g1 j e).2.2]
      exact ⟨mS j hj, mR j hj, mC j hj e⟩
  unfold wX_store_37
  refine ⟨vi, ?_⟩
  rw [ci]
  refine br_c (fun g => ⟨vi, br_c (fun gb => ?_) (fun gb => ?_)⟩) (fun g => ⟨vi, nm_r (e' := upd a_storedPhase i (nI ph)) (by rw [qz_short hp]) ⟨vi, nm_r (e' := upd a_storedBy i (nI t)) (by rw [qz_byte (by omega)]) ?_⟩⟩)
  · have q := qx_S1 (R := fun s => R s i) hn ht (mS i hi) g gb
    exact hgo _ _ _ _ m1 (fun _ _ => ⟨rfl, rfl, rfl⟩) q.1 ⟨mi.1, by rw [q.2]; exact mi.2⟩
  · have q := qx_S2 (R := fun s => R s i) hn ht (mS i hi) g gb
    refine qx_race hi hp m1 (fun f_races rc g0 g1 g2 => ?_)
    exact hgo _ _ _ _ g0 (fun j hj => ⟨rfl, rfl, g2 j hj⟩) q.1 ⟨by rw [g1]; exact ⟨ph, Nat.le_refl ph, rfl⟩, ⟨fun _ => q.2, fun _ => g1⟩⟩
  · have q := qx_S3 (R := fun s => R s i) ht (mS i hi) g
    refine hgo _ _ _ _ m1 (fun j hj => ⟨pk_un hj, pk_un hj, rfl⟩) ?_ ⟨mi.1, by rw [q.2]; exact mi.2⟩
    rw [pk_us, pk_us]
    exact q.1
/-- a thread stores a word -/
theorem qx_store {post : SX → Prop} {v : Int32} (hn : n ≤ 32) (ht : t < n) (hi : i < 64) (hp : ph < 512)
    (hM : qx_M n ph S R r0 f_races a_storedPhase a_storedBy a_readPhase a_readBy a_readByMore a_racePhase)
    (h : ∀ (f_races : Int32) (a_storedPhase a_storedBy a_racePhase : Nat → Int32), qx_M n ph (qx_s1 S t i) R r0 f_races a_storedPhase a_storedBy a_readPhase a_readBy a_readByMore a_racePhase → post (f_tokens, f_length, f_fault, f_compiled, f_open, f_waits, f_ended, f_threads, f_arg, nI ph, f_races, f_ran, f_over, a_kind, a_value, a_op, a_slot, a_statement, a_number, a_openKind, a_openOut, a_openStart, a_isConstant, a_constant, a_at, a_slots, a_variables, a_steps, a_words, a_counters, a_added, upd a_own (64 * t + i) v, upd a_ownPhase (64 * t + i) (nI ph), a_storedPhase, a_readPhase, a_racePhase, a_storedBy, a_readBy, a_readByMore, a_doneCount)) :
    wpX_store post (f_tokens, f_length, f_fault, f_compiled, f_open, f_waits, f_ended, f_threads, f_arg, nI ph, f_races, f_ran, f_over, a_kind, a_value, a_op, a_slot, a_statement, a_number, a_openKind, a_openOut, a_openStart, a_isConstant, a_constant, a_at, a_slots, a_variables, a_steps, a_words, a_counters, a_added, a_own, a_ownPhase, a_storedPhase, a_readPhase, a_racePhase, a_storedBy, a_readBy, a_readByMore, a_doneCount) (nI t) (nI i) v := by
  have vi : vp_in (nI i) 64 := vp_in_nI hi (by decide)
  have ci : (nI i).toNatClampNeg = i := nI_clamp (by omega)
  obtain ⟨m1, m2⟩ := hM
  obtain ⟨k1, k2, k3⟩ := m2 i hi
  have hno : ¬ qx_oth n (fun s => R s i) t → wX_store_37 post (nI t) (nI i) v f_tokens f_length f_fault f_compiled f_open f_waits f_ended f_threads f_arg (nI ph) f_races f_ran f_over a_kind a_value a_op a_slot a_statement a_number a_openKind a_openOut a_openStart a_isConstant a_constant a_at a_slots a_variables a_steps a_words a_counters a_added a_own a_ownPhase a_storedPhase a_readPhase a_racePhase a_storedBy a_readBy a_readByMore a_doneCount := by
    intro g
    refine qx_st37 hn ht hi hp m1 (fun j hj => (m2 j hj).1) (fun j hj => (m2 j hj).2.1) (fun j hj _ => (m2 j hj).2.2) ⟨k3.1, ?_⟩ h
    rw [k3.2]
    exact ⟨Or.inl, fun z => z.resolve_right g⟩
  have hyes : qx_oth n (fun s => R s i) t → wX_store_32 post (nI t) (nI i) v f_tokens f_length f_fault f_compiled f_open f_waits f_ended f_threads f_arg (nI ph) f_races f_ran f_over a_kind a_value a_op a_slot a_statement a_number a_openKind a_openOut a_openStart a_isConstant a_constant a_at a_slots a_variables a_steps a_words a_counters a_added a_own a_ownPhase a_storedPhase a_readPhase a_racePhase a_storedBy a_readBy a_readByMore a_doneCount := by
    intro g
    unfold wX_store_32
    refine qx_race hi hp m1 (fun f_races rc g0 g1 g2 => ?_)
    exact qx_st37 hn ht hi hp g0 (fun j hj => (m2 j hj).1) (fun j hj => (m2 j hj).2.1) (fun j hj hji => by rw [g2 j hji]; exact (m2 j hj).2.2) ⟨by rw [g1]; exact ⟨ph, Nat.le_refl ph, rfl⟩, ⟨fun _ => Or.inr g, fun _ => g1⟩⟩ h
  unfold wpX_store
  dsimp only
  refine ⟨vi, ?_⟩
  rw [ci]
  refine br_c (fun g => ⟨vi, ?_⟩) (fun g => hno (fun ⟨r, r1, _, r3⟩ => g (k2.2.1.mpr ⟨r, r1, r3⟩)))
  obtain ⟨b, b1, b2, b3, b4⟩ := k2.2.2 g
  refine br_c (fun gm => ⟨vi, br_c (fun gb => hno ?_) (fun gb => hyes ⟨b, b1, ?_, b3⟩)⟩) (fun gm => hyes ?_)
  · intro z
    have e : b = t := by
      rw [gb] at b2
      exact ((nI_eq (by omega) (by omega)).mp b2).symm
    rw [← e] at z
    exact b4.mpr z gm
  · intro e
    rw [e] at b2
    exact gb b2
  · obtain ⟨r, r1, r2, r3⟩ := b4.mp gm
    by_cases e : r = t
    · exact ⟨b, b1, by omega, b3⟩
    · exact ⟨r, r1, e, r3⟩
end
end
section
/-! the component in a phase: the threads' local states g against the arrays -/
theorem qz_b1 : ∀ j, j < 32 → bt 1 j = decide (j = 0) := by decide +kernel
theorem qz_bit {x : Int32} {t s : Nat} (ht : t < 32) (hs : s < 32) : bt (x ||| ((1 : Int32) <<< (nI t &&& 31))) s = (bt x s || decide (s = t)) := by
  rw [b_or, b_shl t ht 1 hs]
  by_cases h : t ≤ s
  · rw [qz_b1 (s - t) (by omega)]
    by_cases e : s = t
    · rw [decide_eq_true h, decide_eq_true (show s - t = 0 by omega), decide_eq_true e]
      rfl
    · rw [decide_eq_true h, decide_eq_false (show ¬ s - t = 0 by omega), decide_eq_false e]
      rfl
  · rw [decide_eq_false h, decide_eq_false (show ¬ s = t by omega)]
    rfl
theorem qz_tb {x : Int32} {t : Nat} (ht : t < 32) : (x >>> (nI t &&& 31)) &&& 1 = if bt x t = true then 1 else 0 := by
  apply b_ext
  intro i hi
  rw [b_and, b_sshr t ht x hi, qz_b1 i hi]
  by_cases e : i = 0
  · subst e
    rw [if_pos (by omega)]
    rw [show t + 0 = t from rfl]
    cases bt x t
    · rw [if_neg (by decide)]
      decide
    · rw [if_pos rfl]
      decide
  · rw [decide_eq_false e, Bool.and_false]
    split
    · rw [qz_b1 i hi, decide_eq_false e]
    · rw [b_0]
theorem qz_tb0 {x : Int32} {t : Nat} (ht : t < 32) : (x >>> (nI t &&& 31)) &&& 1 = 0 ↔ bt x t = false := by
  rw [qz_tb ht]
  cases bt x t
  · exact ⟨fun _ => rfl, fun _ => rfl⟩
  · exact ⟨fun h => absurd h (by decide), fun h => absurd h (by decide)⟩
theorem qz_tb1 {x : Int32} {t : Nat} (ht : t < 32) : (x >>> (nI t &&& 31)) &&& 1 = 1 ↔ bt x t = true := by
  rw [qz_tb ht]
  cases bt x t
  · exact ⟨fun h => absurd h (by decide), fun h => absurd h (by decide)⟩
  · exact ⟨fun _ => rfl, fun _ => rfl⟩
def qx_G (g : Nat → qt_X) (t : Nat) (l : qt_X) : Nat → qt_X := fun s => if s = t then l else g s
theorem qx_Gs {g : Nat → qt_X} {t : Nat} {l : qt_X} : qx_G g t l t = l := if_pos rfl
theorem qx_Gn {g : Nat → qt_X} {t s : Nat} {l : qt_X} (h : s ≠ t) : qx_G g t l s = g s := if_neg h
theorem qx_GG {g : Nat → qt_X} {t : Nat} {l l' : qt_X} : qx_G (qx_G g t l) t l' = qx_G g t l' := by
  funext s
  by_cases h : s = t
  · rw [h, qx_Gs, qx_Gs]
  · rw [qx_Gn h, qx_Gn h, qx_Gn h]
theorem qx_Gid {g : Nat → qt_X} {t : Nat} {l : qt_X} (h : g t = l) : qx_G g t l = g := by
  funext s
  by_cases e : s = t
  · rw [e, qx_Gs, h]
  · rw [qx_Gn e]
theorem qx_GF {α : Type} {g : Nat → qt_X} {t : Nat} {l : qt_X} (F : qt_X → α) (h : F l = F (g t)) : (fun s => F (qx_G g t l s)) = fun s => F (g s) := by
  funext s
  by_cases e : s = t
  · rw [e, qx_Gs, h]
  · rw [qx_Gn e]
def qx_Lt (l : qt_X) (t : Nat) (wa en : Int32) (ap sl vr sp : Nat → Int32) : Prop :=
  ap t = nI l.1 ∧ (∀ s, s < 18 → sl (32 * s + t) = l.2.1 s) ∧ (∀ v, v < 6 → vr (32 * v + t) = qt_vr l.2.2 v) ∧ sp t = nI (qt_sp l.2.2) ∧ bt wa t = decide (qt_fl l.2.2 ≠ 0) ∧ bt en t = decide (qt_fl l.2.2 = 2)
def qx_Ot (ph : Nat) (l : qt_X) (t : Nat) (w ow oP : Nat → Int32) : Prop := ∀ i, i < 64 → qx_le ph (oP (64 * t + i)) ∧ (oP (64 * t + i) = nI ph ↔ qt_S l.2.2 i = true) ∧ (qt_S l.2.2 i = true → ow (64 * t + i) = qt_ow l.2.2 i) ∧ (¬ qt_S l.2.2 i = true → w i = qt_ow l.2.2 i)
def qx_A (n : Nat) (g : Nat → qt_X) (d0 ad dn : Nat → Int32) : Prop := (∀ i, i < 64 → ad i = qz_sm (fun t => qt_A (g t).2.2 i) n) ∧ ∀ k, k < 64 → dn k = d0 k + qz_sm (fun t => qt_D (g t).2.2 k) n
def qx_anyO (n : Nat) (g : Nat → qt_X) : Prop := ∃ t, t < n ∧ qt_ov (g t).2.2 = true
def qx_V (n : Nat) (g : Nat → qt_X) (o0 : Bool) (o : Int32) : Prop := (o = 0 ∧ o0 = false ∧ ¬ qx_anyO n g) ∨ (o = 1 ∧ (o0 = true ∨ qx_anyO n g))
def qx_I (n ph : Nat) (g : Nat → qt_X) (d0 : Nat → Int32) (r0 : Int32) (o0 : Bool) (w : Nat → Int32) (f_waits f_ended f_races f_over : Int32) (a_at a_slots a_variables a_steps a_added a_own a_ownPhase a_storedPhase a_readPhase a_racePhase a_storedBy a_readBy a_readByMore a_doneCount : Nat → Int32) : Prop :=
  (∀ t, t < n → qx_Lt (g t) t f_waits f_ended a_at a_slots a_variables a_steps ∧ qx_Ot ph (g t) t w a_own a_ownPhase) ∧ (∀ t, n ≤ t → t < 32 → bt f_ended t = false) ∧
  qx_M n ph (fun t => qt_S (g t).2.2) (fun t => qt_R (g t).2.2) r0 f_races a_storedPhase a_storedBy a_readPhase a_readBy a_readByMore a_racePhase ∧ qx_A n g d0 a_added a_doneCount ∧ qx_V n g o0 f_over
section
variable {n ph t : Nat} {g : Nat → qt_X} {d0 : Nat → Int32} {r0 : Int32} {o0 : Bool} {w : Nat → Int32} {f_tokens f_length f_fault f_compiled f_open f_waits f_ended f_threads f_arg f_phase f_races f_ran f_over : Int32} {a_kind a_value a_op a_slot a_statement a_number a_openKind a_openOut a_openStart a_isConstant a_constant a_at a_slots a_variables a_steps a_words a_counters a_added a_own a_ownPhase a_storedPhase a_readPhase a_racePhase a_storedBy a_readBy a_readByMore a_doneCount : Nat → Int32} {p : Nat} {s : Nat → Int32} {c : qt_C}
theorem qx_A_same {l : qt_X} {ad dn : Nat → Int32} (h : qx_A n g d0 ad dn) (hA : qt_A l.2.2 = qt_A (g t).2.2) (hD : qt_D l.2.2 = qt_D (g t).2.2) : qx_A n (qx_G g t l) d0 ad dn := by
  refine ⟨fun i hi => ?_, fun k hk => ?_⟩
  · rw [qx_GF (fun l => qt_A l.2.2 i) (by rw [hA])]
    exact h.1 i hi
  · rw [qx_GF (fun l => qt_D l.2.2 k) (by rw [hD])]
    exact h.2 k hk
theorem qx_V_same {l : qt_X} {o : Int32} (h : qx_V n g o0 o) (ho : qt_ov l.2.2 = qt_ov (g t).2.2) : qx_V n (qx_G g t l) o0 o := by
  have e : qx_anyO n (qx_G g t l) ↔ qx_anyO n g := by
    unfold qx_anyO
    have e2 : ∀ s, qt_ov (qx_G g t l s).2.2 = qt_ov (g s).2.2 := fun s => congrFun (qx_GF (g := g) (t := t) (l := l) (fun l => qt_ov l.2.2) ho) s
    constructor
    · intro ⟨x, h1, h2⟩
      exact ⟨x, h1, by rw [← e2]; exact h2⟩
    · intro ⟨x, h1, h2⟩
      exact ⟨x, h1, by rw [e2]; exact h2⟩
  unfold qx_V
  rw [e]
  exact h
theorem qx_M_same {l : qt_X} {ra : Int32} {sP sB rP rB rM rc : Nat → Int32} (h : qx_M n ph (fun t => qt_S (g t).2.2) (fun t => qt_R (g t).2.2) r0 ra sP sB rP rB rM rc) (hS : qt_S l.2.2 = qt_S (g t).2.2) (hR : qt_R l.2.2 = qt_R (g t).2.2) :
    qx_M n ph (fun s => qt_S (qx_G g t l s).2.2) (fun s => qt_R (qx_G g t l s).2.2) r0 ra sP sB rP rB rM rc := by
  rw [qx_GF (fun l => qt_S l.2.2) hS, qx_GF (fun l => qt_R l.2.2) hR]
  exact h
/-- the count of a statement -/
theorem qx_cntI {k : Nat} (hn : n ≤ 32) (ht : t < n) (hk : k < 64) (hg : g t = (p, s, c)) (hI : qx_I n ph g d0 r0 o0 w f_waits f_ended f_races f_over a_at a_slots a_variables a_steps a_added a_own a_ownPhase a_storedPhase a_readPhase a_racePhase a_storedBy a_readBy a_readByMore a_doneCount) :
    qx_I n ph (qx_G g t (p, s, qt_cnt c k)) d0 r0 o0 w f_waits f_ended f_races f_over a_at a_slots a_variables (upd a_steps t (nI (qt_sp c + 1))) a_added a_own a_ownPhase a_storedPhase a_readPhase a_racePhase a_storedBy a_readBy a_readByMore (upd a_doneCount k (a_doneCount k + 1)) := by
  obtain ⟨i1, i2, i3, i4, i5⟩ := hI
  refine ⟨fun x hx => ?_, i2, qx_M_same i3 (by rw [hg]; rfl) (by rw [hg]; rfl), ⟨fun i hi => ?_, fun j hj => ?_⟩, qx_V_same i5 (by rw [hg]; rfl)⟩
  · by_cases e : x = t
    · subst e
      obtain ⟨⟨a1, a2, a3, a4, a5, a6⟩, b⟩ := i1 x hx
      rw [qx_Gs]
      rw [hg] at a1 a2 a3 a4 a5 a6 b
      exact ⟨⟨a1, a2, a3, pk_us, a5, a6⟩, b⟩
    · rw [qx_Gn e]
      obtain ⟨⟨a1, a2, a3, a4, a5, a6⟩, b⟩ := i1 x hx
      exact ⟨⟨a1, a2, a3, by rw [pk_un e]; exact a4, a5, a6⟩, b⟩
  · rw [qx_GF (fun l => qt_A l.2.2 i) (by rw [hg]; rfl)]
    exact i4.1 i hi
  · have h4 := i4.2 j hj
    by_cases e : j = k
    · subst e
      rw [pk_us, h4, Int32.add_assoc]
      congr 1
      refine (qz_sm_upd n ht (fun x hx => by rw [qx_Gn hx]) ?_).symm
      rw [qx_Gs, hg]
      exact pk_us
    · rw [pk_un e, h4]
      congr 1
      refine qz_sm_ext n (fun x hx => ?_)
      by_cases ex : x = t
      · rw [ex, qx_Gs, hg]
        exact (pk_un e).symm
      · rw [qx_Gn ex]
/-- where a thread is -/
theorem qx_advI {p' : Nat} (hg : g t = (p, s, c)) (hI : qx_I n ph g d0 r0 o0 w f_waits f_ended f_races f_over a_at a_slots a_variables a_steps a_added a_own a_ownPhase a_storedPhase a_readPhase a_racePhase a_storedBy a_readBy a_readByMore a_doneCount) :
    qx_I n ph (qx_G g t (p', s, c)) d0 r0 o0 w f_waits f_ended f_races f_over (upd a_at t (nI p')) a_slots a_variables a_steps a_added a_own a_ownPhase a_storedPhase a_readPhase a_racePhase a_storedBy a_readBy a_readByMore a_doneCount := by
  obtain ⟨i1, i2, i3, i4, i5⟩ := hI
  refine ⟨fun x hx => ?_, i2, qx_M_same i3 (by rw [hg]) (by rw [hg]), qx_A_same i4 (by rw [hg]) (by rw [hg]), qx_V_same i5 (by rw [hg])⟩
  by_cases e : x = t
  · subst e
    obtain ⟨⟨a1, a2, a3, a4, a5, a6⟩, b⟩ := i1 x hx
    rw [qx_Gs]
    rw [hg] at a1 a2 a3 a4 a5 a6 b
    exact ⟨⟨pk_us, a2, a3, a4, a5, a6⟩, b⟩
  · rw [qx_Gn e]
    obtain ⟨⟨a1, a2, a3, a4, a5, a6⟩, b⟩ := i1 x hx
    exact ⟨⟨by rw [pk_un e]; exact a1, a2, a3, a4, a5, a6⟩, b⟩
/-- a slot, and what was read -/
theorem qx_slotI {k : Nat} {v : Int32} {R : Nat → Bool} (hn : n ≤ 32) (ht : t < n) (hk : k < 18) (hg : g t = (p, s, c)) (hI : qx_I n ph g d0 r0 o0 w f_waits f_ended f_races f_over a_at a_slots a_variables a_steps a_added a_own a_ownPhase a_storedPhase a_readPhase a_racePhase a_storedBy a_readBy a_readByMore a_doneCount)
    {f_races : Int32} {a_readPhase a_racePhase a_readBy a_readByMore : Nat → Int32} (hM : qx_M n ph (fun t => qt_S (g t).2.2) (fun x => if x = t then R else qt_R (g x).2.2) r0 f_races a_storedPhase a_storedBy a_readPhase a_readBy a_readByMore a_racePhase) :
    qx_I n ph (qx_G g t (p, upd s k v, qt_rd c R)) d0 r0 o0 w f_waits f_ended f_races f_over a_at (upd a_slots (32 * k + t) v) a_variables a_steps a_added a_own a_ownPhase a_storedPhase a_readPhase a_racePhase a_storedBy a_readBy a_readByMore a_doneCount := by
  obtain ⟨i1, i2, i3, i4, i5⟩ := hI
  refine ⟨fun x hx => ?_, i2, ?_, qx_A_same i4 (by rw [hg]; rfl) (by rw [hg]; rfl), qx_V_same i5 (by rw [hg]; rfl)⟩
  · by_cases e : x = t
    · subst e
      obtain ⟨⟨a1, a2, a3, a4, a5, a6⟩, b⟩ := i1 x hx
      rw [qx_Gs]
      rw [hg] at a1 a2 a3 a4 a5 a6 b
      refine ⟨⟨a1, fun j hj => ?_, a3, a4, a5, a6⟩, b⟩
      by_cases ej : j = k
      · rw [ej, pk_us]; exact pk_us.symm
      · rw [pk_un (by omega)]
        show _ = upd s k v j
        rw [pk_un ej]
        exact a2 j hj
    · rw [qx_Gn e]
      obtain ⟨⟨a1, a2, a3, a4, a5, a6⟩, b⟩ := i1 x hx
      exact ⟨⟨a1, fun j hj => by rw [pk_un (by omega)]; exact a2 j hj, a3, a4, a5, a6⟩, b⟩
  · rw [qx_GF (fun l => qt_S l.2.2) (by rw [hg]; rfl)]
    have e : (fun x => qt_R (qx_G g t (p, upd s k v, qt_rd c R) x).2.2) = fun x => if x = t then R else qt_R (g x).2.2 := by
      funext x
      by_cases ex : x = t
      · rw [ex, qx_Gs, if_pos rfl]; rfl
      · rw [qx_Gn ex, if_neg ex]
    rw [e]
    exact hM
theorem qx_varI {k : Nat} {v : Int32} (hn : n ≤ 32) (ht : t < n) (hk : k < 6) (hg : g t = (p, s, c)) (hI : qx_I n ph g d0 r0 o0 w f_waits f_ended f_races f_over a_at a_slots a_variables a_steps a_added a_own a_ownPhase a_storedPhase a_readPhase a_racePhase a_storedBy a_readBy a_readByMore a_doneCount) :
    qx_I n ph (qx_G g t (p, s, qt_vs c k v)) d0 r0 o0 w f_waits f_ended f_races f_over a_at a_slots (upd a_variables (32 * k + t) v) a_steps a_added a_own a_ownPhase a_storedPhase a_readPhase a_racePhase a_storedBy a_readBy a_readByMore a_doneCount := by
  obtain ⟨i1, i2, i3, i4, i5⟩ := hI
  refine ⟨fun x hx => ?_, i2, qx_M_same i3 (by rw [hg]; rfl) (by rw [hg]; rfl), qx_A_same i4 (by rw [hg]; rfl) (by rw [hg]; rfl), qx_V_same i5 (by rw [hg]; rfl)⟩
  by_cases e : x = t
  · subst e
    obtain ⟨⟨a1, a2, a3, a4, a5, a6⟩, b⟩ := i1 x hx
    rw [qx_Gs]
    rw [hg] at a1 a2 a3 a4 a5 a6 b
    refine ⟨⟨a1, a2, fun j hj => ?_, a4, a5, a6⟩, b⟩
    by_cases ej : j = k
    · rw [ej, pk_us]; exact pk_us.symm
    · rw [pk_un (by omega)]
      show _ = upd (qt_vr c) k v j
      rw [pk_un ej]
      exact a3 j hj
  · rw [qx_Gn e]
    obtain ⟨⟨a1, a2, a3, a4, a5, a6⟩, b⟩ := i1 x hx
    exact ⟨⟨a1, a2, fun j hj => by rw [pk_un (by omega)]; exact a3 j hj, a4, a5, a6⟩, b⟩
theorem qx_addI {i : Nat} {v : Int32} (hn : n ≤ 32) (ht : t < n) (hi : i < 64) (hg : g t = (p, s, c)) (hI : qx_I n ph g d0 r0 o0 w f_waits f_ended f_races f_over a_at a_slots a_variables a_steps a_added a_own a_ownPhase a_storedPhase a_readPhase a_racePhase a_storedBy a_readBy a_readByMore a_doneCount) :
    qx_I n ph (qx_G g t (p, s, qt_ad c i v)) d0 r0 o0 w f_waits f_ended f_races f_over a_at a_slots a_variables a_steps (upd a_added i (a_added i + v)) a_own a_ownPhase a_storedPhase a_readPhase a_racePhase a_storedBy a_readBy a_readByMore a_doneCount := by
  obtain ⟨i1, i2, i3, i4, i5⟩ := hI
  refine ⟨fun x hx => ?_, i2, qx_M_same i3 (by rw [hg]; rfl) (by rw [hg]; rfl), ⟨fun j hj => ?_, fun k hk => ?_⟩, qx_V_same i5 (by rw [hg]; rfl)⟩
  · by_cases e : x = t
    · subst e
      have h := i1 x hx
      rw [qx_Gs]
      rw [hg] at h
      exact h
    · rw [qx_Gn e]
      exact i1 x hx
  · have h4 := i4.1 j hj
    by_cases e : j = i
    · subst e
      rw [pk_us, h4]
      refine (qz_sm_upd n ht (fun x hx => by rw [qx_Gn hx]) ?_).symm
      rw [qx_Gs, hg]
      exact pk_us
    · rw [pk_un e, h4]
      refine qz_sm_ext n (fun x hx => ?_)
      by_cases ex : x = t
      · rw [ex, qx_Gs, hg]
        exact (pk_un e).symm
      · rw [qx_Gn ex]
  · rw [qx_GF (fun l => qt_D l.2.2 k) (by rw [hg]; rfl)]
    exact i4.2 k hk
theorem qx_swI {i : Nat} {v : Int32} (hn : n ≤ 32) (ht : t < n) (hi : i < 64) (hg : g t = (p, s, c)) (hI : qx_I n ph g d0 r0 o0 w f_waits f_ended f_races f_over a_at a_slots a_variables a_steps a_added a_own a_ownPhase a_storedPhase a_readPhase a_racePhase a_storedBy a_readBy a_readByMore a_doneCount)
    {f_races : Int32} {a_storedPhase a_storedBy a_racePhase : Nat → Int32} (hM : qx_M n ph (qx_s1 (fun t => qt_S (g t).2.2) t i) (fun t => qt_R (g t).2.2) r0 f_races a_storedPhase a_storedBy a_readPhase a_readBy a_readByMore a_racePhase) :
    qx_I n ph (qx_G g t (p, s, qt_sw c i v)) d0 r0 o0 w f_waits f_ended f_races f_over a_at a_slots a_variables a_steps a_added (upd a_own (64 * t + i) v) (upd a_ownPhase (64 * t + i) (nI ph)) a_storedPhase a_readPhase a_racePhase a_storedBy a_readBy a_readByMore a_doneCount := by
  obtain ⟨i1, i2, i3, i4, i5⟩ := hI
  refine ⟨fun x hx => ?_, i2, ?_, qx_A_same i4 (by rw [hg]; rfl) (by rw [hg]; rfl), qx_V_same i5 (by rw [hg]; rfl)⟩
  · by_cases e : x = t
    · subst e
      obtain ⟨a, b⟩ := i1 x hx
      rw [qx_Gs]
      rw [hg] at a b
      refine ⟨a, fun j hj => ?_⟩
      obtain ⟨b1, b2, b3, b4⟩ := b j hj
      show _ ∧ (_ ↔ (if j = i then true else qt_S c j) = true) ∧ ((if j = i then true else qt_S c j) = true → _ = upd (qt_ow c) i v j) ∧ (¬ (if j = i then true else qt_S c j) = true → w j = upd (qt_ow c) i v j)
      by_cases ej : j = i
      · subst ej
        rw [pk_us, pk_us, pk_us, if_pos rfl]
        exact ⟨⟨ph, Nat.le_refl ph, rfl⟩, ⟨fun _ => rfl, fun _ => rfl⟩, fun _ => rfl, fun h => absurd rfl h⟩
      · rw [pk_un (by omega), pk_un (by omega), pk_un ej, if_neg ej]
        exact ⟨b1, b2, b3, b4⟩
    · rw [qx_Gn e]
      obtain ⟨a, b⟩ := i1 x hx
      refine ⟨a, fun j hj => ?_⟩
      rw [pk_un (by omega), pk_un (by omega)]
      exact b j hj
  · rw [qx_GF (fun l => qt_R l.2.2) (by rw [hg]; rfl)]
    have e : (fun x => qt_S (qx_G g t (p, s, qt_sw c i v) x).2.2) = qx_s1 (fun t => qt_S (g t).2.2) t i := by
      funext x j
      unfold qx_s1
      by_cases ex : x = t
      · rw [ex, qx_Gs]
        show (if j = i then true else qt_S c j) = _
        by_cases ej : j = i
        · rw [if_pos ej, if_pos ⟨rfl, ej⟩]
        · rw [if_neg ej, if_neg (by omega)]
          show qt_S c j = qt_S (g t).2.2 j
          rw [hg]
      · rw [qx_Gn ex, if_neg (by omega)]
    rw [e]
    exact hM
theorem qx_waitI (hn : n ≤ 32) (ht : t < n) (hf : qt_fl c = 0) (hg : g t = (p, s, c)) (hI : qx_I n ph g d0 r0 o0 w f_waits f_ended f_races f_over a_at a_slots a_variables a_steps a_added a_own a_ownPhase a_storedPhase a_readPhase a_racePhase a_storedBy a_readBy a_readByMore a_doneCount) :
    qx_I n ph (qx_G g t (p, s, qt_f c 1)) d0 r0 o0 w (f_waits ||| ((1 : Int32) <<< (nI t &&& 31))) f_ended f_races f_over a_at a_slots a_variables a_steps a_added a_own a_ownPhase a_storedPhase a_readPhase a_racePhase a_storedBy a_readBy a_readByMore a_doneCount := by
  obtain ⟨i1, i2, i3, i4, i5⟩ := hI
  refine ⟨fun x hx => ?_, i2, qx_M_same i3 (by rw [hg]; rfl) (by rw [hg]; rfl), qx_A_same i4 (by rw [hg]; rfl) (by rw [hg]; rfl), qx_V_same i5 (by rw [hg]; rfl)⟩
  by_cases e : x = t
  · subst e
    obtain ⟨⟨a1, a2, a3, a4, a5, a6⟩, b⟩ := i1 x hx
    rw [qx_Gs]
    rw [hg] at a1 a2 a3 a4 a5 a6 b
    refine ⟨⟨a1, a2, a3, a4, ?_, ?_⟩, b⟩
    · rw [qz_bit (by omega) (by omega), decide_eq_true (rfl : x = x), Bool.or_true]
      rfl
    · rw [a6, hf]
      rfl
  · rw [qx_Gn e]
    obtain ⟨⟨a1, a2, a3, a4, a5, a6⟩, b⟩ := i1 x hx
    refine ⟨⟨a1, a2, a3, a4, ?_, a6⟩, b⟩
    rw [qz_bit (by omega) (by omega), decide_eq_false e, Bool.or_false]
    exact a5
theorem qx_endI (hn : n ≤ 32) (ht : t < n) (hg : g t = (p, s, c)) (hI : qx_I n ph g d0 r0 o0 w f_waits f_ended f_races f_over a_at a_slots a_variables a_steps a_added a_own a_ownPhase a_storedPhase a_readPhase a_racePhase a_storedBy a_readBy a_readByMore a_doneCount) :
    qx_I n ph (qx_G g t (p, s, qt_f c 2)) d0 r0 o0 w (f_waits ||| ((1 : Int32) <<< (nI t &&& 31))) (f_ended ||| ((1 : Int32) <<< (nI t &&& 31))) f_races f_over a_at a_slots a_variables a_steps a_added a_own a_ownPhase a_storedPhase a_readPhase a_racePhase a_storedBy a_readBy a_readByMore a_doneCount := by
  obtain ⟨i1, i2, i3, i4, i5⟩ := hI
  refine ⟨fun x hx => ?_, fun x h1 h2 => ?_, qx_M_same i3 (by rw [hg]; rfl) (by rw [hg]; rfl), qx_A_same i4 (by rw [hg]; rfl) (by rw [hg]; rfl), qx_V_same i5 (by rw [hg]; rfl)⟩
  · by_cases e : x = t
    · subst e
      obtain ⟨⟨a1, a2, a3, a4, a5, a6⟩, b⟩ := i1 x hx
      rw [qx_Gs]
      rw [hg] at a1 a2 a3 a4 a5 a6 b
      refine ⟨⟨a1, a2, a3, a4, ?_, ?_⟩, b⟩
      · rw [qz_bit (by omega) (by omega), decide_eq_true (rfl : x = x), Bool.or_true]
        rfl
      · rw [qz_bit (by omega) (by omega), decide_eq_true (rfl : x = x), Bool.or_true]
        rfl
    · rw [qx_Gn e]
      obtain ⟨⟨a1, a2, a3, a4, a5, a6⟩, b⟩ := i1 x hx
      refine ⟨⟨a1, a2, a3, a4, ?_, ?_⟩, b⟩
      · rw [qz_bit (by omega) (by omega), decide_eq_false e, Bool.or_false]
        exact a5
      · rw [qz_bit (by omega) (by omega), decide_eq_false e, Bool.or_false]
        exact a6
  · rw [qz_bit (by omega) h2, decide_eq_false (by omega), Bool.or_false]
    exact i2 x h1 h2
theorem qx_overI (hn : n ≤ 32) (ht : t < n) (hg : g t = (p, s, c)) (hI : qx_I n ph g d0 r0 o0 w f_waits f_ended f_races f_over a_at a_slots a_variables a_steps a_added a_own a_ownPhase a_storedPhase a_readPhase a_racePhase a_storedBy a_readBy a_readByMore a_doneCount) :
    qx_I n ph (qx_G g t (p, s, qt_over c)) d0 r0 o0 w (f_waits ||| ((1 : Int32) <<< (nI t &&& 31))) (f_ended ||| ((1 : Int32) <<< (nI t &&& 31))) f_races 1 a_at a_slots a_variables a_steps a_added a_own a_ownPhase a_storedPhase a_readPhase a_racePhase a_storedBy a_readBy a_readByMore a_doneCount := by
  obtain ⟨i1, i2, i3, i4, i5⟩ := qx_endI hn ht hg hI
  refine ⟨fun x hx => ?_, i2, ?_, ?_, Or.inr ⟨rfl, Or.inr ⟨t, ht, by rw [qx_Gs]; rfl⟩⟩⟩
  · by_cases e : x = t
    · subst e
      have h := i1 x hx
      rw [qx_Gs] at h ⊢
      exact h
    · have h := i1 x hx
      rw [qx_Gn e] at h ⊢
      exact h
  · have h := qx_M_same (t := t) (l := (p, s, qt_over c)) i3 (by rw [qx_Gs]; rfl) (by rw [qx_Gs]; rfl)
    rw [qx_GG] at h
    exact h
  · have h := qx_A_same (t := t) (l := (p, s, qt_over c)) i4 (by rw [qx_Gs]; rfl) (by rw [qx_Gs]; rfl)
    rw [qx_GG] at h
    exact h
end
end
section
/-! the component's calculate, act, step -/
theorem qe_ar2 {k : Nat} (h1 : 20 ≤ k) (h2 : k ≤ 28) : qe_ar k = 2 := by
  unfold qe_ar
  rw [if_neg (by omega), if_neg (by omega), if_neg (by omega), if_neg (by omega), if_neg (by omega)]
theorem qe_v_op {E : qe_E} {k : Nat} {x a b c : Int32} (h1 : 20 ≤ k) : qe_v E k x a b c = qe_op k a b c := by
  unfold qe_v
  rw [if_neg (by omega), if_neg (by omega), if_neg (by omega)]
section
variable {f_tokens f_length f_fault f_compiled f_open f_waits f_ended f_threads f_arg f_phase f_races f_ran f_over : Int32} {a_kind a_value a_op a_slot a_statement a_number a_openKind a_openOut a_openStart a_isConstant a_constant a_at a_slots a_variables a_steps a_words a_counters a_added a_own a_ownPhase a_storedPhase a_readPhase a_racePhase a_storedBy a_readBy a_readByMore a_doneCount : Nat → Int32} {n ph t : Nat} {S R : Nat → Nat → Bool} {r0 : Int32} {p s k : Nat} {z : Nat → Int32} {c : qt_C}
theorem qx_c233 {post : Int32 → SX → Prop} {E : qe_E} {x : Int32} (ht : t < 32) (hk : 20 ≤ k) (hk2 : k ≤ 28) (hs : s + qe_ar k ≤ 18) (hz : ∀ j, j < 18 → a_slots (32 * j + t) = z j)
    (h : post (qe_v E k x (z (s + qe_ar k - 1)) (z (s + qe_ar k - 2)) (z (s + qe_ar k - 3))) (f_tokens, f_length, f_fault, f_compiled, f_open, f_waits, f_ended, f_threads, f_arg, f_phase, f_races, f_ran, f_over, a_kind, a_value, a_op, a_slot, a_statement, a_number, a_openKind, a_openOut, a_openStart, a_isConstant, a_constant, a_at, a_slots, a_variables, a_steps, a_words, a_counters, a_added, a_own, a_ownPhase, a_storedPhase, a_readPhase, a_racePhase, a_storedBy, a_readBy, a_readByMore, a_doneCount)) : wX_calculate_233 post (nI (32 * s + t)) (nI k) f_tokens f_length f_fault f_compiled f_open f_waits f_ended f_threads f_arg f_phase f_races f_ran f_over a_kind a_value a_op a_slot a_statement a_number a_openKind a_openOut a_openStart a_isConstant a_constant a_at a_slots a_variables a_steps a_words a_counters a_added a_own a_ownPhase a_storedPhase a_readPhase a_racePhase a_storedBy a_readBy a_readByMore a_doneCount := by
  rw [qe_v_op hk] at h
  rw [qe_ar2 hk hk2] at h hs
  have e1 : nI (32 * s + t) + 32 = nI (32 * (s + 1) + t) := by
    rw [show (nI (32 * s + t) + 32 : Int32) = nI (32 * s + t + 32) from nI_add (32 * s + t) 32]
    exact congrArg nI (by omega)
  unfold wX_calculate_233
  rw [e1, nI_clamp (show 32 * (s + 1) + t < 2 ^ 31 by omega), nI_clamp (show 32 * s + t < 2 ^ 31 by omega), hz (s + 1) (by omega), hz s (by omega)]
  rw [show s + 2 - 1 = s + 1 by omega, show s + 2 - 2 = s by omega] at h
  exact ⟨vp_in_nI (by omega) (by decide), vp_in_nI (by omega) (by decide), qc_pair hk hk2 h⟩
theorem qx_c190 {post : Int32 → SX → Prop} {E : qe_E} {x : Int32} (ht : t < 32) (hk : k = 29 ∨ k = 30) (hs : s < 18) (hz : ∀ j, j < 18 → a_slots (32 * j + t) = z j)
    (h : post (qe_v E k x (z (s + qe_ar k - 1)) (z (s + qe_ar k - 2)) (z (s + qe_ar k - 3))) (f_tokens, f_length, f_fault, f_compiled, f_open, f_waits, f_ended, f_threads, f_arg, f_phase, f_races, f_ran, f_over, a_kind, a_value, a_op, a_slot, a_statement, a_number, a_openKind, a_openOut, a_openStart, a_isConstant, a_constant, a_at, a_slots, a_variables, a_steps, a_words, a_counters, a_added, a_own, a_ownPhase, a_storedPhase, a_readPhase, a_racePhase, a_storedBy, a_readBy, a_readByMore, a_doneCount)) : wX_calculate_190 post (nI (32 * s + t)) (nI k) f_tokens f_length f_fault f_compiled f_open f_waits f_ended f_threads f_arg f_phase f_races f_ran f_over a_kind a_value a_op a_slot a_statement a_number a_openKind a_openOut a_openStart a_isConstant a_constant a_at a_slots a_variables a_steps a_words a_counters a_added a_own a_ownPhase a_storedPhase a_readPhase a_racePhase a_storedBy a_readBy a_readByMore a_doneCount := by
  rw [qe_v_op (by omega)] at h
  have e : qe_ar k = 1 := by rcases hk with rfl | rfl <;> rfl
  rw [e, show s + 1 - 1 = s by omega] at h
  unfold wX_calculate_190
  rw [nI_clamp (show 32 * s + t < 2 ^ 31 by omega), hz s hs]
  exact ⟨vp_in_nI (by omega) (by decide), qc_single hk h⟩
theorem qx_calc {post : Int32 → SX → Prop} (hn : n ≤ 32) (ht : t < n) (hph : ph < 512) (hp : p < 224) (ho : a_op p = nI k) (hs : a_slot p = nI s) (k1 : 10 ≤ k) (k2 : k ≤ 31) (k3 : k ≤ 16 ∨ 20 ≤ k) (hs1 : s < 18) (hs2 : s + qe_ar k ≤ 18) (h11 : k = 11 → qe_V6 (a_number p))
    (hz : ∀ j, j < 18 → a_slots (32 * j + t) = z j) (hv : ∀ v, v < 6 → a_variables (32 * v + t) = qt_vr c v) {q : Nat} (hO : qx_Ot ph (q, z, c) t a_words a_own a_ownPhase)
    (hM : qx_M n ph S R r0 f_races a_storedPhase a_storedBy a_readPhase a_readBy a_readByMore a_racePhase)
    (h : ∀ (f_races : Int32) (a_readPhase a_readBy a_readByMore a_racePhase : Nat → Int32), qx_M n ph S (fun x => if x = t then qe_r k (z (s + qe_ar k - 1)) (R t) else R x) r0 f_races a_storedPhase a_storedBy a_readPhase a_readBy a_readByMore a_racePhase →
      post (qe_v (qt_env a_counters f_threads f_arg t c) k (a_number p) (z (s + qe_ar k - 1)) (z (s + qe_ar k - 2)) (z (s + qe_ar k - 3))) (f_tokens, f_length, f_fault, f_compiled, f_open, f_waits, f_ended, f_threads, f_arg, nI ph, f_races, f_ran, f_over, a_kind, a_value, a_op, a_slot, a_statement, a_number, a_openKind, a_openOut, a_openStart, a_isConstant, a_constant, a_at, a_slots, a_variables, a_steps, a_words, a_counters, a_added, a_own, a_ownPhase, a_storedPhase, a_readPhase, a_racePhase, a_storedBy, a_readBy, a_readByMore, a_doneCount)) :
    wpX_calculate post (f_tokens, f_length, f_fault, f_compiled, f_open, f_waits, f_ended, f_threads, f_arg, nI ph, f_races, f_ran, f_over, a_kind, a_value, a_op, a_slot, a_statement, a_number, a_openKind, a_openOut, a_openStart, a_isConstant, a_constant, a_at, a_slots, a_variables, a_steps, a_words, a_counters, a_added, a_own, a_ownPhase, a_storedPhase, a_readPhase, a_racePhase, a_storedBy, a_readBy, a_readByMore, a_doneCount) (nI t) (nI p) := by
  have vp : vp_in (nI p) 224 := vp_in_nI hp (by decide)
  have cp : (nI p).toNatClampNeg = p := nI_clamp (by omega)
  have x3 : (32 : Int32) * a_slot p + nI t = nI (32 * s + t) := by
    rw [hs]
    exact qz_lin 32 s t
  have vs : vp_in (nI (32 * s + t)) 576 := vp_in_nI (by omega) (by decide)
  have cs : (nI (32 * s + t)).toNatClampNeg = 32 * s + t := nI_clamp (by omega)
  unfold wpX_calculate
  dsimp only
  rw [cp]
  refine ⟨vp, nm_r x3 ⟨vp, nm_r ho ?_⟩⟩
  by_cases h15 : k = 15
  · subst h15
    repeat (first | refine br_f (by decide) ?_ | refine br_t (by decide) ?_)
    refine ⟨vs, ?_⟩
    rw [cs, hz s hs1, (qz_wE (z s)).2]
    obtain ⟨o1, o2, o3, o4⟩ := hO (qz_w (z s)) (qz_wE (z s)).1
    refine qx_read hn ht (qz_wE (z s)).1 hph (v := qt_ow c (qz_w (z s))) (fun g => o3 (o2.mp g)) (fun g => o4 (fun g2 => g (o2.mpr g2))) hM ?_
    intro f_races a_readPhase a_readBy a_readByMore a_racePhase g
    refine h f_races a_readPhase a_readBy a_readByMore a_racePhase ?_
    have e : (fun x => if x = t then qe_r 15 (z (s + qe_ar 15 - 1)) (R t) else R x) = qx_s1 R t (qz_w (z s)) := by
      funext x j
      unfold qx_s1 qe_r
      rw [if_pos rfl, show s + qe_ar 15 - 1 = s from rfl]
      by_cases ex : x = t
      · rw [if_pos ex]
        by_cases ej : j = qz_w (z s)
        · rw [if_pos ej, if_pos ⟨ex, ej⟩]
        · rw [if_neg ej, if_neg (fun w => ej w.2), ex]
      · rw [if_neg ex, if_neg (fun w => ex w.1)]
    rw [e]
    exact g
  · have e : (fun x => if x = t then qe_r k (z (s + qe_ar k - 1)) (R t) else R x) = R := by
      funext x
      by_cases ex : x = t
      · rw [if_pos ex, ex]
        unfold qe_r
        rw [if_neg h15]
      · rw [if_neg ex]
    have h0 := h f_races a_readPhase a_readBy a_readByMore a_racePhase (by rw [e]; exact hM)
    clear h
    rcases (show k = 10 ∨ k = 11 ∨ k = 12 ∨ k = 13 ∨ k = 14 ∨ k = 16 ∨ (20 ≤ k ∧ k ≤ 28) ∨ (k = 29 ∨ k = 30) ∨ k = 31 by omega) with g | g | g | g | g | g | g | g | g
    · subst g
      repeat (first | refine br_f (by decide) ?_ | refine br_t (by decide) ?_)
      exact ⟨vp, h0⟩
    · subst g
      obtain ⟨v, v1, v2⟩ := h11 rfl
      have ev : (32 : Int32) * a_number p + nI t = nI (32 * v + t) := by
        rw [v2]
        exact qz_lin 32 v t
      have h1 : post (qt_vr c (a_number p).toNatClampNeg) (f_tokens, f_length, f_fault, f_compiled, f_open, f_waits, f_ended, f_threads, f_arg, nI ph, f_races, f_ran, f_over, a_kind, a_value, a_op, a_slot, a_statement, a_number, a_openKind, a_openOut, a_openStart, a_isConstant, a_constant, a_at, a_slots, a_variables, a_steps, a_words, a_counters, a_added, a_own, a_ownPhase, a_storedPhase, a_readPhase, a_racePhase, a_storedBy, a_readBy, a_readByMore, a_doneCount) := h0
      rw [v2, nI_clamp (by omega)] at h1
      repeat (first | refine br_f (by decide) ?_ | refine br_t (by decide) ?_)
      refine ⟨vp, ?_⟩
      rw [ev, nI_clamp (show 32 * v + t < 2 ^ 31 by omega), hv v v1]
      exact ⟨vp_in_nI (by omega) (by decide), h1⟩
    · subst g
      repeat (first | refine br_f (by decide) ?_ | refine br_t (by decide) ?_)
      exact h0
    · subst g
      repeat (first | refine br_f (by decide) ?_ | refine br_t (by decide) ?_)
      exact h0
    · subst g
      repeat (first | refine br_f (by decide) ?_ | refine br_t (by decide) ?_)
      exact h0
    · subst g
      have h1 : post (a_counters (qz_w (z s))) (f_tokens, f_length, f_fault, f_compiled, f_open, f_waits, f_ended, f_threads, f_arg, nI ph, f_races, f_ran, f_over, a_kind, a_value, a_op, a_slot, a_statement, a_number, a_openKind, a_openOut, a_openStart, a_isConstant, a_constant, a_at, a_slots, a_variables, a_steps, a_words, a_counters, a_added, a_own, a_ownPhase, a_storedPhase, a_readPhase, a_racePhase, a_storedBy, a_readBy, a_readByMore, a_doneCount) := h0
      repeat (first | refine br_f (by decide) ?_ | refine br_t (by decide) ?_)
      refine ⟨vs, ?_⟩
      rw [cs, hz s hs1, (qz_wE (z s)).2, nI_clamp (show qz_w (z s) < 2 ^ 31 by have := (qz_wE (z s)).1; omega)]
      exact ⟨vp_in_nI (qz_wE (z s)).1 (by decide), h1⟩
    · have h1 := qx_c233 (by omega) g.1 g.2 hs2 hz h0
      clear h0 h11
      obtain ⟨g1, g2⟩ := g
      refine br_f (nI_nlt (b := 10) (by omega) (by omega)) (br_f (nI_nlt (a := 31) (by omega) (by decide)) ?_)
      refine br_f (qz_ne (b := 10) (by omega) (by omega) (by decide)) (br_f (qz_ne (b := 11) (by omega) (by omega) (by decide)) (br_f (qz_ne (b := 12) (by omega) (by omega) (by decide)) (br_f (qz_ne (b := 13) (by omega) (by omega) (by decide)) ?_)))
      refine br_f (qz_ne (b := 14) (by omega) (by omega) (by decide)) (br_f (qz_ne (b := 15) (by omega) (by omega) (by decide)) (br_f (qz_ne (b := 16) (by omega) (by omega) (by decide)) (br_f (qz_ne (b := 17) (by omega) (by omega) (by decide)) ?_)))
      refine br_f (qz_ne (b := 18) (by omega) (by omega) (by decide)) (br_f (qz_ne (b := 19) (by omega) (by omega) (by decide)) ?_)
      refine br_c (fun _ => h1) (fun n0 => br_c (fun _ => h1) (fun n1 => br_c (fun _ => h1) (fun n2 => br_c (fun _ => h1) (fun n3 => br_c (fun _ => h1) (fun n4 => br_c (fun _ => h1) (fun n5 => br_c (fun _ => h1) (fun n6 => br_c (fun _ => h1) (fun n7 => br_c (fun _ => h1) (fun n8 => ?_)))))))))
      exfalso
      rcases (show k = 20 ∨ k = 21 ∨ k = 22 ∨ k = 23 ∨ k = 24 ∨ k = 25 ∨ k = 26 ∨ k = 27 ∨ k = 28 by omega) with e | e | e | e | e | e | e | e | e
      · exact n0 (by rw [e]; rfl)
      · exact n1 (by rw [e]; rfl)
      · exact n2 (by rw [e]; rfl)
      · exact n3 (by rw [e]; rfl)
      · exact n4 (by rw [e]; rfl)
      · exact n5 (by rw [e]; rfl)
      · exact n6 (by rw [e]; rfl)
      · exact n7 (by rw [e]; rfl)
      · exact n8 (by rw [e]; rfl)
    · have h1 := qx_c190 (by omega) g hs1 hz h0
      clear h0
      rcases g with g | g
      · subst g
        repeat (first | refine br_f (by decide) ?_ | refine br_t (by decide) ?_)
        exact h1
      · subst g
        repeat (first | refine br_f (by decide) ?_ | refine br_t (by decide) ?_)
        exact h1
    · subst g
      have hs3 : s + 3 ≤ 18 := hs2
      have h1 : post (if z (s + 2) = 0 then z s else z (s + 1)) (f_tokens, f_length, f_fault, f_compiled, f_open, f_waits, f_ended, f_threads, f_arg, nI ph, f_races, f_ran, f_over, a_kind, a_value, a_op, a_slot, a_statement, a_number, a_openKind, a_openOut, a_openStart, a_isConstant, a_constant, a_at, a_slots, a_variables, a_steps, a_words, a_counters, a_added, a_own, a_ownPhase, a_storedPhase, a_readPhase, a_racePhase, a_storedBy, a_readBy, a_readByMore, a_doneCount) := h0
      have e1 : nI (32 * s + t) + 32 = nI (32 * (s + 1) + t) := by
        rw [show (nI (32 * s + t) + 32 : Int32) = nI (32 * s + t + 32) from nI_add (32 * s + t) 32]
        exact congrArg nI (by omega)
      have e2 : nI (32 * s + t) + 64 = nI (32 * (s + 2) + t) := by
        rw [show (nI (32 * s + t) + 64 : Int32) = nI (32 * s + t + 64) from nI_add (32 * s + t) 64]
        exact congrArg nI (by omega)
      have h2 := qz_if (post := fun x => post x (f_tokens, f_length, f_fault, f_compiled, f_open, f_waits, f_ended, f_threads, f_arg, nI ph, f_races, f_ran, f_over, a_kind, a_value, a_op, a_slot, a_statement, a_number, a_openKind, a_openOut, a_openStart, a_isConstant, a_constant, a_at, a_slots, a_variables, a_steps, a_words, a_counters, a_added, a_own, a_ownPhase, a_storedPhase, a_readPhase, a_racePhase, a_storedBy, a_readBy, a_readByMore, a_doneCount)) h1
      repeat (first | refine br_f (by decide) ?_ | refine br_t (by decide) ?_)
      rw [e1, e2, cs, nI_clamp (show 32 * (s + 1) + t < 2 ^ 31 by omega), nI_clamp (show 32 * (s + 2) + t < 2 ^ 31 by omega), hz s hs1, hz (s + 1) (by omega), hz (s + 2) (by omega)]
      exact ⟨vp_in_nI (by omega) (by decide), br_c (fun g => ⟨vs, h2.1 g⟩) (fun g => ⟨vp_in_nI (by omega) (by decide), h2.2 g⟩)⟩
end
section
variable {f_tokens f_length f_fault f_compiled f_open f_waits f_ended f_threads f_arg f_phase f_races f_ran f_over : Int32} {a_kind a_value a_op a_slot a_statement a_number a_openKind a_openOut a_openStart a_isConstant a_constant a_at a_slots a_variables a_steps a_words a_counters a_added a_own a_ownPhase a_storedPhase a_readPhase a_racePhase a_storedBy a_readBy a_readByMore a_doneCount : Nat → Int32} {n ph t : Nat} {g : Nat → qt_X} {d0 : Nat → Int32} {r0 : Int32} {o0 : Bool} {p o : Nat} {z : Nat → Int32} {c : qt_C}
/-- a statement's instruction -/
theorem qx_act {post : SX → Prop} (hn : n ≤ 32) (ht : t < n) (hph : ph < 512) (hp : p < 224) (hf : qt_fl c = 0) (hg : g t = (p + 1, z, c)) (ho : a_op p = nI o)
    (hv : (o = 0 ∧ qe_V6 (a_number p)) ∨ (o = 1 ∨ o = 2 ∨ o = 7 ∨ o = 8 ∨ o = 42) ∨ ((o = 40 ∨ o = 41) ∧ qc_to a_number 255 p))
    (hI : qx_I n ph g d0 r0 o0 a_words f_waits f_ended f_races f_over a_at a_slots a_variables a_steps a_added a_own a_ownPhase a_storedPhase a_readPhase a_racePhase a_storedBy a_readBy a_readByMore a_doneCount)
    (h : ∀ (f_waits f_ended f_races f_over : Int32) (a_at a_slots a_variables a_steps a_added a_own a_ownPhase a_storedPhase a_readPhase a_racePhase a_storedBy a_readBy a_readByMore a_doneCount : Nat → Int32), qx_I n ph (qx_G g t (qt_x2 a_op a_slot a_number a_counters f_threads f_arg t p z c)) d0 r0 o0 a_words f_waits f_ended f_races f_over a_at a_slots a_variables a_steps a_added a_own a_ownPhase a_storedPhase a_readPhase a_racePhase a_storedBy a_readBy a_readByMore a_doneCount → post (f_tokens, f_length, f_fault, f_compiled, f_open, f_waits, f_ended, f_threads, f_arg, nI ph, f_races, f_ran, f_over, a_kind, a_value, a_op, a_slot, a_statement, a_number, a_openKind, a_openOut, a_openStart, a_isConstant, a_constant, a_at, a_slots, a_variables, a_steps, a_words, a_counters, a_added, a_own, a_ownPhase, a_storedPhase, a_readPhase, a_racePhase, a_storedBy, a_readBy, a_readByMore, a_doneCount)) :
    wpX_act post (f_tokens, f_length, f_fault, f_compiled, f_open, f_waits, f_ended, f_threads, f_arg, nI ph, f_races, f_ran, f_over, a_kind, a_value, a_op, a_slot, a_statement, a_number, a_openKind, a_openOut, a_openStart, a_isConstant, a_constant, a_at, a_slots, a_variables, a_steps, a_words, a_counters, a_added, a_own, a_ownPhase, a_storedPhase, a_readPhase, a_racePhase, a_storedBy, a_readBy, a_readByMore, a_doneCount) (nI t) (nI p) (nI o) := by
  have vp : vp_in (nI p) 224 := vp_in_nI hp (by decide)
  have cp : (nI p).toNatClampNeg = p := nI_clamp (by omega)
  have vt : vp_in (nI t) 32 := vp_in_nI (by omega) (by decide)
  have ct : (nI t).toNatClampNeg = t := nI_clamp (by omega)
  have e32 : (32 : Int32) + nI t = nI (32 + t) := nI_add 32 t
  obtain ⟨⟨a1, a2, a3, a4, a5, a6⟩, b⟩ := hI.1 t ht
  rw [hg] at a1 a2 a3 a4 a5 a6 b
  have s0 : a_slots t = z 0 := by
    have := a2 0 (by decide)
    rwa [show 32 * 0 + t = t by omega] at this
  have s1 : a_slots (32 + t) = z 1 := by
    have := a2 1 (by decide)
    rwa [show 32 * 1 + t = 32 + t by omega] at this
  have eo : (a_op p).toNatClampNeg = o := by
    rw [ho]
    exact nI_clamp (by omega)
  unfold wpX_act
  dsimp only
  rw [e32, ct, cp, nI_clamp (show 32 + t < 2 ^ 31 by omega)]
  refine ⟨vp_in_nI (by omega) (by decide), nm_r s0 ⟨vp_in_nI (by omega) (by decide), nm_r s1 ?_⟩⟩
  unfold qt_x2 at h
  rw [eo] at h
  rcases hv with ⟨rfl, v, v1, v2⟩ | hv | ⟨hv, x, x1, x2⟩
  · have ev : (32 : Int32) * a_number p + nI t = nI (32 * v + t) := by
      rw [v2]
      exact qz_lin 32 v t
    rw [if_neg (by decide), if_pos rfl, v2, nI_clamp (by omega)] at h
    refine br_t (by decide) ⟨vp, ?_⟩
    rw [ev, nI_clamp (show 32 * v + t < 2 ^ 31 by omega)]
    exact ⟨vp_in_nI (by omega) (by decide), nm_e (h _ _ _ _ _ _ _ _ _ _ _ _ _ _ _ _ _ _ (qx_varI hn ht v1 hg hI))⟩
  · rcases hv with rfl | rfl | rfl | rfl | rfl
    · rw [if_neg (by decide), if_neg (by decide), if_pos rfl] at h
      refine br_f (by decide) (br_t (by decide) ?_)
      rw [(qz_wE (z 0)).2]
      refine qx_store hn ht (qz_wE (z 0)).1 hph hI.2.2.1 ?_
      intro f_races a_storedPhase a_storedBy a_racePhase gM
      exact h _ _ _ _ _ _ _ _ _ _ _ _ _ _ _ _ _ _ (qx_swI hn ht (qz_wE (z 0)).1 hg hI gM)
    · rw [if_neg (by decide), if_neg (by decide), if_neg (by decide), if_pos rfl] at h
      have hw := (qz_wE (z 0)).1
      refine br_f (by decide) (br_f (by decide) (br_t (by decide) ?_))
      rw [(qz_wE (z 0)).2, nI_clamp (show qz_w (z 0) < 2 ^ 31 by omega)]
      exact ⟨vp_in_nI hw (by decide), vp_in_nI hw (by decide), nm_e (h _ _ _ _ _ _ _ _ _ _ _ _ _ _ _ _ _ _ (qx_addI hn ht hw hg hI))⟩
    · rw [if_neg (by decide), if_neg (by decide), if_neg (by decide), if_neg (by decide), if_pos rfl] at h
      refine br_f (by decide) (br_f (by decide) (br_f (by decide) (br_t (by decide) ?_)))
      exact nm_e (h _ _ _ _ _ _ _ _ _ _ _ _ _ _ _ _ _ _ (qx_waitI hn ht hf hg hI))
    · rw [if_neg (by decide), if_neg (by decide), if_neg (by decide), if_neg (by decide), if_neg (by decide), if_neg (by decide), if_neg (by decide)] at h
      refine br_f (by decide) (br_f (by decide) (br_f (by decide) (br_f (by decide) (br_f (by decide) (br_f (by decide) ?_)))))
      unfold wpX_end
      dsimp only
      exact nm_e (nm_e (h _ _ _ _ _ _ _ _ _ _ _ _ _ _ _ _ _ _ (qx_endI hn ht hg hI)))
    · rw [if_neg (by decide), if_neg (by decide), if_neg (by decide), if_neg (by decide), if_neg (by decide), if_neg (by decide), if_neg (by decide)] at h
      refine br_f (by decide) (br_f (by decide) (br_f (by decide) (br_f (by decide) (br_f (by decide) (br_f (by decide) ?_)))))
      unfold wpX_end
      dsimp only
      exact nm_e (nm_e (h _ _ _ _ _ _ _ _ _ _ _ _ _ _ _ _ _ _ (qx_endI hn ht hg hI)))
  · rcases hv with rfl | rfl
    · rw [if_neg (by decide), if_neg (by decide), if_neg (by decide), if_neg (by decide), if_neg (by decide), if_pos rfl, x2, nI_clamp (by omega)] at h
      refine br_f (by decide) (br_f (by decide) (br_f (by decide) (br_f (by decide) (br_t (by decide) ⟨vp, vt, nm_r (e' := upd a_at t (nI x)) (by rw [x2, qz_short (by omega)]) ?_⟩))))
      exact h _ _ _ _ _ _ _ _ _ _ _ _ _ _ _ _ _ _ (qx_advI hg hI)
    · rw [if_neg (by decide), if_neg (by decide), if_neg (by decide), if_neg (by decide), if_neg (by decide), if_neg (by decide), if_pos rfl, x2, nI_clamp (by omega)] at h
      refine br_f (by decide) (br_f (by decide) (br_f (by decide) (br_f (by decide) (br_f (by decide) (br_t (by decide) (br_c (fun gz => ⟨vp, vt, nm_r (e' := upd a_at t (nI x)) (by rw [x2, qz_short (by omega)]) ?_⟩) (fun gz => ?_)))))))
      · rw [if_pos gz] at h
        exact h _ _ _ _ _ _ _ _ _ _ _ _ _ _ _ _ _ _ (qx_advI hg hI)
      · rw [if_neg gz] at h
        have hI2 := hI
        rw [← qx_Gid hg] at hI2
        exact h _ _ _ _ _ _ _ _ _ _ _ _ _ _ _ _ _ _ hI2
/-- behind the count -/
theorem qx_s76 {post : SX → Prop} {L : Nat} (hn : n ≤ 32) (ht : t < n) (hph : ph < 512) (hL : L ≤ 128) (hp : p ≤ L) (hf : qt_fl c = 0) (hg : g t = (p, z, c)) (hop : a_op p = nI o) (hoo : o < 64)
    (hv : (p < L ∧ qc_V a_op a_slot a_statement a_number L p) ∨ o = 42)
    (hI : qx_I n ph g d0 r0 o0 a_words f_waits f_ended f_races f_over a_at a_slots a_variables a_steps a_added a_own a_ownPhase a_storedPhase a_readPhase a_racePhase a_storedBy a_readBy a_readByMore a_doneCount)
    (h : ∀ (f_waits f_ended f_races f_over : Int32) (a_at a_slots a_variables a_steps a_added a_own a_ownPhase a_storedPhase a_readPhase a_racePhase a_storedBy a_readBy a_readByMore a_doneCount : Nat → Int32), qx_I n ph (qx_G g t (qt_x2 a_op a_slot a_number a_counters f_threads f_arg t p z c)) d0 r0 o0 a_words f_waits f_ended f_races f_over a_at a_slots a_variables a_steps a_added a_own a_ownPhase a_storedPhase a_readPhase a_racePhase a_storedBy a_readBy a_readByMore a_doneCount → post (f_tokens, f_length, f_fault, f_compiled, f_open, f_waits, f_ended, f_threads, f_arg, nI ph, f_races, f_ran, f_over, a_kind, a_value, a_op, a_slot, a_statement, a_number, a_openKind, a_openOut, a_openStart, a_isConstant, a_constant, a_at, a_slots, a_variables, a_steps, a_words, a_counters, a_added, a_own, a_ownPhase, a_storedPhase, a_readPhase, a_racePhase, a_storedBy, a_readBy, a_readByMore, a_doneCount)) :
    wX_step_76 post (nI t) (nI p) (nI o) f_tokens f_length f_fault f_compiled f_open f_waits f_ended f_threads f_arg (nI ph) f_races f_ran f_over a_kind a_value a_op a_slot a_statement a_number a_openKind a_openOut a_openStart a_isConstant a_constant a_at a_slots a_variables a_steps a_words a_counters a_added a_own a_ownPhase a_storedPhase a_readPhase a_racePhase a_storedBy a_readBy a_readByMore a_doneCount := by
  have vp : vp_in (nI p) 224 := vp_in_nI (by omega) (by decide)
  have cp : (nI p).toNatClampNeg = p := nI_clamp (by omega)
  have vt : vp_in (nI t) 32 := vp_in_nI (by omega) (by decide)
  have ct : (nI t).toNatClampNeg = t := nI_clamp (by omega)
  obtain ⟨⟨a1, a2, a3, a4, a5, a6⟩, b⟩ := hI.1 t ht
  rw [hg] at a1 a2 a3 a4 a5 a6 b
  have hI2 := qx_advI (p' := p + 1) hg hI
  have hg2 : qx_G g t (p + 1, z, c) t = (p + 1, z, c) := qx_Gs
  unfold wX_step_76
  refine ⟨vt, vt, nm_r (e' := upd a_at t (nI (p + 1))) ?_ ?_⟩
  · rw [ct, a1]
    dsimp only
    rw [nI_1, qz_short (by omega)]
  have hact : (o = 0 ∧ qe_V6 (a_number p)) ∨ (o = 1 ∨ o = 2 ∨ o = 7 ∨ o = 8 ∨ o = 42) ∨ ((o = 40 ∨ o = 41) ∧ qc_to a_number 255 p) → wX_step_126 post (nI t) (nI p) (nI o) f_tokens f_length f_fault f_compiled f_open f_waits f_ended f_threads f_arg (nI ph) f_races f_ran f_over a_kind a_value a_op a_slot a_statement a_number a_openKind a_openOut a_openStart a_isConstant a_constant (upd a_at t (nI (p + 1))) a_slots a_variables a_steps a_words a_counters a_added a_own a_ownPhase a_storedPhase a_readPhase a_racePhase a_storedBy a_readBy a_readByMore a_doneCount := by
    intro hh
    unfold wX_step_126
    refine qx_act hn ht hph (by omega) hf hg2 hop hh hI2 ?_
    intro f_waits f_ended f_races f_over a_at a_slots a_variables a_steps a_added a_own a_ownPhase a_storedPhase a_readPhase a_racePhase a_storedBy a_readBy a_readByMore a_doneCount g3
    rw [qx_GG] at g3
    exact h _ _ _ _ _ _ _ _ _ _ _ _ _ _ _ _ _ _ g3
  have hto : qc_to a_number L p → qc_to a_number 255 p := fun ⟨x, x1, x2⟩ => ⟨x, by omega, x2⟩
  have heq : ∀ k, a_op p = nI k → k < 64 → o = k := by
    intro k e hk
    rw [hop] at e
    exact (nI_eq (by omega) (by omega)).mp e
  rcases hv with ⟨_, hv | hv | hv | hv | hv⟩ | hv
  · obtain ⟨k, s, k1, k2, k3, k4, k5, k6, k7, k8, k9⟩ := hv
    have ek := heq k k1 (by omega)
    subst ek
    refine br_f (nI_nlt (b := 10) (by omega) (by omega)) (br_f (nI_nlt (a := 31) (by omega) (by decide)) ⟨vp, ?_⟩)
    refine qx_calc hn ht hph (by omega) hop k2 k3 k4 k5 k6 k7 k8 a2 a3 b hI2.2.2.1 ?_
    intro f_races a_readPhase a_readBy a_readByMore a_racePhase gM
    have es : (32 : Int32) * a_slot p + nI t = nI (32 * s + t) := by
      rw [k2]
      exact qz_lin 32 s t
    rw [cp, es, nI_clamp (show 32 * s + t < 2 ^ 31 by omega)]
    refine ⟨vp_in_nI (by omega) (by decide), nm_e ?_⟩
    have g3 := qx_slotI (k := s) (v := qe_v (qt_env a_counters f_threads f_arg t c) o (a_number p) (z (s + qe_ar o - 1)) (z (s + qe_ar o - 2)) (z (s + qe_ar o - 3))) hn ht k6 hg2 hI2 gM
    rw [qx_GG] at g3
    refine h _ _ _ _ _ _ _ _ _ _ _ _ _ _ _ _ _ _ ?_
    unfold qt_x2
    rw [hop, k2, nI_clamp (by omega), nI_clamp (by omega), if_pos ⟨k3, k4⟩]
    unfold qe_i
    rw [hg2] at g3
    exact g3
  · have e := heq 0 hv.1 (by decide)
    subst e
    exact br_t (by decide) (hact (Or.inl ⟨rfl, hv.2.1⟩))
  · rcases hv.1 with e | e | e | e
    · have e := heq 1 e (by decide)
      subst e
      exact br_t (by decide) (hact (Or.inr (Or.inl (by omega))))
    · have e := heq 2 e (by decide)
      subst e
      exact br_t (by decide) (hact (Or.inr (Or.inl (by omega))))
    · have e := heq 7 e (by decide)
      subst e
      exact br_t (by decide) (hact (Or.inr (Or.inl (by omega))))
    · have e := heq 8 e (by decide)
      subst e
      exact br_t (by decide) (hact (Or.inr (Or.inl (by omega))))
  · have e := heq 41 hv.1 (by decide)
    subst e
    exact br_f (by decide) (br_t (by decide) (hact (Or.inr (Or.inr ⟨Or.inr rfl, hto hv.2.2⟩))))
  · have e := heq 40 hv.1 (by decide)
    subst e
    exact br_f (by decide) (br_t (by decide) (hact (Or.inr (Or.inr ⟨Or.inl rfl, hto hv.2.2⟩))))
  · subst hv
    exact br_f (by decide) (br_t (by decide) (hact (Or.inr (Or.inl (by omega)))))
end
end
section
/-! the component's step and together -/
section
variable {N : Nat} {K : Nat → Nat} {V : Nat → Int32} {P Q e1 e2 tg : Nat → Nat} {B : Nat → Prop} {f_tokens f_length f_fault f_compiled f_open f_waits f_ended f_threads f_arg f_phase f_races f_ran f_over : Int32} {a_kind a_value a_op a_slot a_statement a_number a_openKind a_openOut a_openStart a_isConstant a_constant a_at a_slots a_variables a_steps a_words a_counters a_added a_own a_ownPhase a_storedPhase a_readPhase a_racePhase a_storedBy a_readBy a_readByMore a_doneCount : Nat → Int32} {n ph t : Nat} {g : Nat → qt_X} {d0 : Nat → Int32} {r0 : Int32} {o0 : Bool} {p : Nat} {z : Nat → Int32} {c : qt_C}
theorem qx_step {post : SX → Prop} (hC : qc_CODE N K V a_op a_slot a_statement a_number P Q e1 e2 tg B) (hn : n ≤ 32) (ht : t < n) (hph : ph < 512) (hox : qt_ox (P N) (p, z, c)) (hf : qt_fl c = 0) (hg : g t = (p, z, c))
    (hI : qx_I n ph g d0 r0 o0 a_words f_waits f_ended f_races f_over a_at a_slots a_variables a_steps a_added a_own a_ownPhase a_storedPhase a_readPhase a_racePhase a_storedBy a_readBy a_readByMore a_doneCount)
    (h : ∀ (f_waits f_ended f_races f_over : Int32) (a_at a_slots a_variables a_steps a_added a_own a_ownPhase a_storedPhase a_readPhase a_racePhase a_storedBy a_readBy a_readByMore a_doneCount : Nat → Int32), qx_I n ph (qx_G g t (qt_x a_op a_slot a_statement a_number a_counters f_threads f_arg t (p, z, c))) d0 r0 o0 a_words f_waits f_ended f_races f_over a_at a_slots a_variables a_steps a_added a_own a_ownPhase a_storedPhase a_readPhase a_racePhase a_storedBy a_readBy a_readByMore a_doneCount → post (f_tokens, f_length, f_fault, f_compiled, f_open, f_waits, f_ended, f_threads, f_arg, nI ph, f_races, f_ran, f_over, a_kind, a_value, a_op, a_slot, a_statement, a_number, a_openKind, a_openOut, a_openStart, a_isConstant, a_constant, a_at, a_slots, a_variables, a_steps, a_words, a_counters, a_added, a_own, a_ownPhase, a_storedPhase, a_readPhase, a_racePhase, a_storedBy, a_readBy, a_readByMore, a_doneCount)) :
    wpX_step post (f_tokens, f_length, f_fault, f_compiled, f_open, f_waits, f_ended, f_threads, f_arg, nI ph, f_races, f_ran, f_over, a_kind, a_value, a_op, a_slot, a_statement, a_number, a_openKind, a_openOut, a_openStart, a_isConstant, a_constant, a_at, a_slots, a_variables, a_steps, a_words, a_counters, a_added, a_own, a_ownPhase, a_storedPhase, a_readPhase, a_racePhase, a_storedBy, a_readBy, a_readByMore, a_doneCount) (nI t) (nI p) := by
  obtain ⟨c1, c2, c3, c4, c5, c6, c7, c8, c9, c10⟩ := hC
  obtain ⟨x1, x2, x3, x4⟩ := hox
  have hp : p ≤ P N := x2 hf
  obtain ⟨o, hop, hoo, hv, hst⟩ : ∃ o, a_op p = nI o ∧ o < 64 ∧ ((p < P N ∧ qc_V a_op a_slot a_statement a_number (P N) p) ∨ o = 42) ∧ (a_statement p = -1 ∨ qc_st a_statement p) := by
    by_cases hpN : p = P N
    · exact ⟨42, by rw [hpN]; exact c7, by decide, Or.inr rfl, Or.inl (by rw [hpN]; exact c8)⟩
    · have hv := c10 p (by omega)
      have hv' := hv
      rcases hv with ⟨k, s, k1, k2, k3, k4, k5, k6, k7, k8, k9⟩ | v | ⟨v | v | v | v, w⟩ | v | v
      · exact ⟨k, k1, by omega, Or.inl ⟨by omega, hv'⟩, Or.inl k9⟩
      · exact ⟨0, v.1, by decide, Or.inl ⟨by omega, hv'⟩, Or.inr v.2.2⟩
      · exact ⟨1, v, by decide, Or.inl ⟨by omega, hv'⟩, Or.inr w⟩
      · exact ⟨2, v, by decide, Or.inl ⟨by omega, hv'⟩, Or.inr w⟩
      · exact ⟨7, v, by decide, Or.inl ⟨by omega, hv'⟩, Or.inr w⟩
      · exact ⟨8, v, by decide, Or.inl ⟨by omega, hv'⟩, Or.inr w⟩
      · exact ⟨41, v.1, by decide, Or.inl ⟨by omega, hv'⟩, Or.inr v.2.1⟩
      · exact ⟨40, v.1, by decide, Or.inl ⟨by omega, hv'⟩, Or.inl v.2.1⟩
  have co : (a_op p).toNatClampNeg = o := by rw [hop]; exact nI_clamp (by omega)
  have vp : vp_in (nI p) 224 := vp_in_nI (by omega) (by decide)
  have cp : (nI p).toNatClampNeg = p := nI_clamp (by omega)
  have vt : vp_in (nI t) 32 := vp_in_nI (by omega) (by decide)
  have ct : (nI t).toNatClampNeg = t := nI_clamp (by omega)
  obtain ⟨⟨a1, a2, a3, a4, a5, a6⟩, b⟩ := hI.1 t ht
  rw [hg] at a4
  have x3' : qt_sp c ≤ 300 := x3
  have hs52 : ¬ (qt_sp c = 300 ∧ o ≠ 40 ∧ o ≠ 42) → wX_step_52 post (nI t) (nI p) (a_statement p) (nI o) f_tokens f_length f_fault f_compiled f_open f_waits f_ended f_threads f_arg (nI ph) f_races f_ran f_over a_kind a_value a_op a_slot a_statement a_number a_openKind a_openOut a_openStart a_isConstant a_constant a_at a_slots a_variables a_steps a_words a_counters a_added a_own a_ownPhase a_storedPhase a_readPhase a_racePhase a_storedBy a_readBy a_readByMore a_doneCount := by
    intro hs
    have hgo := qt_x_go (op := a_op) (sl := a_slot) (st := a_statement) (nu := a_number) (ct := a_counters) (tn := f_threads) (ag := f_arg) (t := t) (p := p) (s := z) (c := c) hf (by rw [co]; exact hs)
    rw [hgo] at h
    unfold wX_step_52
    rcases hst with hst | ⟨j, j1, j2⟩
    · rw [qt_stm hst] at h
      refine br_t (by rw [hst]; decide) ?_
      exact qx_s76 hn ht hph c9 hp hf hg hop hoo hv hI h
    · rw [qt_st j1 j2] at h
      rw [j2]
      have vj : vp_in (nI j) 64 := vp_in_nI j1 (by decide)
      refine br_f (nI_pos (by omega)) ⟨vt, vt, nm_r (e' := upd a_steps t (nI (qt_sp c + 1))) (by rw [ct, a4, nI_1]) ⟨vj, vj, nm_r (e' := upd a_doneCount j (a_doneCount j + 1)) (by rw [nI_clamp (show j < 2 ^ 31 by omega)]) ?_⟩⟩
      refine qx_s76 (c := qt_cnt c j) hn ht hph c9 hp hf qx_Gs hop hoo hv (qx_cntI hn ht j1 hg hI) ?_
      intro f_waits f_ended f_races f_over a_at a_slots a_variables a_steps a_added a_own a_ownPhase a_storedPhase a_readPhase a_racePhase a_storedBy a_readBy a_readByMore a_doneCount g3
      rw [qx_GG] at g3
      exact h _ _ _ _ _ _ _ _ _ _ _ _ _ _ _ _ _ _ g3
  unfold wpX_step
  dsimp only
  rw [cp, ct, a4]
  refine ⟨vp, nm_e ⟨vp, nm_r hop ⟨vt, ?_⟩⟩⟩
  dsimp only
  by_cases h300 : qt_sp c = 300
  · refine br_t (by rw [h300]; rfl) ?_
    by_cases h40 : o = 40
    · exact br_t (by rw [h40]; rfl) (hs52 (fun w => w.2.1 h40))
    · refine br_f (qz_ne (b := 40) h40 (by omega) (by decide)) ?_
      by_cases h42 : o = 42
      · exact br_t (by rw [h42]; rfl) (hs52 (fun w => w.2.2 h42))
      · refine br_f (qz_ne (b := 42) h42 (by omega) (by decide)) ?_
        have e : qt_x a_op a_slot a_statement a_number a_counters f_threads f_arg t (p, z, c) = (p, z, qt_over c) := by
          unfold qt_x
          rw [if_neg (by dsimp only; omega), if_pos (by dsimp only; rw [co]; exact ⟨h300, h40, h42⟩)]
        rw [e] at h
        unfold wpX_end
        dsimp only
        exact nm_e (nm_e (h _ _ _ _ _ _ _ _ _ _ _ _ _ _ _ _ _ _ (qx_overI hn ht hg hI)))
  · exact br_f (qz_ne (b := 300) h300 (by omega) (by decide)) (hs52 (fun w => h300 w.1))
end
/-- sums of counts -/
def qz_ns (f : Nat → Nat) : Nat → Nat
  | 0 => 0
  | n + 1 => qz_ns f n + f n
theorem qz_ns_ext {f g : Nat → Nat} : ∀ n, (∀ t, t < n → f t = g t) → qz_ns f n = qz_ns g n
  | 0, _ => rfl
  | n + 1, h => by
    unfold qz_ns
    rw [qz_ns_ext n (fun t ht => h t (by omega)), h n (by omega)]
theorem qz_ns_dec {f g : Nat → Nat} {t : Nat} : ∀ n, t < n → (∀ s, s ≠ t → g s = f s) → f t = g t + 1 → qz_ns f n = qz_ns g n + 1
  | 0, h, _, _ => absurd h (by omega)
  | n + 1, h, hs, ht => by
    unfold qz_ns
    by_cases e : t = n
    · subst e
      rw [qz_ns_ext t (fun s hs' => hs s (by omega)), ht]
      omega
    · rw [qz_ns_dec n (by omega) hs ht, hs n (by omega)]
      omega
/-- every thread still comes to its end of the phase -/
def qx_J (n L : Nat) (op sl st nu ct : Nat → Int32) (tn ag : Int32) (fin : Nat → qt_X) (g : Nat → qt_X) (ks : Nat → Nat) : Prop :=
  ∀ t, t < n → qt_ox L (g t) ∧ qt_xn op sl st nu ct tn ag t (ks t) (g t) = fin t ∧ qt_fl (fin t).2.2 ≠ 0
section
variable {N : Nat} {K : Nat → Nat} {V : Nat → Int32} {P Q e1 e2 tg : Nat → Nat} {B : Nat → Prop} {op sl st nu ct : Nat → Int32} {tn ag : Int32} {n ph f e : Nat} {d0 w : Nat → Int32} {r0 : Int32} {o0 : Bool} {fin : Nat → qt_X}
theorem qx_J_step {g : Nat → qt_X} {ks : Nat → Nat} {t : Nat} (hC : qc_CODE N K V op sl st nu P Q e1 e2 tg B) (ht : t < n) (hf : qt_fl (g t).2.2 = 0) (hJ : qx_J n (P N) op sl st nu ct tn ag fin g ks) :
    qx_J n (P N) op sl st nu ct tn ag fin (qx_G g t (qt_x op sl st nu ct tn ag t (g t))) (qc_set ks t (ks t - 1)) ∧ qz_ns ks n = qz_ns (qc_set ks t (ks t - 1)) n + 1 := by
  have h0 : ks t ≠ 0 := by
    intro z
    obtain ⟨_, h2, h3⟩ := hJ t ht
    rw [z] at h2
    rw [← h2] at h3
    exact h3 hf
  refine ⟨fun x hx => ?_, qz_ns_dec n ht (fun s hs => qc_set_n hs) (by rw [qc_set_s]; omega)⟩
  obtain ⟨h1, h2, h3⟩ := hJ x hx
  by_cases ex : x = t
  · subst ex
    rw [qx_Gs, qc_set_s]
    refine ⟨qt_x_ox hC h1, ?_, h3⟩
    rw [← h2]
    obtain ⟨m, hm⟩ : ∃ m, ks x = m + 1 := ⟨ks x - 1, by omega⟩
    rw [hm]
    rfl
  · rw [qx_Gn ex, qc_set_n ex]
    exact ⟨h1, h2, h3⟩
variable {f_tokens f_length f_fault f_compiled f_open f_ran : Int32} {a_kind a_value a_openKind a_openOut a_openStart a_isConstant a_constant : Nat → Int32}
/-- which instruction is next -/
theorem qx_t11 {post : SX → Prop} {J2 : Int32 → Int32 → Int32 → Int32 → Int32 → Int32 → Int32 → Int32 → Int32 → Int32 → Int32 → Int32 → Int32 → Int32 → (Nat → Int32) → (Nat → Int32) → (Nat → Int32) → (Nat → Int32) → (Nat → Int32) → (Nat → Int32) → (Nat → Int32) → (Nat → Int32) → (Nat → Int32) → (Nat → Int32) → (Nat → Int32) → (Nat → Int32) → (Nat → Int32) → (Nat → Int32) → (Nat → Int32) → (Nat → Int32) → (Nat → Int32) → (Nat → Int32) → (Nat → Int32) → (Nat → Int32) → (Nat → Int32) → (Nat → Int32) → (Nat → Int32) → (Nat → Int32) → (Nat → Int32) → (Nat → Int32) → (Nat → Int32) → Prop} {g : Nat → qt_X} (f_waits f_ended f_races f_over : Int32) (a_at a_slots a_variables a_steps a_added a_own a_ownPhase a_storedPhase a_readPhase a_racePhase a_storedBy a_readBy a_readByMore a_doneCount : Nat → Int32)
    (hn : n ≤ 32) (he : e ≤ n) (hI : qx_I n ph g d0 r0 o0 w f_waits f_ended f_races f_over a_at a_slots a_variables a_steps a_added a_own a_ownPhase a_storedPhase a_readPhase a_racePhase a_storedBy a_readBy a_readByMore a_doneCount) (hL : ∀ t, t < n → (g t).1 < 512)
    (h1 : (∀ s, f ≤ s → s < e → qt_fl (g s).2.2 ≠ 0) → ∃ n61 : Nat, wX_together_61 post J2 (nI f) (nI e) (-1) n61 (nI f) f_tokens f_length f_fault f_compiled f_open f_waits f_ended tn ag (nI ph) f_races f_ran f_over a_kind a_value op sl st nu a_openKind a_openOut a_openStart a_isConstant a_constant a_at a_slots a_variables a_steps w ct a_added a_own a_ownPhase a_storedPhase a_readPhase a_racePhase a_storedBy a_readBy a_readByMore a_doneCount)
    (h2 : ∀ s, f ≤ s → s < e → qt_fl (g s).2.2 = 0 → ∃ n61 : Nat, wX_together_61 post J2 (nI f) (nI e) (nI (g s).1) n61 (nI f) f_tokens f_length f_fault f_compiled f_open f_waits f_ended tn ag (nI ph) f_races f_ran f_over a_kind a_value op sl st nu a_openKind a_openOut a_openStart a_isConstant a_constant a_at a_slots a_variables a_steps w ct a_added a_own a_ownPhase a_storedPhase a_readPhase a_racePhase a_storedBy a_readBy a_readByMore a_doneCount) (r : Nat) :
    ∀ {x m : Nat} {x3 : Int32}, x + r = e → r < m → ((x3 = -1 ∧ ∀ s, f ≤ s → s < x → qt_fl (g s).2.2 ≠ 0) ∨ ∃ s, f ≤ s ∧ s < x ∧ qt_fl (g s).2.2 = 0 ∧ x3 = nI (g s).1) → f ≤ x → wX_together_11 post J2 (nI f) (nI e) f_tokens f_length f_fault f_compiled f_open f_waits f_ended tn ag (nI ph) f_races f_ran f_over a_kind a_value op sl st nu a_openKind a_openOut a_openStart a_isConstant a_constant a_at a_slots a_variables a_steps w ct a_added a_own a_ownPhase a_storedPhase a_readPhase a_racePhase a_storedBy a_readBy a_readByMore a_doneCount m x3 (nI x) := by
  induction r with
  | zero =>
    intro x m x3 hx hm hi hfx
    obtain ⟨q, rfl⟩ : ∃ q, m = q + 1 := ⟨m - 1, by omega⟩
    have exe : x = e := by omega
    subst exe
    unfold wX_together_11
    refine br_t (nI_le (by omega) (by omega)) ?_
    rcases hi with ⟨i1, i2⟩ | ⟨s, i1, i2, i3, i4⟩
    · rw [i1]
      exact h1 i2
    · rw [i4]
      exact h2 s i1 i2 i3
  | succ r ih =>
    intro x m x3 hx hm hi hfx
    obtain ⟨q, rfl⟩ : ∃ q, m = q + 1 := ⟨m - 1, by omega⟩
    obtain ⟨⟨a1, a2, a3, a4, a5, a6⟩, b⟩ := hI.1 x (by omega)
    have vx : vp_in (nI x) 32 := vp_in_nI (by omega) (by decide)
    have cx : (nI x).toNatClampNeg = x := nI_clamp (by omega)
    have hgx := hL x (by omega)
    unfold wX_together_11
    refine br_f (nI_ge (by omega) (by omega)) ?_
    by_cases hf : qt_fl (g x).2.2 = 0
    · have hw : (f_waits >>> (nI x &&& 31)) &&& 1 = 0 := by
        rw [qz_tb0 (by omega), a5, hf]
        rfl
      refine br_t hw ?_
      rcases hi with ⟨i1, i2⟩ | ⟨s, i1, i2, i3, i4⟩
      · refine br_t (by rw [i1]; decide) ⟨vx, nm_r (e' := nI (g x).1) (by rw [cx]; exact a1) (nm_r (nI_1 x) ?_)⟩
        exact ih (by omega) (by omega) (Or.inr ⟨x, hfx, by omega, hf, rfl⟩) (by omega)
      · have hgs := hL s (by omega)
        refine br_f (by rw [i4]; exact nI_pos (by omega)) ⟨vx, br_c (fun _ => nm_r (nI_1 x) ?_) (fun _ => ⟨vx, nm_r (e' := nI (g x).1) (by rw [cx]; exact a1) (nm_r (nI_1 x) ?_)⟩)⟩
        · exact ih (by omega) (by omega) (Or.inr ⟨s, i1, by omega, i3, i4⟩) (by omega)
        · exact ih (by omega) (by omega) (Or.inr ⟨x, hfx, by omega, hf, rfl⟩) (by omega)
    · have hw : ¬ (f_waits >>> (nI x &&& 31)) &&& 1 = 0 := by
        rw [qz_tb0 (by omega), a5, decide_eq_true hf]
        decide
      refine br_f hw (nm_r (nI_1 x) ?_)
      refine ih (by omega) (by omega) ?_ (by omega)
      rcases hi with ⟨i1, i2⟩ | ⟨s, i1, i2, i3, i4⟩
      · left
        refine ⟨i1, fun s h3 h4 => ?_⟩
        by_cases es : s = x
        · rw [es]; exact hf
        · exact i2 s h3 (by omega)
      · exact Or.inr ⟨s, i1, by omega, i3, i4⟩
/-- those that stand there do it -/
theorem qx_t61 {post : SX → Prop} {g0 : Nat → qt_X} {M l s0 m2 : Nat} (hC : qc_CODE N K V op sl st nu P Q e1 e2 tg B) (hn : n ≤ 32) (he : e ≤ n) (hph : ph < 512) (hl : l < 512) (hs0 : s0 < e)
    (hE : ∀ (f_waits f_ended f_races f_over : Int32) (a_at a_slots a_variables a_steps a_added a_own a_ownPhase a_storedPhase a_readPhase a_racePhase a_storedBy a_readBy a_readByMore a_doneCount : Nat → Int32) (g : Nat → qt_X) (ks : Nat → Nat), qx_I n ph g d0 r0 o0 w f_waits f_ended f_races f_over a_at a_slots a_variables a_steps a_added a_own a_ownPhase a_storedPhase a_readPhase a_racePhase a_storedBy a_readBy a_readByMore a_doneCount → qx_J n (P N) op sl st nu ct tn ag fin g ks → (∀ t, (t < f ∨ e ≤ t) → g t = g0 t) → qz_ns ks n < M → wX_together_2 post (nI f) (nI e) m2 (nI l) f_tokens f_length f_fault f_compiled f_open f_waits f_ended tn ag (nI ph) f_races f_ran f_over a_kind a_value op sl st nu a_openKind a_openOut a_openStart a_isConstant a_constant a_at a_slots a_variables a_steps w ct a_added a_own a_ownPhase a_storedPhase a_readPhase a_racePhase a_storedBy a_readBy a_readByMore a_doneCount) (r : Nat) :
    ∀ (f_waits f_ended f_races f_over : Int32) (a_at a_slots a_variables a_steps a_added a_own a_ownPhase a_storedPhase a_readPhase a_racePhase a_storedBy a_readBy a_readByMore a_doneCount : Nat → Int32) {g : Nat → qt_X} {ks : Nat → Nat} {x m : Nat}, x + r = e → r < m → f ≤ x → qx_I n ph g d0 r0 o0 w f_waits f_ended f_races f_over a_at a_slots a_variables a_steps a_added a_own a_ownPhase a_storedPhase a_readPhase a_racePhase a_storedBy a_readBy a_readByMore a_doneCount → qx_J n (P N) op sl st nu ct tn ag fin g ks → (∀ t, (t < f ∨ e ≤ t) → g t = g0 t) →
      (qz_ns ks n < M ∨ (qz_ns ks n ≤ M ∧ x ≤ s0 ∧ qt_fl (g s0).2.2 = 0 ∧ (g s0).1 = l)) →
      wX_together_61 post (wX_together_2 post (nI f) (nI e) m2) (nI f) (nI e) (nI l) m (nI x) f_tokens f_length f_fault f_compiled f_open f_waits f_ended tn ag (nI ph) f_races f_ran f_over a_kind a_value op sl st nu a_openKind a_openOut a_openStart a_isConstant a_constant a_at a_slots a_variables a_steps w ct a_added a_own a_ownPhase a_storedPhase a_readPhase a_racePhase a_storedBy a_readBy a_readByMore a_doneCount := by
  induction r with
  | zero =>
    intro f_waits f_ended f_races f_over a_at a_slots a_variables a_steps a_added a_own a_ownPhase a_storedPhase a_readPhase a_racePhase a_storedBy a_readBy a_readByMore a_doneCount g ks x m hx hm hfx hI hJ hfr hd
    obtain ⟨q, rfl⟩ : ∃ q, m = q + 1 := ⟨m - 1, by omega⟩
    unfold wX_together_61
    refine br_t (nI_le (by omega) (by omega)) ?_
    refine hE _ _ _ _ _ _ _ _ _ _ _ _ _ _ _ _ _ _ g ks hI hJ hfr ?_
    rcases hd with h | h
    · exact h
    · omega
  | succ r ih =>
    intro f_waits f_ended f_races f_over a_at a_slots a_variables a_steps a_added a_own a_ownPhase a_storedPhase a_readPhase a_racePhase a_storedBy a_readBy a_readByMore a_doneCount g ks x m hx hm hfx hI hJ hfr hd
    obtain ⟨q, rfl⟩ : ∃ q, m = q + 1 := ⟨m - 1, by omega⟩
    obtain ⟨⟨a1, a2, a3, a4, a5, a6⟩, b⟩ := hI.1 x (by omega)
    have vx : vp_in (nI x) 32 := vp_in_nI (by omega) (by decide)
    have cx : (nI x).toNatClampNeg = x := nI_clamp (by omega)
    have hox := (hJ x (by omega)).1
    have h9 := hC.2.2.2.2.2.2.2.2.1
    have hgx : (g x).1 ≤ P N + 1 := hox.1
    unfold wX_together_61
    refine br_f (nI_ge (by omega) (by omega)) (br_f (nI_pos (by omega)) ?_)
    by_cases hf : qt_fl (g x).2.2 = 0
    · have hw : (f_waits >>> (nI x &&& 31)) &&& 1 = 0 := by
        rw [qz_tb0 (by omega), a5, hf]
        rfl
      refine br_t hw ⟨vx, ?_⟩
      rw [cx, a1]
      by_cases hgl : (g x).1 = l
      · refine br_t (by rw [hgl]) ?_
        rw [← hgl]
        refine qx_step (g := g) (z := (g x).2.1) (c := (g x).2.2) hC hn (by omega) hph hox hf rfl hI ?_
        intro f_waits f_ended f_races f_over a_at a_slots a_variables a_steps a_added a_own a_ownPhase a_storedPhase a_readPhase a_racePhase a_storedBy a_readBy a_readByMore a_doneCount hI'
        refine nm_r (nI_1 x) ?_
        rw [hgl]
        obtain ⟨hJ', hs'⟩ := qx_J_step hC (by omega) hf hJ
        refine ih _ _ _ _ _ _ _ _ _ _ _ _ _ _ _ _ _ _ (by omega) (by omega) (by omega) hI' hJ' (fun t ht => ?_) (Or.inl ?_)
        · rw [qx_Gn (by omega)]
          exact hfr t ht
        · rcases hd with h | h <;> omega
      · refine br_f (qz_ne hgl (by omega) (by omega)) (nm_r (nI_1 x) ?_)
        refine ih _ _ _ _ _ _ _ _ _ _ _ _ _ _ _ _ _ _ (by omega) (by omega) (by omega) hI hJ hfr ?_
        rcases hd with h | ⟨h1, h2, h3, h4⟩
        · exact Or.inl h
        · refine Or.inr ⟨h1, ?_, h3, h4⟩
          by_cases ex : x = s0
          · rw [ex] at hgl
            exact absurd h4 hgl
          · omega
    · have hw : ¬ (f_waits >>> (nI x &&& 31)) &&& 1 = 0 := by
        rw [qz_tb0 (by omega), a5, decide_eq_true hf]
        decide
      refine br_f hw (nm_r (nI_1 x) ?_)
      refine ih _ _ _ _ _ _ _ _ _ _ _ _ _ _ _ _ _ _ (by omega) (by omega) (by omega) hI hJ hfr ?_
      rcases hd with h | ⟨h1, h2, h3, h4⟩
      · exact Or.inl h
      · refine Or.inr ⟨h1, ?_, h3, h4⟩
        by_cases ex : x = s0
        · rw [ex] at hf
          exact absurd h3 hf
        · omega
theorem qx_t2 {post : SX → Prop} {g0 : Nat → qt_X} (hC : qc_CODE N K V op sl st nu P Q e1 e2 tg B) (hn : n ≤ 32) (hfe : f ≤ e) (he : e ≤ n) (hph : ph < 512)
    (hE : ∀ (f_waits f_ended f_races f_over : Int32) (a_at a_slots a_variables a_steps a_added a_own a_ownPhase a_storedPhase a_readPhase a_racePhase a_storedBy a_readBy a_readByMore a_doneCount : Nat → Int32) (g : Nat → qt_X) (ks : Nat → Nat), qx_I n ph g d0 r0 o0 w f_waits f_ended f_races f_over a_at a_slots a_variables a_steps a_added a_own a_ownPhase a_storedPhase a_readPhase a_racePhase a_storedBy a_readBy a_readByMore a_doneCount → qx_J n (P N) op sl st nu ct tn ag fin g ks → (∀ t, (t < f ∨ e ≤ t) → g t = g0 t) → (∀ t, f ≤ t → t < e → qt_fl (g t).2.2 ≠ 0) → post (f_tokens, f_length, f_fault, f_compiled, f_open, f_waits, f_ended, tn, ag, nI ph, f_races, f_ran, f_over, a_kind, a_value, op, sl, st, nu, a_openKind, a_openOut, a_openStart, a_isConstant, a_constant, a_at, a_slots, a_variables, a_steps, w, ct, a_added, a_own, a_ownPhase, a_storedPhase, a_readPhase, a_racePhase, a_storedBy, a_readBy, a_readByMore, a_doneCount)) (M : Nat) :
    ∀ (f_waits f_ended f_races f_over : Int32) (a_at a_slots a_variables a_steps a_added a_own a_ownPhase a_storedPhase a_readPhase a_racePhase a_storedBy a_readBy a_readByMore a_doneCount : Nat → Int32) {g : Nat → qt_X} {ks : Nat → Nat} {m l : Nat}, qz_ns ks n < M → M < m → l < 512 → qx_I n ph g d0 r0 o0 w f_waits f_ended f_races f_over a_at a_slots a_variables a_steps a_added a_own a_ownPhase a_storedPhase a_readPhase a_racePhase a_storedBy a_readBy a_readByMore a_doneCount → qx_J n (P N) op sl st nu ct tn ag fin g ks → (∀ t, (t < f ∨ e ≤ t) → g t = g0 t) →
      wX_together_2 post (nI f) (nI e) m (nI l) f_tokens f_length f_fault f_compiled f_open f_waits f_ended tn ag (nI ph) f_races f_ran f_over a_kind a_value op sl st nu a_openKind a_openOut a_openStart a_isConstant a_constant a_at a_slots a_variables a_steps w ct a_added a_own a_ownPhase a_storedPhase a_readPhase a_racePhase a_storedBy a_readBy a_readByMore a_doneCount := by
  induction M with
  | zero => intro f_waits f_ended f_races f_over a_at a_slots a_variables a_steps a_added a_own a_ownPhase a_storedPhase a_readPhase a_racePhase a_storedBy a_readBy a_readByMore a_doneCount g ks m l h; omega
  | succ M ih =>
    intro f_waits f_ended f_races f_over a_at a_slots a_variables a_steps a_added a_own a_ownPhase a_storedPhase a_readPhase a_racePhase a_storedBy a_readBy a_readByMore a_doneCount g ks m l hM hm hl hI hJ hfr
    obtain ⟨q, rfl⟩ : ∃ q, m = q + 1 := ⟨m - 1, by omega⟩
    have h9 := hC.2.2.2.2.2.2.2.2.1
    unfold wX_together_2
    refine br_f (nI_pos (by omega)) ⟨e - f + 1, ?_⟩
    refine qx_t11 _ _ _ _ _ _ _ _ _ _ _ _ _ _ _ _ _ _ (g := g) hn he hI (fun t ht => ?_) (fun hall => ⟨1, ?_⟩) (fun s s1 s2 s3 => ⟨e - f + 1, ?_⟩) (e - f) (by omega) (by omega) (Or.inl ⟨rfl, fun s h1 h2 => by omega⟩) (Nat.le_refl f)
    · have := (hJ t ht).1.1
      omega
    · have hfin : post (f_tokens, f_length, f_fault, f_compiled, f_open, f_waits, f_ended, tn, ag, nI ph, f_races, f_ran, f_over, a_kind, a_value, op, sl, st, nu, a_openKind, a_openOut, a_openStart, a_isConstant, a_constant, a_at, a_slots, a_variables, a_steps, w, ct, a_added, a_own, a_ownPhase, a_storedPhase, a_readPhase, a_racePhase, a_storedBy, a_readBy, a_readByMore, a_doneCount) := hE _ _ _ _ _ _ _ _ _ _ _ _ _ _ _ _ _ _ g ks hI hJ hfr hall
      obtain ⟨q2, rfl⟩ : ∃ q2, q = q2 + 1 := ⟨q - 1, by omega⟩
      unfold wX_together_61
      have hj : wX_together_2 post (nI f) (nI e) (q2 + 1) (-1) f_tokens f_length f_fault f_compiled f_open f_waits f_ended tn ag (nI ph) f_races f_ran f_over a_kind a_value op sl st nu a_openKind a_openOut a_openStart a_isConstant a_constant a_at a_slots a_variables a_steps w ct a_added a_own a_ownPhase a_storedPhase a_readPhase a_racePhase a_storedBy a_readBy a_readByMore a_doneCount := by
        unfold wX_together_2
        exact br_t (by decide) hfin
      exact br_c (fun _ => hj) (fun _ => br_t (by decide) hj)
    · have hgs := (hJ s (by omega)).1.1
      refine qx_t61 (M := qz_ns ks n) (l := (g s).1) (s0 := s) (g0 := g0) hC hn he hph (by omega) s2 ?_ (e - f) _ _ _ _ _ _ _ _ _ _ _ _ _ _ _ _ _ _ (by omega) (by omega) (Nat.le_refl f) hI hJ hfr (Or.inr ⟨Nat.le_refl _, s1, s3, rfl⟩)
      intro f_waits f_ended f_races f_over a_at a_slots a_variables a_steps a_added a_own a_ownPhase a_storedPhase a_readPhase a_racePhase a_storedBy a_readBy a_readByMore a_doneCount g' ks' hI' hJ' hfr' hlt
      exact ih _ _ _ _ _ _ _ _ _ _ _ _ _ _ _ _ _ _ (by omega) (by omega) (by omega) hI' hJ' hfr'
/-- a group goes on until all of it wait or are done -/
theorem qx_together {post : SX → Prop} {g0 : Nat → qt_X} {ks0 : Nat → Nat} (hC : qc_CODE N K V op sl st nu P Q e1 e2 tg B) (hn : n ≤ 32) (hfe : f ≤ e) (he : e ≤ n) (hph : ph < 512) (f_waits f_ended f_races f_over : Int32) (a_at a_slots a_variables a_steps a_added a_own a_ownPhase a_storedPhase a_readPhase a_racePhase a_storedBy a_readBy a_readByMore a_doneCount : Nat → Int32)
    (hI : qx_I n ph g0 d0 r0 o0 w f_waits f_ended f_races f_over a_at a_slots a_variables a_steps a_added a_own a_ownPhase a_storedPhase a_readPhase a_racePhase a_storedBy a_readBy a_readByMore a_doneCount) (hJ : qx_J n (P N) op sl st nu ct tn ag fin g0 ks0)
    (hE : ∀ (f_waits f_ended f_races f_over : Int32) (a_at a_slots a_variables a_steps a_added a_own a_ownPhase a_storedPhase a_readPhase a_racePhase a_storedBy a_readBy a_readByMore a_doneCount : Nat → Int32) (g : Nat → qt_X) (ks : Nat → Nat), qx_I n ph g d0 r0 o0 w f_waits f_ended f_races f_over a_at a_slots a_variables a_steps a_added a_own a_ownPhase a_storedPhase a_readPhase a_racePhase a_storedBy a_readBy a_readByMore a_doneCount → qx_J n (P N) op sl st nu ct tn ag fin g ks → (∀ t, (t < f ∨ e ≤ t) → g t = g0 t) → (∀ t, f ≤ t → t < e → qt_fl (g t).2.2 ≠ 0) → post (f_tokens, f_length, f_fault, f_compiled, f_open, f_waits, f_ended, tn, ag, nI ph, f_races, f_ran, f_over, a_kind, a_value, op, sl, st, nu, a_openKind, a_openOut, a_openStart, a_isConstant, a_constant, a_at, a_slots, a_variables, a_steps, w, ct, a_added, a_own, a_ownPhase, a_storedPhase, a_readPhase, a_racePhase, a_storedBy, a_readBy, a_readByMore, a_doneCount)) :
    wpX_together post (f_tokens, f_length, f_fault, f_compiled, f_open, f_waits, f_ended, tn, ag, nI ph, f_races, f_ran, f_over, a_kind, a_value, op, sl, st, nu, a_openKind, a_openOut, a_openStart, a_isConstant, a_constant, a_at, a_slots, a_variables, a_steps, w, ct, a_added, a_own, a_ownPhase, a_storedPhase, a_readPhase, a_racePhase, a_storedBy, a_readBy, a_readByMore, a_doneCount) (nI f) (nI e) := by
  unfold wpX_together
  dsimp only
  exact ⟨qz_ns ks0 n + 2, qx_t2 hC hn hfe he hph hE (qz_ns ks0 n + 1) _ _ _ _ _ _ _ _ _ _ _ _ _ _ _ _ _ _ (l := 0) (by omega) (by omega) (by omega) hI hJ (fun _ _ => rfl)⟩
end
end
section
/-! all threads, pure: the state between phases, and the next one -/
def qr_mix (i : Nat) (f g : Nat → Int32) : Nat → Int32 := fun j => if j < i then f j else g j
theorem qr_mix0 {f g : Nat → Int32} : qr_mix 0 f g = g := by
  funext j
  unfold qr_mix
  rw [if_neg (Nat.not_lt_zero j)]
theorem qr_mixi {i : Nat} {f g : Nat → Int32} : qr_mix i f g i = g i := if_neg (Nat.lt_irrefl i)
theorem qr_mixl {i j : Nat} {f g : Nat → Int32} (h : j < i) : qr_mix i f g j = f j := if_pos h
theorem qr_mixg {i j : Nat} {f g : Nat → Int32} (h : ¬ j < i) : qr_mix i f g j = g j := if_neg h
theorem qr_mixS {i : Nat} {f g : Nat → Int32} {x : Int32} (h : x = f i) : upd (qr_mix i f g) i x = qr_mix (i + 1) f g := by
  funext j
  by_cases e : j = i
  · rw [e, pk_us, h, qr_mixl (by omega)]
  · rw [pk_un e]
    unfold qr_mix
    by_cases h2 : j < i
    · rw [if_pos h2, if_pos (by omega)]
    · rw [if_neg h2, if_neg (by omega)]
theorem qr_mixK {i : Nat} {f g : Nat → Int32} (h : g i = f i) : qr_mix (i + 1) f g = qr_mix i f g := by
  funext j
  unfold qr_mix
  by_cases e : j = i
  · rw [e, if_pos (by omega), if_neg (by omega), h]
  · by_cases h2 : j < i
    · rw [if_pos h2, if_pos (by omega)]
    · rw [if_neg h2, if_neg (by omega)]
/-- the last of those that stored -/
def qr_last (S : Nat → Bool) (ow : Nat → Int32) (w : Int32) : Nat → Int32
  | 0 => w
  | n + 1 => if S n = true then ow n else qr_last S ow w n
theorem qr_last_no {S : Nat → Bool} {ow : Nat → Int32} {w : Int32} : ∀ n, (∀ t, t < n → ¬ S t = true) → qr_last S ow w n = w
  | 0, _ => rfl
  | n + 1, h => by
    unfold qr_last
    rw [if_neg (h n (by omega))]
    exact qr_last_no n (fun t ht => h t (by omega))
noncomputable def qr_b (p : Prop) : Int32 := @ite Int32 p (Classical.propDecidable p) 1 0
theorem qr_b1 {p : Prop} (h : p) : qr_b p = 1 := by
  unfold qr_b
  exact if_pos h
theorem qr_b0 {p : Prop} (h : ¬ p) : qr_b p = 0 := by
  unfold qr_b
  exact if_neg h
noncomputable def qr_cnt (f : Nat → Prop) : Int32 := qz_sm (fun i => qr_b (f i)) 64
noncomputable def qr_B (p : Prop) : Bool := @decide p (Classical.propDecidable p)
theorem qr_Bt {p : Prop} : qr_B p = true ↔ p := by
  unfold qr_B
  exact @decide_eq_true_iff p (Classical.propDecidable p)
theorem qr_en0 (b : Bool) : b = decide ((if b = true then 2 else 0) ≠ 0) := by cases b <;> rfl
theorem qr_en2 (b : Bool) : b = decide ((if b = true then 2 else 0) = 2) := by cases b <;> rfl
/-- tokens, steps, variables, ended, words, counters, done, races, over -/
abbrev qr_G : Type := (Nat → Nat) × (Nat → Nat) × (Nat → Nat → Int32) × (Nat → Bool) × (Nat → Int32) × (Nat → Int32) × (Nat → Int32) × Int32 × Bool
abbrev qr_ai (G : qr_G) : Nat → Nat := G.1
abbrev qr_sp (G : qr_G) : Nat → Nat := G.2.1
abbrev qr_vr (G : qr_G) : Nat → Nat → Int32 := G.2.2.1
abbrev qr_en (G : qr_G) : Nat → Bool := G.2.2.2.1
abbrev qr_wd (G : qr_G) : Nat → Int32 := G.2.2.2.2.1
abbrev qr_cn (G : qr_G) : Nat → Int32 := G.2.2.2.2.2.1
abbrev qr_dn (G : qr_G) : Nat → Int32 := G.2.2.2.2.2.2.1
abbrev qr_rc (G : qr_G) : Int32 := G.2.2.2.2.2.2.2.1
abbrev qr_ov (G : qr_G) : Bool := G.2.2.2.2.2.2.2.2
def qr_c0 (G : qr_G) (t : Nat) : qt_C := (qr_sp G t, qr_vr G t, qr_wd G, fun _ => false, fun _ => false, fun _ => 0, fun _ => 0, if qr_en G t = true then 2 else 0, false)
def qr_anyF (n : Nat) (F : Nat → qt_Y) : Prop := ∃ t, t < n ∧ qt_ov (F t).2 = true
def qr_w1 (n : Nat) (G : qr_G) (F : Nat → qt_Y) : Nat → Int32 := fun j => qr_last (fun t => qt_S (F t).2 j) (fun t => qt_ow (F t).2 j) (qr_wd G j) n
def qr_c1 (n : Nat) (G : qr_G) (F : Nat → qt_Y) : Nat → Int32 := fun j => qr_cn G j + qz_sm (fun t => qt_A (F t).2 j) n
/-- the state behind a phase in which thread t came to F t -/
noncomputable def qr_nx (n : Nat) (G : qr_G) (F : Nat → qt_Y) : qr_G :=
  (fun t => (F t).1, fun t => qt_sp (F t).2, fun t => qt_vr (F t).2, fun t => decide (qt_fl (F t).2 = 2), qr_mix 64 (qr_w1 n G F) (qr_wd G), qr_mix 64 (qr_c1 n G F) (qr_cn G),
   fun k => qr_dn G k + qz_sm (fun t => qt_D (F t).2 k) n, qr_rc G + qr_cnt (fun i => qx_Rc n (fun t => qt_S (F t).2 i) (fun t => qt_R (F t).2 i)), qr_B (qr_ov G = true ∨ qr_anyF n F))
def qr_I (n ph : Nat) (B : Nat → Prop) (G : qr_G) : Prop := ∀ t, t < n → B (qr_ai G t) ∧ qr_sp G t ≤ 300 ∧ (qr_en G t = false → ph ≤ qr_sp G t)
/-- thread t comes to F in this phase -/
def qr_F (N : Nat) (K : Nat → Nat) (V op sl st nu : Nat → Int32) (P e1 e2 tg : Nat → Nat) (B : Nat → Prop) (tn ag : Int32) (ph : Nat) (G : qr_G) (t : Nat) (F : qt_Y) : Prop :=
  (∃ nY, qt_yn N K V e1 e2 tg (qr_cn G) tn ag t nY (qr_ai G t, qr_c0 G t) = F) ∧ qt_fl F.2 ≠ 0 ∧ qt_fl F.2 ≤ 2 ∧ B F.1 ∧ (qt_fl F.2 = 1 → ph + 1 ≤ qt_sp F.2) ∧ qt_sp F.2 ≤ 300 ∧ (qr_en G t = true → F = (qr_ai G t, qr_c0 G t)) ∧
  ∀ (q : Nat) (s : Nat → Int32), (qr_en G t = false → q = P (qr_ai G t)) → ∃ nX p' s', qt_xn op sl st nu (qr_cn G) tn ag t nX (q, s, qr_c0 G t) = (p', s', F.2) ∧ (qt_fl F.2 = 1 → p' = P F.1)
section
variable {N : Nat} {K : Nat → Nat} {V op sl st nu : Nat → Int32} {P Q e1 e2 tg : Nat → Nat} {B : Nat → Prop} {tn ag : Int32} {n ph : Nat} {G : qr_G}
theorem qr_F_ex (hN : N ≤ 64) (hC : qc_CODE N K V op sl st nu P Q e1 e2 tg B) (hI : qr_I n ph B G) : ∃ F : Nat → qt_Y, ∀ t, t < n → qr_F N K V op sl st nu P e1 e2 tg B tn ag ph G t (F t) := by
  apply (Classical.skolem (p := fun (t : Nat) (F : qt_Y) => t < n → qr_F N K V op sl st nu P e1 e2 tg B tn ag ph G t F)).mp
  intro t
  by_cases ht : t < n
  · obtain ⟨h1, h2, h3⟩ := hI t ht
    cases he : qr_en G t
    · have hf : qt_fl (qr_c0 G t) = 0 := by
        show (if qr_en G t = true then 2 else 0) = 0
        rw [he]
        rfl
      obtain ⟨nY, i', c', r1, r2, r3, r4, r5, r6, r7⟩ := qt_phase (ct := qr_cn G) (tn := tn) (ag := ag) (t := t) hN hC (qt_mu N K (qr_ai G t, qr_c0 G t) + 1) (i := qr_ai G t) (c := qr_c0 G t) (by omega) h1 hf h2
      refine ⟨(i', c'), fun _ => ⟨⟨nY, r1⟩, r2, r3, r4, fun h => ?_, r6, fun h => absurd (he.symm.trans h) (by decide), fun q s hq => ?_⟩⟩
      · have a := r5 h
        have b := h3 he
        have c : qt_sp (qr_c0 G t) = qr_sp G t := rfl
        show ph + 1 ≤ qt_sp c'
        omega
      · rw [hq he]
        exact r7 s
    · have hf : qt_fl (qr_c0 G t) = 2 := by
        show (if qr_en G t = true then 2 else 0) = 2
        rw [he]
        rfl
      refine ⟨(qr_ai G t, qr_c0 G t), fun _ => ⟨⟨0, rfl⟩, ?_, ?_, h1, fun h => ?_, h2, fun _ => rfl, fun q s hq => ⟨0, q, s, rfl, fun h => ?_⟩⟩⟩
      · show qt_fl (qr_c0 G t) ≠ 0
        omega
      · show qt_fl (qr_c0 G t) ≤ 2
        omega
      · have h' : qt_fl (qr_c0 G t) = 1 := h
        omega
      · have h' : qt_fl (qr_c0 G t) = 1 := h
        omega
  · exact ⟨(0, qr_c0 G t), fun h => absurd h ht⟩
theorem qr_I_nx {F : Nat → qt_Y} (hF : ∀ t, t < n → qr_F N K V op sl st nu P e1 e2 tg B tn ag ph G t (F t)) : qr_I n (ph + 1) B (qr_nx n G F) := by
  intro t ht
  obtain ⟨h1, h2, h3, h4, h5, h6, h7, h8⟩ := hF t ht
  refine ⟨h4, h6, fun he => h5 ?_⟩
  have he' : decide (qt_fl (F t).2 = 2) = false := he
  have := of_decide_eq_false he'
  omega
end
end
section
/-! the component's commit, a whole phase, reset -/
section
variable {f_tokens f_length f_fault f_compiled f_open f_waits f_ended f_threads f_arg f_phase f_races f_ran f_over : Int32} {a_kind a_value a_op a_slot a_statement a_number a_openKind a_openOut a_openStart a_isConstant a_constant a_at a_slots a_variables a_steps a_words a_counters a_added a_own a_ownPhase a_storedPhase a_readPhase a_racePhase a_storedBy a_readBy a_readByMore a_doneCount : Nat → Int32} {n ph i : Nat} {S : Nat → Nat → Bool} {ow : Nat → Nat → Int32} {w0 : Int32} {w c0 ad : Nat → Int32}
theorem qx_c53 {post : SX → Prop} {J2 : Int32 → (Nat → Int32) → (Nat → Int32) → (Nat → Int32) → (Nat → Int32) → (Nat → Int32) → (Nat → Int32) → (Nat → Int32) → (Nat → Int32) → (Nat → Int32) → (Nat → Int32) → (Nat → Int32) → (Nat → Int32) → (Nat → Int32) → (Nat → Int32) → (Nat → Int32) → (Nat → Int32) → (Nat → Int32) → (Nat → Int32) → (Nat → Int32) → (Nat → Int32) → (Nat → Int32) → (Nat → Int32) → (Nat → Int32) → (Nat → Int32) → (Nat → Int32) → (Nat → Int32) → (Nat → Int32) → Prop} (hn : n ≤ 32) (hi : i < 64) (hO : ∀ t, t < n → (a_ownPhase (64 * t + i) = nI ph ↔ S t i = true) ∧ (S t i = true → a_own (64 * t + i) = ow t i))
    (h : J2 (nI (i + 1)) a_kind a_value a_op a_slot a_statement a_number a_openKind a_openOut a_openStart a_isConstant a_constant a_at a_slots a_variables a_steps (upd a_words i (qr_last (fun t => S t i) (fun t => ow t i) w0 n)) a_counters a_added a_own a_ownPhase a_storedPhase a_readPhase a_racePhase a_storedBy a_readBy a_readByMore a_doneCount) :
    ∀ {m f : Nat}, m < n → qr_last (fun t => S t i) (fun t => ow t i) w0 n = qr_last (fun t => S t i) (fun t => ow t i) w0 (m + 1) → qx_any (m + 1) (fun t => S t i) → m < f → wX_commit_53 post J2 (nI i) f_tokens f_length f_fault f_compiled f_open f_waits f_ended f_threads f_arg (nI ph) f_races f_ran f_over a_kind a_value a_op a_slot a_statement a_number a_openKind a_openOut a_openStart a_isConstant a_constant a_at a_slots a_variables a_steps a_words a_counters a_added a_own a_ownPhase a_storedPhase a_readPhase a_racePhase a_storedBy a_readBy a_readByMore a_doneCount f (nI m) := by
  intro m
  induction m with
  | zero =>
    intro f hm hl ha hf
    obtain ⟨q, rfl⟩ : ∃ q, f = q + 1 := ⟨f - 1, by omega⟩
    obtain ⟨o1, o2⟩ := hO 0 hm
    have hs : S 0 i = true := by
      obtain ⟨x, x1, x2⟩ := ha
      rw [show x = 0 by omega] at x2
      exact x2
    have e : (64 : Int32) * nI 0 + nI i = nI (64 * 0 + i) := qz_lin 64 0 i
    have v : vp_in (nI (64 * 0 + i)) 2048 := vp_in_nI (by omega) (by decide)
    have hv : qr_last (fun t => S t i) (fun t => ow t i) w0 n = a_own (64 * 0 + i) := by
      rw [hl, o2 hs]
      exact if_pos hs
    rw [hv] at h
    unfold wX_commit_53
    rw [e, nI_clamp (show 64 * 0 + i < 2 ^ 31 by omega), nI_clamp (show i < 2 ^ 31 by omega)]
    exact ⟨v, br_t (o1.mpr hs) ⟨v, vp_in_nI hi (by decide), nm_e (nm_r (nI_1 i) h)⟩⟩
  | succ m ih =>
    intro f hm hl ha hf
    obtain ⟨q, rfl⟩ : ∃ q, f = q + 1 := ⟨f - 1, by omega⟩
    obtain ⟨o1, o2⟩ := hO (m + 1) hm
    have e : (64 : Int32) * nI (m + 1) + nI i = nI (64 * (m + 1) + i) := qz_lin 64 (m + 1) i
    have v : vp_in (nI (64 * (m + 1) + i)) 2048 := vp_in_nI (by omega) (by decide)
    unfold wX_commit_53
    rw [e, nI_clamp (show 64 * (m + 1) + i < 2 ^ 31 by omega), nI_clamp (show i < 2 ^ 31 by omega)]
    refine ⟨v, ?_⟩
    by_cases hs : S (m + 1) i = true
    · have hv : qr_last (fun t => S t i) (fun t => ow t i) w0 n = a_own (64 * (m + 1) + i) := by
        rw [hl, o2 hs]
        exact if_pos hs
      rw [hv] at h
      exact br_t (o1.mpr hs) ⟨v, vp_in_nI hi (by decide), nm_e (nm_r (nI_1 i) h)⟩
    · refine br_f (fun z => hs (o1.mp z)) (nm_r (pk_m1 m) ?_)
      refine ih (by omega) ?_ ?_ (by omega)
      · rw [hl]
        exact if_neg hs
      · obtain ⟨x, x1, x2⟩ := ha
        refine ⟨x, ?_, x2⟩
        by_cases ex : x = m + 1
        · rw [ex] at x2
          exact absurd x2 hs
        · omega
theorem qx_commit {post : SX → Prop} (hn1 : 1 ≤ n) (hn : n ≤ 32) (hO : ∀ t, t < n → ∀ i, i < 64 → (a_ownPhase (64 * t + i) = nI ph ↔ S t i = true) ∧ (S t i = true → a_own (64 * t + i) = ow t i))
    (hP : ∀ i, i < 64 → (a_storedPhase i = nI ph ↔ qx_any n (fun t => S t i)))
    (h : post (f_tokens, f_length, f_fault, f_compiled, f_open, f_waits, f_ended, nI n, f_arg, nI ph, f_races, f_ran, f_over, a_kind, a_value, a_op, a_slot, a_statement, a_number, a_openKind, a_openOut, a_openStart, a_isConstant, a_constant, a_at, a_slots, a_variables, a_steps, qr_mix 64 (fun j => qr_last (fun t => S t j) (fun t => ow t j) (w j) n) w, qr_mix 64 (fun j => c0 j + ad j) c0, qr_mix 64 (fun _ => 0) ad, a_own, a_ownPhase, a_storedPhase, a_readPhase, a_racePhase, a_storedBy, a_readBy, a_readByMore, a_doneCount)) (r : Nat) :
    ∀ {i f : Nat}, i + r = 64 → r < f → wX_commit_2 post f_tokens f_length f_fault f_compiled f_open f_waits f_ended (nI n) f_arg (nI ph) f_races f_ran f_over f (nI i) a_kind a_value a_op a_slot a_statement a_number a_openKind a_openOut a_openStart a_isConstant a_constant a_at a_slots a_variables a_steps (qr_mix i (fun j => qr_last (fun t => S t j) (fun t => ow t j) (w j) n) w) (qr_mix i (fun j => c0 j + ad j) c0) (qr_mix i (fun _ => 0) ad) a_own a_ownPhase a_storedPhase a_readPhase a_racePhase a_storedBy a_readBy a_readByMore a_doneCount := by
  induction r with
  | zero =>
    intro i f hi hf
    obtain ⟨q, rfl⟩ : ∃ q, f = q + 1 := ⟨f - 1, by omega⟩
    rw [show i = 64 by omega]
    unfold wX_commit_2
    exact br_t (by decide) h
  | succ r ih =>
    intro i f hi hf
    obtain ⟨q, rfl⟩ : ∃ q, f = q + 1 := ⟨f - 1, by omega⟩
    have v : vp_in (nI i) 64 := vp_in_nI (by omega) (by decide)
    have ci : (nI i).toNatClampNeg = i := nI_clamp (by omega)
    unfold wX_commit_2
    refine br_f (nI_ge (b := 64) (by omega) (by decide)) ⟨v, v, v, nm_r (e' := qr_mix (i + 1) (fun j => c0 j + ad j) c0) ?_ ⟨v, nm_r (e' := qr_mix (i + 1) (fun _ => 0) ad) ?_ ⟨v, ?_⟩⟩⟩
    · rw [ci, qr_mixi, qr_mixi]
      exact qr_mixS rfl
    · rw [ci]
      exact qr_mixS rfl
    · rw [ci]
      refine br_c (fun g => ?_) (fun g => ?_)
      · refine nm_r (e' := nI (n - 1)) (qz_m hn1) ⟨n, ?_⟩
        have ha := (hP i (by omega)).mp g
        refine qx_c53 (w0 := w i) hn (by omega) (fun t ht => hO t ht i (by omega)) ?_ (m := n - 1) (by omega) (by rw [show n - 1 + 1 = n by omega]) (by rw [show n - 1 + 1 = n by omega]; exact ha) (by omega)
        rw [qr_mixS (f := fun j => qr_last (fun t => S t j) (fun t => ow t j) (w j) n) rfl]
        exact ih (i := i + 1) (by omega) (by omega)
      · refine nm_r (nI_1 i) ?_
        have e : qr_mix (i + 1) (fun j => qr_last (fun t => S t j) (fun t => ow t j) (w j) n) w = qr_mix i (fun j => qr_last (fun t => S t j) (fun t => ow t j) (w j) n) w := by
          refine qr_mixK ?_
          refine (qr_last_no n (fun t ht hs => ?_)).symm
          exact g ((hP i (by omega)).mpr ⟨t, ht, hs⟩)
        rw [← e]
        exact ih (i := i + 1) (by omega) (by omega)
end
/-- between phases: the component's state -/
def qr_X (P : Nat → Nat) (L n ph : Nat) (G : qr_G) (f_ended f_races f_over : Int32) (a_at a_variables a_steps a_words a_counters a_added a_ownPhase a_storedPhase a_readPhase a_racePhase a_doneCount : Nat → Int32) : Prop :=
  a_words = qr_wd G ∧ a_counters = qr_cn G ∧ f_races = qr_rc G ∧ f_over = (if qr_ov G = true then 1 else 0) ∧
  (∀ t, t < n → (∃ q : Nat, q ≤ L + 1 ∧ a_at t = nI q ∧ (qr_en G t = false → q = P (qr_ai G t))) ∧ (∀ v, v < 6 → a_variables (32 * v + t) = qr_vr G t v) ∧ a_steps t = nI (qr_sp G t) ∧ bt f_ended t = qr_en G t ∧ ∀ i, i < 64 → qx_le ph (a_ownPhase (64 * t + i))) ∧
  (∀ t, n ≤ t → t < 32 → bt f_ended t = false) ∧ ∀ i, i < 64 → a_added i = 0 ∧ a_doneCount i = qr_dn G i ∧ qx_le ph (a_storedPhase i) ∧ qx_le ph (a_readPhase i) ∧ qx_le ph (a_racePhase i)
theorem qx_le_ne {ph : Nat} {x : Int32} (hp : ph + 1 < 512) (h : qx_le ph x) : ¬ x = nI (ph + 1) := by
  obtain ⟨q, q1, q2⟩ := h
  rw [q2]
  exact qz_ne (by omega) (by omega) (by omega)
theorem qx_le_up {ph : Nat} {x : Int32} (h : qx_le ph x) : qx_le (ph + 1) x := by
  obtain ⟨q, q1, q2⟩ := h
  exact ⟨q, by omega, q2⟩
section
variable {N : Nat} {K : Nat → Nat} {V op sl st nu : Nat → Int32} {P Q e1 e2 tg : Nat → Nat} {B : Nat → Prop} {tn ag : Int32} {n ph : Nat} {G : qr_G} {F : Nat → qt_Y}
/-- a phase begins -/
theorem qx_begin (hp : ph + 1 < 512) (hL : P N ≤ 128) (hI : qr_I n ph B G) (f_waits f_ended f_races f_over : Int32) (a_at a_slots a_variables a_steps a_added a_own a_ownPhase a_storedPhase a_readPhase a_racePhase a_storedBy a_readBy a_readByMore a_doneCount : Nat → Int32) {a_words a_counters : Nat → Int32} (hX : qr_X P (P N) n ph G f_ended f_races f_over a_at a_variables a_steps a_words a_counters a_added a_ownPhase a_storedPhase a_readPhase a_racePhase a_doneCount) :
    qx_I n (ph + 1) (fun t => ((a_at t).toNatClampNeg, (fun s => a_slots (32 * s + t)), qr_c0 G t)) (qr_dn G) (qr_rc G) (qr_ov G) (qr_wd G) f_ended f_ended f_races f_over a_at a_slots a_variables a_steps a_added a_own a_ownPhase a_storedPhase a_readPhase a_racePhase a_storedBy a_readBy a_readByMore a_doneCount := by
  obtain ⟨x1, x2, x3, x4, x5, x6, x7⟩ := hX
  refine ⟨fun t ht => ?_, x6, ⟨?_, fun i hi => ?_⟩, ⟨fun i hi => ?_, fun k hk => ?_⟩, ?_⟩
  · obtain ⟨⟨q, q1, q2, q3⟩, y2, y3, y4, y5⟩ := x5 t ht
    refine ⟨⟨?_, fun s hs => rfl, y2, y3, ?_, ?_⟩, fun i hi => ⟨qx_le_up (y5 i hi), ⟨fun z => absurd z (qx_le_ne hp (y5 i hi)), fun z => absurd (show false = true from z) (by decide)⟩, fun z => absurd (show false = true from z) (by decide), fun _ => rfl⟩⟩
    · dsimp only
      rw [q2, nI_clamp (by omega)]
    · show bt f_ended t = decide ((if qr_en G t = true then 2 else 0) ≠ 0)
      rw [y4]
      exact qr_en0 _
    · show bt f_ended t = decide ((if qr_en G t = true then 2 else 0) = 2)
      rw [y4]
      exact qr_en2 _
  · rw [x3]
    unfold qx_cn
    rw [qz_sm_0 64 (fun i hi => if_neg (qx_le_ne hp (x7 i hi).2.2.2.2))]
    exact (Int32.add_zero _).symm
  · obtain ⟨_, _, y3, y4, y5⟩ := x7 i hi
    have no : ∀ C : Nat → Bool, (∀ t, C t = false) → ¬ qx_any n C := fun C hC ⟨t, _, h⟩ => by rw [hC t] at h; exact absurd h (by decide)
    refine ⟨⟨qx_le_up y3, ⟨fun z => absurd z (qx_le_ne hp y3), fun z => absurd z (no _ (fun _ => rfl))⟩, fun z => absurd z (qx_le_ne hp y3)⟩, ⟨qx_le_up y4, ⟨fun z => absurd z (qx_le_ne hp y4), fun z => absurd z (no _ (fun _ => rfl))⟩, fun z => absurd z (qx_le_ne hp y4)⟩, ⟨qx_le_up y5, ⟨fun z => absurd z (qx_le_ne hp y5), fun ⟨a, b, _, _, _, h4, _⟩ => absurd h4 (by show ¬ (false = true); decide)⟩⟩⟩
  · rw [(x7 i hi).1]
    exact (qz_sm_0 n (fun _ _ => rfl)).symm
  · rw [(x7 k hk).2.1]
    exact ((congrArg (fun x => qr_dn G k + x) (qz_sm_0 n (fun _ _ => rfl))).trans (Int32.add_zero _)).symm
  · have no : ¬ qx_anyO n (fun t => ((a_at t).toNatClampNeg, (fun s => a_slots (32 * s + t)), qr_c0 G t)) := fun ⟨t, _, h⟩ => absurd h (by show ¬ (false = true); decide)
    unfold qx_V
    rw [x4]
    cases qr_ov G
    · exact Or.inl ⟨rfl, rfl, no⟩
    · exact Or.inr ⟨rfl, Or.inl rfl⟩
/-- a phase ends -/
theorem qx_end (hp : ph + 1 < 512) (hF : ∀ t, t < n → qr_F N K V op sl st nu P e1 e2 tg B tn ag ph G t (F t)) {g : Nat → qt_X} (f_waits f_ended f_races f_over : Int32) (a_at a_slots a_variables a_steps a_added a_own a_ownPhase a_storedPhase a_readPhase a_racePhase a_storedBy a_readBy a_readByMore a_doneCount : Nat → Int32) (hI : qx_I n (ph + 1) g (qr_dn G) (qr_rc G) (qr_ov G) (qr_wd G) f_waits f_ended f_races f_over a_at a_slots a_variables a_steps a_added a_own a_ownPhase a_storedPhase a_readPhase a_racePhase a_storedBy a_readBy a_readByMore a_doneCount)
    (hg : ∀ t, t < n → (g t).2.2 = (F t).2 ∧ (g t).1 ≤ P N + 1 ∧ (qt_fl (F t).2 = 1 → (g t).1 = P (F t).1)) :
    qr_X P (P N) n (ph + 1) (qr_nx n G F) f_ended f_races f_over a_at a_variables a_steps (qr_mix 64 (fun j => qr_last (fun t => qt_S (F t).2 j) (fun t => qt_ow (F t).2 j) (qr_wd G j) n) (qr_wd G)) (qr_mix 64 (fun j => qr_cn G j + a_added j) (qr_cn G)) (qr_mix 64 (fun _ => 0) a_added) a_ownPhase a_storedPhase a_readPhase a_racePhase a_doneCount := by
  obtain ⟨i1, i2, i3, i4, i5⟩ := hI
  refine ⟨rfl, ?_, ?_, ?_, fun t ht => ?_, i2, fun i hi => ⟨qr_mixl hi, ?_, ?_, ?_, ?_⟩⟩
  · show _ = qr_mix 64 (qr_c1 n G F) (qr_cn G)
    funext j
    by_cases hj : j < 64
    · rw [qr_mixl hj, qr_mixl hj]
      unfold qr_c1
      rw [i4.1 j hj]
      exact congrArg (fun x => qr_cn G j + x) (qz_sm_ext n (fun t ht => by rw [(hg t ht).1]))
    · rw [qr_mixg hj, qr_mixg hj]
  · show f_races = qr_rc G + qr_cnt (fun i => qx_Rc n (fun t => qt_S (F t).2 i) (fun t => qt_R (F t).2 i))
    rw [i3.1]
    refine congrArg (fun x => qr_rc G + x) ?_
    unfold qx_cn qr_cnt
    refine qz_sm_ext 64 (fun i hi => ?_)
    have hc := (i3.2 i hi).2.2.2
    have e : qx_Rc n (fun t => qt_S (g t).2.2 i) (fun t => qt_R (g t).2.2 i) ↔ qx_Rc n (fun t => qt_S (F t).2 i) (fun t => qt_R (F t).2 i) := by
      constructor
      · intro ⟨a, b, h1, h2, h3, h4, h5⟩
        dsimp only at h4 h5
        rw [(hg a h1).1] at h4
        rw [(hg b h2).1] at h5
        exact ⟨a, b, h1, h2, h3, h4, h5⟩
      · intro ⟨a, b, h1, h2, h3, h4, h5⟩
        refine ⟨a, b, h1, h2, h3, ?_, ?_⟩
        · dsimp only
          rw [(hg a h1).1]
          exact h4
        · dsimp only
          rw [(hg b h2).1]
          exact h5
    by_cases hr : a_racePhase i = nI (ph + 1)
    · rw [if_pos hr, qr_b1 (e.mp (hc.mp hr))]
    · rw [if_neg hr, qr_b0 (fun z => hr (hc.mpr (e.mpr z)))]
  · show f_over = if qr_B (qr_ov G = true ∨ qr_anyF n F) = true then 1 else 0
    have e : qx_anyO n g ↔ qr_anyF n F := by
      constructor
      · intro ⟨t, h1, h2⟩
        rw [(hg t h1).1] at h2
        exact ⟨t, h1, h2⟩
      · intro ⟨t, h1, h2⟩
        exact ⟨t, h1, by rw [(hg t h1).1]; exact h2⟩
    rcases i5 with ⟨h1, h2, h3⟩ | ⟨h1, h2⟩
    · rw [h1, if_neg]
      intro z
      rcases qr_Bt.mp z with z | z
      · rw [h2] at z
        exact absurd z (by decide)
      · exact h3 (e.mpr z)
    · rw [h1, if_pos]
      rw [e] at h2
      exact qr_Bt.mpr h2
  · obtain ⟨⟨a1, a2, a3, a4, a5, a6⟩, b⟩ := i1 t ht
    obtain ⟨g1, g2, g3⟩ := hg t ht
    obtain ⟨f1, f2, f3, _⟩ := hF t ht
    rw [g1] at a3 a4 a6
    refine ⟨⟨(g t).1, g2, a1, fun he => g3 ?_⟩, a3, a4, a6, fun i hi => (b i hi).1⟩
    have he' : decide (qt_fl (F t).2 = 2) = false := he
    have := of_decide_eq_false he'
    omega
  · show a_doneCount i = qr_dn G i + qz_sm (fun t => qt_D (F t).2 i) n
    rw [i4.2 i hi]
    exact congrArg (fun x => qr_dn G i + x) (qz_sm_ext n (fun t ht => by rw [(hg t ht).1]))
  · exact (i3.2 i hi).1.1
  · exact (i3.2 i hi).2.1.1
  · exact (i3.2 i hi).2.2.1
variable {f_tokens f_length f_fault f_compiled f_open f_ran : Int32} {a_kind a_value a_openKind a_openOut a_openStart a_isConstant a_constant : Nat → Int32}
/-- the groups of a phase, then commit -/
theorem qx_r94 {post : Int32 → SX → Prop} {J65 : Int32 → Int32 → Int32 → Int32 → Int32 → Int32 → Int32 → Int32 → Int32 → Int32 → Int32 → Int32 → Int32 → (Nat → Int32) → (Nat → Int32) → (Nat → Int32) → (Nat → Int32) → (Nat → Int32) → (Nat → Int32) → (Nat → Int32) → (Nat → Int32) → (Nat → Int32) → (Nat → Int32) → (Nat → Int32) → (Nat → Int32) → (Nat → Int32) → (Nat → Int32) → (Nat → Int32) → (Nat → Int32) → (Nat → Int32) → (Nat → Int32) → (Nat → Int32) → (Nat → Int32) → (Nat → Int32) → (Nat → Int32) → (Nat → Int32) → (Nat → Int32) → (Nat → Int32) → (Nat → Int32) → (Nat → Int32) → Prop} {x3 : Int32} {fin : Nat → qt_X} (hC : qc_CODE N K V op sl st nu P Q e1 e2 tg B) (hn1 : 1 ≤ n) (hn : n ≤ 32) (hp : ph + 1 < 512)
    (hF : ∀ t, t < n → qr_F N K V op sl st nu P e1 e2 tg B (nI n) ag ph G t (F t)) (hfin : ∀ t, t < n → (fin t).2.2 = (F t).2 ∧ (qt_fl (F t).2 = 1 → (fin t).1 = P (F t).1))
    (hJ65 : ∀ (f_waits f_ended f_races f_over : Int32) (a_at a_slots a_variables a_steps a_added a_own a_ownPhase a_storedPhase a_readPhase a_racePhase a_storedBy a_readBy a_readByMore a_doneCount : Nat → Int32) {a_words a_counters : Nat → Int32}, qr_X P (P N) n (ph + 1) (qr_nx n G F) f_ended f_races f_over a_at a_variables a_steps a_words a_counters a_added a_ownPhase a_storedPhase a_readPhase a_racePhase a_doneCount → J65 f_tokens f_length f_fault f_compiled f_open f_waits f_ended (nI n) ag (nI (ph + 1)) f_races f_ran f_over a_kind a_value op sl st nu a_openKind a_openOut a_openStart a_isConstant a_constant a_at a_slots a_variables a_steps a_words a_counters a_added a_own a_ownPhase a_storedPhase a_readPhase a_racePhase a_storedBy a_readBy a_readByMore a_doneCount) (r : Nat) :
    ∀ (f_waits f_ended f_races f_over : Int32) (a_at a_slots a_variables a_steps a_added a_own a_ownPhase a_storedPhase a_readPhase a_racePhase a_storedBy a_readBy a_readByMore a_doneCount : Nat → Int32) {g : Nat → qt_X} {ks : Nat → Nat} {x m : Nat}, n ≤ x + r → r < m → x ≤ 64 → qx_I n (ph + 1) g (qr_dn G) (qr_rc G) (qr_ov G) (qr_wd G) f_waits f_ended f_races f_over a_at a_slots a_variables a_steps a_added a_own a_ownPhase a_storedPhase a_readPhase a_racePhase a_storedBy a_readBy a_readByMore a_doneCount → qx_J n (P N) op sl st nu (qr_cn G) (nI n) ag fin g ks → (∀ t, t < n → t < x → qt_fl (g t).2.2 ≠ 0) →
      wX_run_94 post J65 (nI n) x3 m (nI x) f_tokens f_length f_fault f_compiled f_open f_waits f_ended (nI n) ag (nI (ph + 1)) f_races f_ran f_over a_kind a_value op sl st nu a_openKind a_openOut a_openStart a_isConstant a_constant a_at a_slots a_variables a_steps (qr_wd G) (qr_cn G) a_added a_own a_ownPhase a_storedPhase a_readPhase a_racePhase a_storedBy a_readBy a_readByMore a_doneCount := by
  induction r with
  | zero =>
    intro f_waits f_ended f_races f_over a_at a_slots a_variables a_steps a_added a_own a_ownPhase a_storedPhase a_readPhase a_racePhase a_storedBy a_readBy a_readByMore a_doneCount g ks x m hx hm hx6 hI hJ hd
    obtain ⟨q, rfl⟩ : ∃ q, m = q + 1 := ⟨m - 1, by omega⟩
    have hg : ∀ t, t < n → (g t).2.2 = (F t).2 ∧ (g t).1 ≤ P N + 1 ∧ (qt_fl (F t).2 = 1 → (g t).1 = P (F t).1) := by
      intro t ht
      obtain ⟨j1, j2, j3⟩ := hJ t ht
      rw [qt_xn_st (hd t ht (by omega))] at j2
      rw [j2]
      rw [j2] at j1
      exact ⟨(hfin t ht).1, j1.1, (hfin t ht).2⟩
    unfold wX_run_94
    refine br_t (nI_le (by omega) (by omega)) ?_
    unfold wpX_commit
    dsimp only
    refine ⟨65, ?_⟩
    have hh := qx_commit (n := n) (ph := ph + 1) (S := fun t => qt_S (F t).2) (ow := fun t => qt_ow (F t).2) (w := qr_wd G) (c0 := qr_cn G) (ad := a_added) (post := fun u => match u with | (f_tokens, f_length, f_fault, f_compiled, f_open, f_waits, f_ended, f_threads, f_arg, f_phase, f_races, f_ran, f_over, a_kind, a_value, a_op, a_slot, a_statement, a_number, a_openKind, a_openOut, a_openStart, a_isConstant, a_constant, a_at, a_slots, a_variables, a_steps, a_words, a_counters, a_added, a_own, a_ownPhase, a_storedPhase, a_readPhase, a_racePhase, a_storedBy, a_readBy, a_readByMore, a_doneCount) => J65 f_tokens f_length f_fault f_compiled f_open f_waits f_ended f_threads f_arg f_phase f_races f_ran f_over a_kind a_value a_op a_slot a_statement a_number a_openKind a_openOut a_openStart a_isConstant a_constant a_at a_slots a_variables a_steps a_words a_counters a_added a_own a_ownPhase a_storedPhase a_readPhase a_racePhase a_storedBy a_readBy a_readByMore a_doneCount)
      (f_tokens := f_tokens) (f_length := f_length) (f_fault := f_fault) (f_compiled := f_compiled) (f_open := f_open) (f_waits := f_waits) (f_ended := f_ended) (f_arg := ag) (f_races := f_races) (f_ran := f_ran) (f_over := f_over) (a_kind := a_kind) (a_value := a_value) (a_op := op) (a_slot := sl) (a_statement := st) (a_number := nu) (a_openKind := a_openKind) (a_openOut := a_openOut) (a_openStart := a_openStart) (a_isConstant := a_isConstant) (a_constant := a_constant) (a_at := a_at) (a_slots := a_slots) (a_variables := a_variables) (a_steps := a_steps) (a_own := a_own) (a_ownPhase := a_ownPhase) (a_storedPhase := a_storedPhase) (a_readPhase := a_readPhase) (a_racePhase := a_racePhase) (a_storedBy := a_storedBy) (a_readBy := a_readBy) (a_readByMore := a_readByMore) (a_doneCount := a_doneCount) hn1 hn ?_ ?_ ?_ 64 (i := 0) (f := 65) (by omega) (by omega)
    · rw [qr_mix0, qr_mix0, qr_mix0] at hh
      exact hh
    · intro t ht i hi
      obtain ⟨_, b⟩ := hI.1 t ht
      obtain ⟨b1, b2, b3, b4⟩ := b i hi
      rw [(hg t ht).1] at b2 b3
      exact ⟨b2, b3⟩
    · intro i hi
      rw [(hI.2.2.1.2 i hi).1.2.1]
      constructor
      · intro ⟨t, h1, h2⟩
        dsimp only at h2
        rw [(hg t h1).1] at h2
        exact ⟨t, h1, h2⟩
      · intro ⟨t, h1, h2⟩
        refine ⟨t, h1, ?_⟩
        dsimp only
        rw [(hg t h1).1]
        exact h2
    · exact hJ65 _ _ _ _ _ _ _ _ _ _ _ _ _ _ _ _ _ _ (qx_end hp hF _ _ _ _ _ _ _ _ _ _ _ _ _ _ _ _ _ _ hI hg)
  | succ r ih =>
    intro f_waits f_ended f_races f_over a_at a_slots a_variables a_steps a_added a_own a_ownPhase a_storedPhase a_readPhase a_racePhase a_storedBy a_readBy a_readByMore a_doneCount g ks x m hx hm hx6 hI hJ hd
    by_cases hnx : n ≤ x
    · exact ih _ _ _ _ _ _ _ _ _ _ _ _ _ _ _ _ _ _ (by omega) (by omega) hx6 hI hJ hd
    · obtain ⟨q, rfl⟩ : ∃ q, m = q + 1 := ⟨m - 1, by omega⟩
      have e8 : nI x + 8 = nI (x + 8) := nI_add x 8
      unfold wX_run_94
      refine br_f (nI_ge (by omega) (by omega)) ?_
      rw [e8]
      refine pk_le n (x + 8) (fun hle => ?_) (fun hgt => ?_)
      · unfold wX_run_121
        refine qx_together (f := x) (e := n) hC hn (by omega) (Nat.le_refl n) hp _ _ _ _ _ _ _ _ _ _ _ _ _ _ _ _ _ _ hI hJ ?_
        intro f_waits f_ended f_races f_over a_at a_slots a_variables a_steps a_added a_own a_ownPhase a_storedPhase a_readPhase a_racePhase a_storedBy a_readBy a_readByMore a_doneCount g' ks' hI' hJ' hfr' hdn
        refine nm_r e8 ?_
        refine ih _ _ _ _ _ _ _ _ _ _ _ _ _ _ _ _ _ _ (by omega) (by omega) (by omega) hI' hJ' (fun t ht1 ht2 => ?_)
        by_cases htx : t < x
        · rw [hfr' t (Or.inl htx)]
          exact hd t ht1 htx
        · exact hdn t (by omega) ht1
      · unfold wX_run_121
        refine qx_together (f := x) (e := x + 8) hC hn (by omega) (by omega) hp _ _ _ _ _ _ _ _ _ _ _ _ _ _ _ _ _ _ hI hJ ?_
        intro f_waits f_ended f_races f_over a_at a_slots a_variables a_steps a_added a_own a_ownPhase a_storedPhase a_readPhase a_racePhase a_storedBy a_readBy a_readByMore a_doneCount g' ks' hI' hJ' hfr' hdn
        refine nm_r e8 ?_
        refine ih _ _ _ _ _ _ _ _ _ _ _ _ _ _ _ _ _ _ (by omega) (by omega) (by omega) hI' hJ' (fun t ht1 ht2 => ?_)
        by_cases htx : t < x
        · rw [hfr' t (Or.inl htx)]
          exact hd t ht1 htx
        · exact hdn t (by omega) ht2
/-- a phase of the component -/
theorem qx_phase {post : Int32 → SX → Prop} {J65 : Int32 → Int32 → Int32 → Int32 → Int32 → Int32 → Int32 → Int32 → Int32 → Int32 → Int32 → Int32 → Int32 → (Nat → Int32) → (Nat → Int32) → (Nat → Int32) → (Nat → Int32) → (Nat → Int32) → (Nat → Int32) → (Nat → Int32) → (Nat → Int32) → (Nat → Int32) → (Nat → Int32) → (Nat → Int32) → (Nat → Int32) → (Nat → Int32) → (Nat → Int32) → (Nat → Int32) → (Nat → Int32) → (Nat → Int32) → (Nat → Int32) → (Nat → Int32) → (Nat → Int32) → (Nat → Int32) → (Nat → Int32) → (Nat → Int32) → (Nat → Int32) → (Nat → Int32) → (Nat → Int32) → (Nat → Int32) → Prop} {x3 : Int32} (hC : qc_CODE N K V op sl st nu P Q e1 e2 tg B) (hn1 : 1 ≤ n) (hn : n ≤ 32) (hp : ph + 1 < 512) (hGI : qr_I n ph B G)
    (hF : ∀ t, t < n → qr_F N K V op sl st nu P e1 e2 tg B (nI n) ag ph G t (F t))
    (hJ65 : ∀ (f_waits f_ended f_races f_over : Int32) (a_at a_slots a_variables a_steps a_added a_own a_ownPhase a_storedPhase a_readPhase a_racePhase a_storedBy a_readBy a_readByMore a_doneCount : Nat → Int32) {a_words a_counters : Nat → Int32}, qr_X P (P N) n (ph + 1) (qr_nx n G F) f_ended f_races f_over a_at a_variables a_steps a_words a_counters a_added a_ownPhase a_storedPhase a_readPhase a_racePhase a_doneCount → J65 f_tokens f_length f_fault f_compiled f_open f_waits f_ended (nI n) ag (nI (ph + 1)) f_races f_ran f_over a_kind a_value op sl st nu a_openKind a_openOut a_openStart a_isConstant a_constant a_at a_slots a_variables a_steps a_words a_counters a_added a_own a_ownPhase a_storedPhase a_readPhase a_racePhase a_storedBy a_readBy a_readByMore a_doneCount) (f_waits f_ended f_races f_over : Int32) (a_at a_slots a_variables a_steps a_added a_own a_ownPhase a_storedPhase a_readPhase a_racePhase a_storedBy a_readBy a_readByMore a_doneCount : Nat → Int32) {a_words a_counters : Nat → Int32}
    (hX : qr_X P (P N) n ph G f_ended f_races f_over a_at a_variables a_steps a_words a_counters a_added a_ownPhase a_storedPhase a_readPhase a_racePhase a_doneCount) :
    ∃ n94 : Nat, wX_run_94 post J65 (nI n) x3 n94 0 f_tokens f_length f_fault f_compiled f_open f_ended f_ended (nI n) ag (nI (ph + 1)) f_races f_ran f_over a_kind a_value op sl st nu a_openKind a_openOut a_openStart a_isConstant a_constant a_at a_slots a_variables a_steps a_words a_counters a_added a_own a_ownPhase a_storedPhase a_readPhase a_racePhase a_storedBy a_readBy a_readByMore a_doneCount := by
  have h9 := hC.2.2.2.2.2.2.2.2.1
  have hfx : ∃ q : Nat → (qt_X × Nat), ∀ t, t < n → qt_xn op sl st nu (qr_cn G) (nI n) ag t (q t).2 ((a_at t).toNatClampNeg, (fun s => a_slots (32 * s + t)), qr_c0 G t) = (q t).1 ∧ (q t).1.2.2 = (F t).2 ∧ (qt_fl (F t).2 = 1 → (q t).1.1 = P (F t).1) := by
    apply (Classical.skolem (p := fun (t : Nat) (q : qt_X × Nat) => t < n → qt_xn op sl st nu (qr_cn G) (nI n) ag t q.2 ((a_at t).toNatClampNeg, (fun s => a_slots (32 * s + t)), qr_c0 G t) = q.1 ∧ q.1.2.2 = (F t).2 ∧ (qt_fl (F t).2 = 1 → q.1.1 = P (F t).1))).mp
    intro t
    by_cases ht : t < n
    · obtain ⟨⟨q, q1, q2, q3⟩, _⟩ := hX.2.2.2.2.1 t ht
      obtain ⟨_, _, _, _, _, _, _, f8⟩ := hF t ht
      obtain ⟨nX, p', s', z1, z2⟩ := f8 (a_at t).toNatClampNeg (fun s => a_slots (32 * s + t)) (fun he => by rw [q2, nI_clamp (by omega)]; exact q3 he)
      exact ⟨((p', s', (F t).2), nX), fun _ => ⟨z1, rfl, z2⟩⟩
    · exact ⟨((0, fun _ => 0, qr_c0 G t), 0), fun h => absurd h ht⟩
  obtain ⟨q, hq⟩ := hfx
  have hI := qx_begin hp h9 hGI f_waits f_ended f_races f_over a_at a_slots a_variables a_steps a_added a_own a_ownPhase a_storedPhase a_readPhase a_racePhase a_storedBy a_readBy a_readByMore a_doneCount hX
  rw [hX.1, hX.2.1]
  refine ⟨n + 1, ?_⟩
  refine qx_r94 (fin := fun t => (q t).1) hC hn1 hn hp hF (fun t ht => (hq t ht).2) hJ65 n _ _ _ _ _ _ _ _ _ _ _ _ _ _ _ _ _ _ (ks := fun t => (q t).2) (x := 0) (by omega) (by omega) (by omega) hI (fun t ht => ⟨?_, (hq t ht).1, ?_⟩) (fun t _ h => absurd h (Nat.not_lt_zero t))
  · obtain ⟨⟨q, q1, q2, q3⟩, _⟩ := hX.2.2.2.2.1 t ht
    obtain ⟨g1, g2, g3⟩ := hGI t ht
    refine ⟨?_, fun h => ?_, g2, ?_⟩
    · dsimp only
      rw [q2, nI_clamp (by omega)]
      exact q1
    · have he : qr_en G t = false := by
        have h' : (if qr_en G t = true then 2 else 0) = 0 := h
        cases hh : qr_en G t
        · rfl
        · rw [hh] at h'
          exact absurd h' (by decide)
      dsimp only
      rw [q2, nI_clamp (by omega), q3 he]
      exact (hC.2.2.1 _ g1).2
    · show (if qr_en G t = true then 2 else 0) ≤ 2
      split <;> omega
  · obtain ⟨_, f2, _⟩ := hF t ht
    rw [(hq t ht).2.1]
    exact f2
end
end
section
/-! the reference's close, opener, operator, leaf, memory, solve -/
theorem qc_dp_le (K : Nat → Nat) : ∀ i, qc_dp K i ≤ i
  | 0 => Nat.le_refl 0
  | i + 1 => by
    have h := qc_dp_le K i
    show (if K i = 3 ∨ K i = 6 then qc_dp K i + 1 else if K i = 5 then qc_dp K i - 1 else qc_dp K i) ≤ i + 1
    split
    · omega
    · split <;> omega
section
variable {N : Nat} {kd V : Nat → Int32} {K : Nat → Nat} {b q e : Nat} {els : Bool} {f_tokens f_threads f_argument f_phases f_races f_behind f_over : Int32} {a_kind a_value a_open a_words a_counters a_own a_next a_storers a_readers a_added a_variables a_at a_steps a_finished a_done a_stack : Nat → Int32}
theorem qy_c50 {post : Int32 → Prop} {J8 : Int32 → Int32 → Int32 → Prop} {x2 x4 : Int32} {D k : Nat} (hD : D < 128) (hk : k < 128) (hx : x2 = if els = true then 1 else 0)
    (h1 : (D = 0 ∨ (els = true ∧ D = 1 ∧ k = 4)) → J8 (nI D) x4 1) (h0 : ¬ (D = 0 ∨ (els = true ∧ D = 1 ∧ k = 4)) → J8 (nI D) x4 0) : wY_close_50 post J8 x2 (nI D) x4 (nI k) f_tokens f_threads f_argument f_phases f_races f_behind f_over a_kind a_value a_open a_words a_counters a_own a_next a_storers a_readers a_added a_variables a_at a_steps a_finished a_done a_stack := by
  unfold wY_close_50
  refine pk_eq D 0 (fun g => h1 (Or.inl g)) (fun g => pk_eq D 1 (fun g1 => pk_eq k 4 (fun g4 => ?_) (fun g4 => h0 (by omega))) (fun g1 => h0 (by omega)))
  rw [hx]
  cases els
  · refine br_t rfl (h0 ?_)
    intro z
    rcases z with z | z
    · exact g z
    · exact absurd z.1 (by decide)
  · exact br_f (by decide) (h1 (Or.inr ⟨rfl, g1, g4⟩))
theorem qy_cl8 {post : Int32 → Prop} {x2 : Int32} (hT : qe_T N kd V K) (hx : x2 = if els = true then 1 else 0) (hC : qc_Cl K b els q e) (hb : qc_dp K (q + 1) = b + 1) (he : e < N) (h : post (nI e)) (r : Nat) :
    ∀ {i n : Nat}, i + (r + 1) = e → q ≤ i → r + 1 < n → wY_close_8 post x2 f_tokens f_threads f_argument f_phases f_races f_behind f_over kd a_value a_open a_words a_counters a_own a_next a_storers a_readers a_added a_variables a_at a_steps a_finished a_done a_stack n (nI (qc_dp K (i + 1) - b)) (nI i) 0 := by
  obtain ⟨hN, hT⟩ := hT
  obtain ⟨c1, c2, c3⟩ := hC
  induction r with
  | zero =>
    intro i n hi hq hn
    obtain ⟨m, rfl⟩ : ∃ m, n = m + 1 + 1 := ⟨n - 2, by omega⟩
    have ei : e = i + 1 := by omega
    subst ei
    obtain ⟨tk, tok, _⟩ := hT (i + 1) he
    have k31 : K (i + 1) ≤ 31 := by rcases tok with h | h | h <;> omega
    have vi : vp_in (nI (i + 1)) 64 := vp_in_nI (by omega) (by decide)
    have ci : (nI (i + 1)).toNatClampNeg = i + 1 := nI_clamp (by omega)
    have dl := qc_dp_le K (i + 1)
    have dl2 := qc_dp_le K (i + 1 + 1)
    have hbd : b < qc_dp K (i + 1) := by
      by_cases hqi : q = i
      · rw [← hqi, hb]; omega
      · exact (c3 i (by omega) (by omega)).1
    have hJ : wY_close_8 post x2 f_tokens f_threads f_argument f_phases f_races f_behind f_over kd a_value a_open a_words a_counters a_own a_next a_storers a_readers a_added a_variables a_at a_steps a_finished a_done a_stack (m + 1) (nI (qc_dp K (i + 1 + 1) - b)) (nI (i + 1)) 1 := by
      unfold wY_close_8
      exact br_f (by decide) h
    have hfd : qc_dp K (i + 1 + 1) - b = 0 ∨ (els = true ∧ qc_dp K (i + 1 + 1) - b = 1 ∧ K (i + 1) = 4) := by
      rcases c2 with g | ⟨g1, g2, g3⟩
      · left; omega
      · right; exact ⟨g1, by omega, g3⟩
    have h50 : wY_close_50 post (wY_close_8 post x2 f_tokens f_threads f_argument f_phases f_races f_behind f_over kd a_value a_open a_words a_counters a_own a_next a_storers a_readers a_added a_variables a_at a_steps a_finished a_done a_stack (m + 1)) x2 (nI (qc_dp K (i + 1 + 1) - b)) (nI (i + 1)) (nI (K (i + 1))) f_tokens f_threads f_argument f_phases f_races f_behind f_over kd a_value a_open a_words a_counters a_own a_next a_storers a_readers a_added a_variables a_at a_steps a_finished a_done a_stack := qy_c50 (by omega) (by omega) hx (fun _ => hJ) (fun g => absurd hfd g)
    unfold wY_close_8
    refine br_t rfl (nm_r (nI_1 i) ⟨vi, nm_r (e' := nI (K (i + 1))) (by rw [ci]; exact tk) ?_⟩)
    by_cases ko : K (i + 1) = 3 ∨ K (i + 1) = 6
    · have ed := qc_dp_o ko
      rw [ed, show qc_dp K (i + 1) + 1 - b = qc_dp K (i + 1) - b + 1 by omega] at h50
      have h38 : wY_close_38 post (wY_close_8 post x2 f_tokens f_threads f_argument f_phases f_races f_behind f_over kd a_value a_open a_words a_counters a_own a_next a_storers a_readers a_added a_variables a_at a_steps a_finished a_done a_stack (m + 1)) x2 (nI (qc_dp K (i + 1) - b)) (nI (i + 1)) (nI (K (i + 1))) f_tokens f_threads f_argument f_phases f_races f_behind f_over kd a_value a_open a_words a_counters a_own a_next a_storers a_readers a_added a_variables a_at a_steps a_finished a_done a_stack := by
        unfold wY_close_38
        refine nm_r (nI_1 _) ?_
        unfold wY_close_41
        exact br_f (qz_ne (b := 5) (by omega) (by omega) (by decide)) h50
      exact br_c (fun _ => h38) (fun g3 => br_c (fun _ => h38) (fun g6 => absurd ko (fun z => by
        rcases z with z | z
        · exact g3 (by rw [z]; rfl)
        · exact g6 (by rw [z]; rfl))))
    · refine br_f (qz_ne (b := 3) (by omega) (by omega) (by decide)) (br_f (qz_ne (b := 6) (by omega) (by omega) (by decide)) ?_)
      unfold wY_close_41
      refine pk_eq (K (i + 1)) 5 (fun g5 => ?_) (fun g5 => ?_)
      · have ed := qc_dp_c g5
        rw [ed, show qc_dp K (i + 1) - 1 - b = qc_dp K (i + 1) - b - 1 by omega] at h50
        exact nm_r (qz_mm (by omega)) h50
      · have ed := qc_dp_n (K := K) (i := i + 1) (by omega) (by omega) g5
        rw [ed] at h50
        exact h50
  | succ r ih =>
    intro i n hi hq hn
    obtain ⟨m, rfl⟩ : ∃ m, n = m + 1 := ⟨n - 1, by omega⟩
    obtain ⟨tk, tok, _⟩ := hT (i + 1) (by omega)
    have k31 : K (i + 1) ≤ 31 := by rcases tok with h | h | h <;> omega
    have vi : vp_in (nI (i + 1)) 64 := vp_in_nI (by omega) (by decide)
    have ci : (nI (i + 1)).toNatClampNeg = i + 1 := nI_clamp (by omega)
    have dl := qc_dp_le K (i + 1)
    have dl2 := qc_dp_le K (i + 1 + 1)
    have hbd : b < qc_dp K (i + 1) := by
      by_cases hqi : q = i
      · rw [← hqi, hb]; omega
      · exact (c3 i (by omega) (by omega)).1
    obtain ⟨n1, n2⟩ := c3 (i + 1) (by omega) (by omega)
    have hJ := ih (i := i + 1) (n := m) (by omega) (by omega) (by omega)
    have hfd : ¬ (qc_dp K (i + 1 + 1) - b = 0 ∨ (els = true ∧ qc_dp K (i + 1 + 1) - b = 1 ∧ K (i + 1) = 4)) := by
      intro g
      rcases g with g | ⟨g1, g2, g3⟩
      · omega
      · exact n2 ⟨g1, by omega, g3⟩
    have h50 : wY_close_50 post (wY_close_8 post x2 f_tokens f_threads f_argument f_phases f_races f_behind f_over kd a_value a_open a_words a_counters a_own a_next a_storers a_readers a_added a_variables a_at a_steps a_finished a_done a_stack m) x2 (nI (qc_dp K (i + 1 + 1) - b)) (nI (i + 1)) (nI (K (i + 1))) f_tokens f_threads f_argument f_phases f_races f_behind f_over kd a_value a_open a_words a_counters a_own a_next a_storers a_readers a_added a_variables a_at a_steps a_finished a_done a_stack := qy_c50 (by omega) (by omega) hx (fun g => absurd g hfd) (fun _ => hJ)
    unfold wY_close_8
    refine br_t rfl (nm_r (nI_1 i) ⟨vi, nm_r (e' := nI (K (i + 1))) (by rw [ci]; exact tk) ?_⟩)
    by_cases ko : K (i + 1) = 3 ∨ K (i + 1) = 6
    · have ed := qc_dp_o ko
      rw [ed, show qc_dp K (i + 1) + 1 - b = qc_dp K (i + 1) - b + 1 by omega] at h50
      have h38 : wY_close_38 post (wY_close_8 post x2 f_tokens f_threads f_argument f_phases f_races f_behind f_over kd a_value a_open a_words a_counters a_own a_next a_storers a_readers a_added a_variables a_at a_steps a_finished a_done a_stack m) x2 (nI (qc_dp K (i + 1) - b)) (nI (i + 1)) (nI (K (i + 1))) f_tokens f_threads f_argument f_phases f_races f_behind f_over kd a_value a_open a_words a_counters a_own a_next a_storers a_readers a_added a_variables a_at a_steps a_finished a_done a_stack := by
        unfold wY_close_38
        refine nm_r (nI_1 _) ?_
        unfold wY_close_41
        exact br_f (qz_ne (b := 5) (by omega) (by omega) (by decide)) h50
      exact br_c (fun _ => h38) (fun g3 => br_c (fun _ => h38) (fun g6 => absurd ko (fun z => by
        rcases z with z | z
        · exact g3 (by rw [z]; rfl)
        · exact g6 (by rw [z]; rfl))))
    · refine br_f (qz_ne (b := 3) (by omega) (by omega) (by decide)) (br_f (qz_ne (b := 6) (by omega) (by omega) (by decide)) ?_)
      unfold wY_close_41
      refine pk_eq (K (i + 1)) 5 (fun g5 => ?_) (fun g5 => ?_)
      · have ed := qc_dp_c g5
        rw [ed, show qc_dp K (i + 1) - 1 - b = qc_dp K (i + 1) - b - 1 by omega] at h50
        exact nm_r (qz_mm (by omega)) h50
      · have ed := qc_dp_n (K := K) (i := i + 1) (by omega) (by omega) g5
        rw [ed] at h50
        exact h50
theorem qy_close {post : Int32 → Prop} {x2 : Int32} (hT : qe_T N kd V K) (hx : x2 = if els = true then 1 else 0) (hC : qc_Cl K b els q e) (hb : qc_dp K (q + 1) = b + 1) (he : e < N) (h : post (nI e)) :
    wpY_close post (f_tokens, f_threads, f_argument, f_phases, f_races, f_behind, f_over, kd, a_value, a_open, a_words, a_counters, a_own, a_next, a_storers, a_readers, a_added, a_variables, a_at, a_steps, a_finished, a_done, a_stack) (nI q) x2 := by
  have c1 := hC.1
  have hh := qy_cl8 (f_tokens := f_tokens) (f_threads := f_threads) (f_argument := f_argument) (f_phases := f_phases) (f_races := f_races) (f_behind := f_behind) (f_over := f_over) (a_value := a_value) (a_open := a_open) (a_words := a_words) (a_counters := a_counters) (a_own := a_own) (a_next := a_next) (a_storers := a_storers) (a_readers := a_readers) (a_added := a_added) (a_variables := a_variables) (a_at := a_at) (a_steps := a_steps) (a_finished := a_finished) (a_done := a_done) (a_stack := a_stack) hT hx hC hb he h (e - q - 1) (i := q) (n := e - q + 1) (by omega) (Nat.le_refl q) (by omega)
  rw [hb, show b + 1 - b = 1 by omega] at hh
  unfold wpY_close
  dsimp only
  exact ⟨e - q + 1, hh⟩
theorem qy_op4 {post : Int32 → Prop} {o : Nat} (hT : qe_T N kd V K) (hO : qc_Op K e o) (he : e < N) (h : post (nI o)) (r : Nat) :
    ∀ {i n : Nat}, i = o + (r + 1) → i ≤ e → r + 1 < n → wY_opener_4 post f_tokens f_threads f_argument f_phases f_races f_behind f_over kd a_value a_open a_words a_counters a_own a_next a_storers a_readers a_added a_variables a_at a_steps a_finished a_done a_stack n (nI (1 + qc_dp K i - qc_dp K e)) (nI i) := by
  obtain ⟨hN, hT⟩ := hT
  obtain ⟨o1, o2, o3, o4⟩ := hO
  induction r with
  | zero =>
    intro i n hi hie hn
    obtain ⟨m, rfl⟩ : ∃ m, n = m + 1 + 1 := ⟨n - 2, by omega⟩
    subst hi
    obtain ⟨tk, tok, _⟩ := hT o (by omega)
    have k31 : K o ≤ 31 := by rcases tok with h | h | h <;> omega
    have vi : vp_in (nI o) 64 := vp_in_nI (by omega) (by decide)
    have ci : (nI o).toNatClampNeg = o := nI_clamp (by omega)
    have dl := qc_dp_le K o
    have ed := qc_dp_o o3
    have eD : 1 + qc_dp K (o + (0 + 1)) - qc_dp K e = 1 := by
      show 1 + qc_dp K (o + 1) - qc_dp K e = 1
      rw [ed]
      omega
    rw [eD]
    have hJ : wY_opener_4 post f_tokens f_threads f_argument f_phases f_races f_behind f_over kd a_value a_open a_words a_counters a_own a_next a_storers a_readers a_added a_variables a_at a_steps a_finished a_done a_stack (m + 1) 0 (nI o) := by
      unfold wY_opener_4
      exact br_t (by decide) h
    unfold wY_opener_4
    refine br_f (by decide) (nm_r (e' := nI o) (pk_m1 o) ⟨vi, ?_⟩)
    rw [ci, tk]
    refine br_f (qz_ne (b := 5) (by omega) (by omega) (by decide)) ?_
    unfold wY_opener_24
    refine ⟨vi, ?_⟩
    rw [ci, tk]
    refine br_c (fun _ => nm_r (e' := 0) (by decide) hJ) (fun g3 => ⟨vi, br_c (fun _ => nm_r (e' := 0) (by decide) hJ) (fun g6 => absurd o3 (fun z => by
        rcases z with z | z
        · exact g3 (by rw [z]; rfl)
        · exact g6 (by rw [z]; rfl)))⟩)
  | succ r ih =>
    intro i n hi hie hn
    obtain ⟨m, rfl⟩ : ∃ m, n = m + 1 := ⟨n - 1, by omega⟩
    obtain ⟨j, rfl⟩ : ∃ j, i = j + 1 := ⟨i - 1, by omega⟩
    obtain ⟨tk, tok, _⟩ := hT j (by omega)
    have k31 : K j ≤ 31 := by rcases tok with h | h | h <;> omega
    have vi : vp_in (nI j) 64 := vp_in_nI (by omega) (by decide)
    have ci : (nI j).toNatClampNeg = j := nI_clamp (by omega)
    have dl := qc_dp_le K j
    have dl1 := qc_dp_le K (j + 1)
    have hj := o4 j (by omega) (by omega)
    have hj1 : qc_dp K e ≤ qc_dp K (j + 1) := by
      by_cases hje : j + 1 = e
      · rw [hje]; exact Nat.le_refl _
      · exact o4 (j + 1) (by omega) (by omega)
    have hJ := ih (i := j) (n := m) (by omega) (by omega) (by omega)
    have h24 : K j ≠ 3 → K j ≠ 6 → ∀ D : Int32, D = nI (1 + qc_dp K j - qc_dp K e) → wY_opener_24 post (wY_opener_4 post f_tokens f_threads f_argument f_phases f_races f_behind f_over kd a_value a_open a_words a_counters a_own a_next a_storers a_readers a_added a_variables a_at a_steps a_finished a_done a_stack m) D (nI j) f_tokens f_threads f_argument f_phases f_races f_behind f_over kd a_value a_open a_words a_counters a_own a_next a_storers a_readers a_added a_variables a_at a_steps a_finished a_done a_stack := by
      intro n3 n6 D hD
      rw [hD]
      unfold wY_opener_24
      refine ⟨vi, ?_⟩
      rw [ci, tk]
      exact br_f (qz_ne (b := 3) n3 (by omega) (by decide)) ⟨vi, br_f (qz_ne (b := 6) n6 (by omega) (by decide)) hJ⟩
    unfold wY_opener_4
    refine br_f (nI_ge (a := 0) (by omega) (by omega)) (nm_r (e' := nI j) (pk_m1 j) ⟨vi, ?_⟩)
    rw [ci, tk]
    refine pk_eq (K j) 5 (fun g5 => ?_) (fun g5 => ?_)
    · have ed := qc_dp_c g5
      refine nm_r (nI_1 _) ?_
      exact h24 (by omega) (by omega) _ (congrArg nI (by omega))
    · by_cases ko : K j = 3 ∨ K j = 6
      · have ed := qc_dp_o ko
        have hD : nI (1 + qc_dp K (j + 1) - qc_dp K e) + (-1) = nI (1 + qc_dp K j - qc_dp K e) := by
          rw [qz_mm (by omega)]
          exact congrArg nI (by omega)
        unfold wY_opener_24
        refine ⟨vi, ?_⟩
        rw [ci, tk]
        refine br_c (fun _ => nm_r hD hJ) (fun g3 => ⟨vi, br_c (fun _ => nm_r hD hJ) (fun g6 => absurd ko (fun z => by
          rcases z with z | z
          · exact g3 (by rw [z]; rfl)
          · exact g6 (by rw [z]; rfl)))⟩)
      · have ed := qc_dp_n (K := K) (i := j) (by omega) (by omega) g5
        exact h24 (by omega) (by omega) _ (congrArg nI (by omega))
theorem qy_opener {post : Int32 → Prop} {o : Nat} (hT : qe_T N kd V K) (hO : qc_Op K e o) (he : e < N) (h : post (nI o)) : wpY_opener post (f_tokens, f_threads, f_argument, f_phases, f_races, f_behind, f_over, kd, a_value, a_open, a_words, a_counters, a_own, a_next, a_storers, a_readers, a_added, a_variables, a_at, a_steps, a_finished, a_done, a_stack) (nI e) := by
  have c1 := hO.1
  have hh := qy_op4 (f_tokens := f_tokens) (f_threads := f_threads) (f_argument := f_argument) (f_phases := f_phases) (f_races := f_races) (f_behind := f_behind) (f_over := f_over) (a_value := a_value) (a_open := a_open) (a_words := a_words) (a_counters := a_counters) (a_own := a_own) (a_next := a_next) (a_storers := a_storers) (a_readers := a_readers) (a_added := a_added) (a_variables := a_variables) (a_at := a_at) (a_steps := a_steps) (a_finished := a_finished) (a_done := a_done) (a_stack := a_stack) hT hO he h (e - o - 1) (i := e) (n := e - o + 1) (by omega) (Nat.le_refl e) (by omega)
  rw [show 1 + qc_dp K e - qc_dp K e = 1 by omega] at hh
  unfold wpY_opener
  dsimp only
  exact ⟨e - o + 1, hh⟩
theorem qy_operator {post : Int32 → Prop} {k : Nat} {a b c : Int32} (hk : 20 ≤ k) (hk2 : k ≤ 31) (h : post (qe_op k a b c)) : wpY_operator post (f_tokens, f_threads, f_argument, f_phases, f_races, f_behind, f_over, a_kind, a_value, a_open, a_words, a_counters, a_own, a_next, a_storers, a_readers, a_added, a_variables, a_at, a_steps, a_finished, a_done, a_stack) (nI k) a b c := by
  unfold wpY_operator
  dsimp only
  rcases (show k = 20 ∨ k = 21 ∨ k = 22 ∨ k = 23 ∨ k = 24 ∨ k = 25 ∨ k = 26 ∨ k = 27 ∨ k = 28 ∨ k = 29 ∨ k = 30 ∨ k = 31 by omega) with rfl | rfl | rfl | rfl | rfl | rfl | rfl | rfl | rfl | rfl | rfl | rfl
  · have h' : post (a + b) := h
    repeat (first | refine br_f (by decide) ?_ | refine br_t (by decide) ?_)
    exact h'
  · have h' : post (a - b) := h
    repeat (first | refine br_f (by decide) ?_ | refine br_t (by decide) ?_)
    exact h'
  · have h' : post (a * b) := h
    repeat (first | refine br_f (by decide) ?_ | refine br_t (by decide) ?_)
    exact h'
  · have h' : post (if b = 0 then 0 else a / b) := h
    repeat (first | refine br_f (by decide) ?_ | refine br_t (by decide) ?_)
    exact ⟨(qz_if h').1, fun g => ⟨g, (qz_if h').2 g⟩⟩
  · have h' : post (if b = 0 then 0 else a - a / b * b) := h
    repeat (first | refine br_f (by decide) ?_ | refine br_t (by decide) ?_)
    exact ⟨(qz_if h').1, fun g => ⟨g, (qz_if h').2 g⟩⟩
  · have h' : post (if a = b then 1 else 0) := h
    repeat (first | refine br_f (by decide) ?_ | refine br_t (by decide) ?_)
    exact qz_if h'
  · have h' : post (if b ≤ a then 0 else 1) := h
    repeat (first | refine br_f (by decide) ?_ | refine br_t (by decide) ?_)
    exact qz_if h'
  · have h' : post (if a = 0 then 0 else if b = 0 then 0 else 1) := h
    repeat (first | refine br_f (by decide) ?_ | refine br_t (by decide) ?_)
    exact ⟨(qz_if h').1, fun g => qz_if ((qz_if h').2 g)⟩
  · have h' : post (if a = 0 then (if b = 0 then 0 else 1) else 1) := h
    repeat (first | refine br_f (by decide) ?_ | refine br_t (by decide) ?_)
    exact ⟨fun g => qz_if ((qz_if h').1 g), (qz_if h').2⟩
  · have h' : post (if a = 0 then 1 else 0) := h
    repeat (first | refine br_f (by decide) ?_ | refine br_t (by decide) ?_)
    exact qz_if h'
  · have h' : post (-a) := h
    repeat (first | refine br_f (by decide) ?_ | refine br_t (by decide) ?_)
    exact h'
  · have h' : post (if a = 0 then c else b) := h
    repeat (first | refine br_f (by decide) ?_ | refine br_t (by decide) ?_)
    exact qz_if h'
end
/-- bits of a table of sets: X i's bit s is C s i -/
def qy_B (X : Nat → Int32) (C : Nat → Nat → Bool) : Prop := ∀ i, i < 64 → ∀ s, s < 32 → bt (X i) s = C s i
/-- as C, but thread t has R -/
def qy_C (C : Nat → Nat → Bool) (t : Nat) (R : Nat → Bool) : Nat → Nat → Bool := fun s => if s = t then R else C s
theorem qy_B_up {X : Nat → Int32} {C : Nat → Nat → Bool} {t i : Nat} {R : Nat → Bool} (ht : t < 32) (hi : i < 64) (h : qy_B X (qy_C C t R)) :
    qy_B (upd X i (X i ||| ((1 : Int32) <<< (nI t &&& 31)))) (qy_C C t (fun j => if j = i then true else R j)) := by
  intro j hj s hs
  have h1 := h j hj s hs
  unfold qy_C at h1 ⊢
  by_cases ej : j = i
  · subst ej
    rw [pk_us, qz_bit ht hs, h1]
    by_cases es : s = t
    · rw [if_pos es, if_pos es, if_pos rfl, decide_eq_true es, Bool.or_true]
    · rw [if_neg es, if_neg es, decide_eq_false es, Bool.or_false]
  · rw [pk_un ej, h1]
    by_cases es : s = t
    · rw [if_pos es, if_pos es, if_neg ej]
    · rw [if_neg es, if_neg es]
end
section
/-! the reference's leaf, memory, solve -/
section
variable {N : Nat} {kd V : Nat → Int32} {K : Nat → Nat} {f e t i k : Nat} {C : Nat → Nat → Bool} {R : Nat → Bool} {c : qt_C} {f_tokens f_threads f_argument f_phases f_races f_behind f_over : Int32} {a_kind a_value a_open a_words a_counters a_own a_next a_storers a_readers a_added a_variables a_at a_steps a_finished a_done a_stack : Nat → Int32}
theorem qy_leaf {post : Int32 → Prop} (ht : t < 32) (hi : i < 64) (hk : kd i = nI k) (k1 : 10 ≤ k) (k2 : k < 15) (h11 : k = 11 → qe_V6 (V i)) (hv : ∀ v, v < 6 → a_variables (6 * t + v) = qt_vr c v)
    (h : post (qe_lf (qt_env a_counters f_threads f_argument t c) k (V i))) : wpY_leaf post (f_tokens, f_threads, f_argument, f_phases, f_races, f_behind, f_over, kd, V, a_open, a_words, a_counters, a_own, a_next, a_storers, a_readers, a_added, a_variables, a_at, a_steps, a_finished, a_done, a_stack) (nI t) (nI i) := by
  have vi : vp_in (nI i) 64 := vp_in_nI hi (by decide)
  have ci : (nI i).toNatClampNeg = i := nI_clamp (by omega)
  unfold wpY_leaf
  dsimp only
  rw [ci]
  refine ⟨vi, nm_r hk ?_⟩
  rcases (show k = 10 ∨ k = 11 ∨ k = 12 ∨ k = 13 ∨ k = 14 by omega) with g | g | g | g | g
  · subst g
    repeat (first | refine br_f (by decide) ?_ | refine br_t (by decide) ?_)
    exact ⟨vi, h⟩
  · subst g
    obtain ⟨v, v1, v2⟩ := h11 rfl
    have ev : (6 : Int32) * nI t + V i = nI (6 * t + v) := by
      rw [v2]
      exact qz_lin 6 t v
    have h1 : post (qt_vr c (V i).toNatClampNeg) := h
    rw [v2, nI_clamp (by omega)] at h1
    repeat (first | refine br_f (by decide) ?_ | refine br_t (by decide) ?_)
    refine ⟨vi, ?_⟩
    rw [ev, nI_clamp (show 6 * t + v < 2 ^ 31 by omega), hv v v1]
    exact ⟨vp_in_nI (by omega) (by decide), h1⟩
  · subst g
    repeat (first | refine br_f (by decide) ?_ | refine br_t (by decide) ?_)
    exact h
  · subst g
    repeat (first | refine br_f (by decide) ?_ | refine br_t (by decide) ?_)
    exact h
  · subst g
    repeat (first | refine br_f (by decide) ?_ | refine br_t (by decide) ?_)
    exact h
theorem qy_s115 {post : Int32 → SY → Prop} {J40 : Int32 → Int32 → Int32 → Int32 → Int32 → Int32 → Int32 → Int32 → Int32 → (Nat → Int32) → (Nat → Int32) → (Nat → Int32) → (Nat → Int32) → (Nat → Int32) → (Nat → Int32) → (Nat → Int32) → (Nat → Int32) → (Nat → Int32) → (Nat → Int32) → (Nat → Int32) → (Nat → Int32) → (Nat → Int32) → (Nat → Int32) → (Nat → Int32) → (Nat → Int32) → Prop} {hgt : Nat} {a b d : Int32} (ht : t < 32) (hi : i < 64) (hi1 : 1 ≤ i) (hk : kd i = nI k) (k1 : 10 ≤ k) (k2 : k ≤ 31) (k3 : k ≤ 16 ∨ 20 ≤ k) (h11 : k = 11 → qe_V6 (V i)) (har : qe_ar k ≤ hgt) (hh : hgt ≤ 16)
    (hv : ∀ v, v < 6 → a_variables (6 * t + v) = qt_vr c v) (ho : ∀ j, j < 64 → a_own j = qt_ow c j) (hB : qy_B a_readers (qy_C C t R))
    (hJ : ∀ rd : Nat → Int32, qy_B rd (qy_C C t (qe_r k a R)) → J40 (nI (hgt - qe_ar k + 1)) (nI (i - 1)) f_tokens f_threads f_argument f_phases f_races f_behind f_over kd V a_open a_words a_counters a_own a_next a_storers rd a_added a_variables a_at a_steps a_finished a_done (upd a_stack (hgt - qe_ar k) (qe_v (qt_env a_counters f_threads f_argument t c) k (V i) a b d))) :
    wY_solve_115 post J40 (nI t) (nI f) (nI e) (nI hgt) (nI i) (nI k) a b d f_tokens f_threads f_argument f_phases f_races f_behind f_over kd V a_open a_words a_counters a_own a_next a_storers a_readers a_added a_variables a_at a_steps a_finished a_done a_stack := by
  have x5 : nI hgt - nI (qe_ar k) = nI (hgt - qe_ar k) := pk_sub har
  have v5 : vp_in (nI (hgt - qe_ar k)) 64 := vp_in_nI (by omega) (by decide)
  have c5 : (nI (hgt - qe_ar k)).toNatClampNeg = hgt - qe_ar k := nI_clamp (by omega)
  have x6 : nI i + (-1) = nI (i - 1) := qz_mm hi1
  unfold wY_solve_115
  refine qw_operands (by omega) k3 ?_
  refine nm_r x5 ?_
  rw [c5]
  refine pk_le 15 k (fun g15 => pk_le 17 k (fun g17 => ?_) (fun g17 => ?_)) (fun g15 => ?_)
  · have er : qe_r k a R = R := by
      unfold qe_r
      rw [if_neg (by omega)]
    refine qy_operator (by omega) k2 ⟨v5, nm_r (e' := upd a_stack (hgt - qe_ar k) (qe_v (qt_env a_counters f_threads f_argument t c) k (V i) a b d)) (by rw [qe_v_op (by omega)]) (nm_r (nI_1 _) (nm_r x6 ?_))⟩
    exact hJ a_readers (by rw [er]; exact hB)
  · obtain ⟨w1, w2⟩ := qz_wE a
    have cw : (nI (qz_w a)).toNatClampNeg = qz_w a := nI_clamp (by omega)
    have vw : vp_in (nI (qz_w a)) 64 := vp_in_nI w1 (by decide)
    rw [w2]
    unfold wpY_memory
    dsimp only
    rw [cw]
    refine pk_eq k 16 (fun g16 => ⟨vw, v5, ?_⟩) (fun g16 => ⟨vw, vw, ?_⟩)
    · have er : qe_r k a R = R := by
        unfold qe_r
        rw [if_neg (by omega)]
      have ev : qe_v (qt_env a_counters f_threads f_argument t c) k (V i) a b d = a_counters (qz_w a) := by
        unfold qe_v
        rw [if_neg (by omega), if_neg (by omega), if_pos g16]
        rfl
      rw [ev] at hJ
      exact nm_e (nm_r (nI_1 _) (nm_r x6 (hJ a_readers (by rw [er]; exact hB))))
    · have e15 : k = 15 := by omega
      have er : qe_r k a R = fun j => if j = qz_w a then true else R j := by
        unfold qe_r
        rw [if_pos e15]
      have ev : qe_v (qt_env a_counters f_threads f_argument t c) k (V i) a b d = a_own (qz_w a) := by
        unfold qe_v
        rw [if_neg (by omega), if_pos e15, ho _ w1]
        rfl
      rw [ev, er] at hJ
      exact nm_e ⟨vw, v5, nm_e (nm_r (nI_1 _) (nm_r x6 (hJ _ (qy_B_up ht w1 hB))))⟩
  · have er : qe_r k a R = R := by
      unfold qe_r
      rw [if_neg (by omega)]
    have ev : qe_v (qt_env a_counters f_threads f_argument t c) k (V i) a b d = qe_lf (qt_env a_counters f_threads f_argument t c) k (V i) := by
      unfold qe_v
      rw [if_pos (by omega)]
    rw [ev] at hJ
    refine qy_leaf ht hi hk k1 (by omega) h11 hv ⟨v5, nm_e (nm_r (nI_1 _) (nm_r x6 ?_))⟩
    exact hJ a_readers (by rw [er]; exact hB)
/-- from the last token to the first -/
theorem qy_s40 {post : Int32 → SY → Prop} (hT : qe_T N kd V K) (hP : qe_P K f e) (hf : 1 ≤ f) (he : e ≤ N) (ht : t < 32)
    (hv : ∀ v, v < 6 → a_variables (6 * t + v) = qt_vr c v) (ho : ∀ j, j < 64 → a_own j = qt_ow c j)
    (h : ∀ (a_readers a_stack : Nat → Int32), qy_B a_readers (qy_C C t (qt_ev (qt_env a_counters f_threads f_argument t c) K V f e R).2) → post ((qt_ev (qt_env a_counters f_threads f_argument t c) K V f e R).1 0) (f_tokens, f_threads, f_argument, f_phases, f_races, nI e, f_over, kd, V, a_open, a_words, a_counters, a_own, a_next, a_storers, a_readers, a_added, a_variables, a_at, a_steps, a_finished, a_done, a_stack)) (r : Nat) :
    ∀ {d n : Nat} {a_readers a_stack : Nat → Int32}, d + r = e - f → r < n → (∀ j, j < qe_h K e d → a_stack j = (qe_y (qt_env a_counters f_threads f_argument t c) K V e (fun _ => 0, R) d).1 j) → qy_B a_readers (qy_C C t (qe_y (qt_env a_counters f_threads f_argument t c) K V e (fun _ => 0, R) d).2) →
      wY_solve_40 post (nI t) (nI f) (nI e) n (nI (qe_h K e d)) (nI (e - (d + 1))) f_tokens f_threads f_argument f_phases f_races f_behind f_over kd V a_open a_words a_counters a_own a_next a_storers a_readers a_added a_variables a_at a_steps a_finished a_done a_stack := by
  obtain ⟨hN, hT⟩ := hT
  have hP1 := hP.1
  have hP2 := hP.2.1
  induction r with
  | zero =>
    intro d n a_readers a_stack hd hn hs hB
    obtain ⟨m, rfl⟩ : ∃ m, n = m + 1 := ⟨n - 1, by omega⟩
    have ed : d = e - f := by omega
    subst ed
    have h1 := qe_h_end hP
    have h0 := hs 0 (by omega)
    unfold wY_solve_40
    refine br_t (nI_lt (by omega) (by omega)) ?_
    rw [h0]
    exact h a_readers a_stack hB
  | succ r ih =>
    intro d n a_readers a_stack hd hn hs hB
    obtain ⟨m, rfl⟩ : ∃ m, n = m + 1 := ⟨n - 1, by omega⟩
    obtain ⟨tk, tok, tv⟩ := hT (e - (d + 1)) (by omega)
    have k10 := qe_P_k hP (d := d) (by omega)
    have k31 : K (e - (d + 1)) ≤ 31 ∧ (K (e - (d + 1)) ≤ 16 ∨ 20 ≤ K (e - (d + 1))) := by
      rcases tok with h | h | h <;> omega
    have hle := qe_h_le K e d
    have har := qe_h_ar hP (d := d) (by omega)
    have vi : vp_in (nI (e - (d + 1))) 64 := vp_in_nI (by omega) (by decide)
    have ci : (nI (e - (d + 1))).toNatClampNeg = e - (d + 1) := nI_clamp (by omega)
    have hfin : ∀ a b d' : Int32, (1 ≤ qe_ar (K (e - (d + 1))) → a = a_stack (qe_h K e d - 1)) → (2 ≤ qe_ar (K (e - (d + 1))) → b = a_stack (qe_h K e d - 2)) → (3 ≤ qe_ar (K (e - (d + 1))) → d' = a_stack (qe_h K e d - 3)) →
        wY_solve_115 post (wY_solve_40 post (nI t) (nI f) (nI e) m) (nI t) (nI f) (nI e) (nI (qe_h K e d)) (nI (e - (d + 1))) (nI (K (e - (d + 1)))) a b d' f_tokens f_threads f_argument f_phases f_races f_behind f_over kd V a_open a_words a_counters a_own a_next a_storers a_readers a_added a_variables a_at a_steps a_finished a_done a_stack := by
      intro a b d' g1 g2 g3
      refine qy_s115 ht (by omega) (by omega) tk k10 k31.1 k31.2 (fun z => tv (Or.inr z)) har (by omega) hv ho hB ?_
      intro rd hrd
      have hz : qe_y (qt_env a_counters f_threads f_argument t c) K V e (fun _ => 0, R) (d + 1) = (upd (qe_y (qt_env a_counters f_threads f_argument t c) K V e (fun _ => 0, R) d).1 (qe_h K e d - qe_ar (K (e - (d + 1)))) (qe_v (qt_env a_counters f_threads f_argument t c) (K (e - (d + 1))) (V (e - (d + 1))) a b d'), qe_r (K (e - (d + 1))) a (qe_y (qt_env a_counters f_threads f_argument t c) K V e (fun _ => 0, R) d).2) := by
        show qe_i _ _ _ _ _ = _
        unfold qe_i
        have w1 : 1 ≤ qe_ar (K (e - (d + 1))) → (qe_y (qt_env a_counters f_threads f_argument t c) K V e (fun _ => 0, R) d).1 (qe_h K e d - qe_ar (K (e - (d + 1))) + qe_ar (K (e - (d + 1))) - 1) = a := by
          intro g
          rw [g1 g, Nat.sub_add_cancel har]
          exact (hs _ (by omega)).symm
        rw [qe_r_congr w1, qe_v_congr w1 (b' := b) (c' := d') ?_ ?_]
        · intro g
          rw [g2 g, Nat.sub_add_cancel har]
          exact (hs _ (by omega)).symm
        · intro g
          rw [g3 g, Nat.sub_add_cancel har]
          exact (hs _ (by omega)).symm
      have x6 : e - (d + 1) - 1 = e - (d + 1 + 1) := by omega
      rw [x6]
      refine ih (d := d + 1) (by omega) (by omega) (fun j hj => ?_) ?_
      · rw [hz]
        dsimp only
        have hj' : j < qe_h K e d - qe_ar (K (e - (d + 1))) + 1 := hj
        by_cases ej : j = qe_h K e d - qe_ar (K (e - (d + 1)))
        · rw [ej, pk_us, pk_us]
        · rw [pk_un ej, pk_un ej]
          exact hs j (by omega)
      · rw [hz]
        exact hrd
    have h94 : ∀ a b : Int32, (1 ≤ qe_ar (K (e - (d + 1))) → a = a_stack (qe_h K e d - 1)) → (2 ≤ qe_ar (K (e - (d + 1))) → b = a_stack (qe_h K e d - 2)) →
        wY_solve_94 post (wY_solve_40 post (nI t) (nI f) (nI e) m) (nI t) (nI f) (nI e) (nI (qe_h K e d)) (nI (e - (d + 1))) (nI (K (e - (d + 1)))) a b f_tokens f_threads f_argument f_phases f_races f_behind f_over kd V a_open a_words a_counters a_own a_next a_storers a_readers a_added a_variables a_at a_steps a_finished a_done a_stack := by
      intro a b g1 g2
      unfold wY_solve_94
      refine pk_le (qe_h K e d) 2 (fun g => hfin a b 0 g1 g2 (fun z => by omega)) (fun g => ?_)
      have x : nI (qe_h K e d) - 3 = nI (qe_h K e d - 3) := pk_sub (a := qe_h K e d) (b := 3) (by omega)
      rw [x, nI_clamp (show qe_h K e d - 3 < 2 ^ 31 by omega)]
      exact ⟨vp_in_nI (by omega) (by decide), hfin a b _ g1 g2 (fun _ => rfl)⟩
    have h73 : ∀ a : Int32, (1 ≤ qe_ar (K (e - (d + 1))) → a = a_stack (qe_h K e d - 1)) →
        wY_solve_73 post (wY_solve_40 post (nI t) (nI f) (nI e) m) (nI t) (nI f) (nI e) (nI (qe_h K e d)) (nI (e - (d + 1))) (nI (K (e - (d + 1)))) a f_tokens f_threads f_argument f_phases f_races f_behind f_over kd V a_open a_words a_counters a_own a_next a_storers a_readers a_added a_variables a_at a_steps a_finished a_done a_stack := by
      intro a g1
      unfold wY_solve_73
      refine pk_le (qe_h K e d) 1 (fun g => h94 a 0 g1 (fun z => by omega)) (fun g => ?_)
      have x : nI (qe_h K e d) - 2 = nI (qe_h K e d - 2) := pk_sub (a := qe_h K e d) (b := 2) (by omega)
      rw [x, nI_clamp (show qe_h K e d - 2 < 2 ^ 31 by omega)]
      exact ⟨vp_in_nI (by omega) (by decide), h94 a _ g1 (fun _ => rfl)⟩
    unfold wY_solve_40
    refine br_f (nI_nlt (by omega) (by omega)) ⟨vi, nm_r (e' := nI (K (e - (d + 1)))) (by rw [ci]; exact tk) ?_⟩
    refine pk_le (qe_h K e d) 0 (fun g => h73 0 (fun z => by omega)) (fun g => ?_)
    have x : nI (qe_h K e d) - 1 = nI (qe_h K e d - 1) := qz_m (by omega)
    rw [x, nI_clamp (show qe_h K e d - 1 < 2 ^ 31 by omega)]
    exact ⟨vp_in_nI (by omega) (by decide), h73 _ (fun _ => rfl)⟩
theorem qy_s5 {post : Int32 → SY → Prop} (hT : qe_T N kd V K) (hP : qe_P K f e) (he : e ≤ N) (h : ∃ n40 : Nat, wY_solve_40 post (nI t) (nI f) (nI e) n40 0 (nI (e - 1)) f_tokens f_threads f_argument f_phases f_races f_behind f_over kd V a_open a_words a_counters a_own a_next a_storers a_readers a_added a_variables a_at a_steps a_finished a_done a_stack) (r : Nat) :
    ∀ {j n : Nat}, j + r = e - f → r < n → wY_solve_5 post (nI t) (nI f) f_tokens f_threads f_argument f_phases f_races f_behind f_over kd V a_open a_words a_counters a_own a_next a_storers a_readers a_added a_variables a_at a_steps a_finished a_done a_stack n (nI (qe_ms K f j)) (nI (f + j)) := by
  obtain ⟨hN, hT⟩ := hT
  have hP1 := hP.1
  have hP2 := hP.2.1
  induction r with
  | zero =>
    intro j n hj hn
    obtain ⟨m, rfl⟩ : ∃ m, n = m + 1 := ⟨n - 1, by omega⟩
    have ej : j = e - f := by omega
    subst ej
    rw [hP.2.2.1, show f + (e - f) = e by omega]
    unfold wY_solve_5
    exact br_t (by decide) (nm_r (qz_m (by omega)) h)
  | succ r ih =>
    intro j n hj hn
    obtain ⟨m, rfl⟩ : ∃ m, n = m + 1 := ⟨n - 1, by omega⟩
    have hml := qe_ms_le K f j
    have hpj := hP.2.2.2 j (by omega)
    obtain ⟨tk, tok, _⟩ := hT (f + j) (by omega)
    have k31 : K (f + j) ≤ 31 ∧ (K (f + j) ≤ 16 ∨ 20 ≤ K (f + j)) := by rcases tok with h | h | h <;> omega
    have vi : vp_in (nI (f + j)) 64 := vp_in_nI (by omega) (by decide)
    have ci : (nI (f + j)).toNatClampNeg = f + j := nI_clamp (by omega)
    have ems : nI (qe_ms K f j) + (nI (qe_ar (K (f + j))) - 1) = nI (qe_ms K f (j + 1)) := qz_am (by omega)
    unfold wY_solve_5
    refine br_f (nI_ge (a := 0) (by omega) (by omega)) ⟨vi, ?_⟩
    rw [ci, tk]
    refine qw_operands (by omega) k31.2 ?_
    exact nm_r ems (nm_r (nI_1 _) (ih (j := j + 1) (by omega) (by omega)))
/-- what an expression is -/
theorem qy_solve {post : Int32 → SY → Prop} (hT : qe_T N kd V K) (hP : qe_P K f e) (hf : 1 ≤ f) (he : e ≤ N) (ht : t < 32)
    (hv : ∀ v, v < 6 → a_variables (6 * t + v) = qt_vr c v) (ho : ∀ j, j < 64 → a_own j = qt_ow c j) (hB : qy_B a_readers (qy_C C t R))
    (h : ∀ (a_readers a_stack : Nat → Int32), qy_B a_readers (qy_C C t (qt_ev (qt_env a_counters f_threads f_argument t c) K V f e R).2) → post ((qt_ev (qt_env a_counters f_threads f_argument t c) K V f e R).1 0) (f_tokens, f_threads, f_argument, f_phases, f_races, nI e, f_over, kd, V, a_open, a_words, a_counters, a_own, a_next, a_storers, a_readers, a_added, a_variables, a_at, a_steps, a_finished, a_done, a_stack)) :
    wpY_solve post (f_tokens, f_threads, f_argument, f_phases, f_races, f_behind, f_over, kd, V, a_open, a_words, a_counters, a_own, a_next, a_storers, a_readers, a_added, a_variables, a_at, a_steps, a_finished, a_done, a_stack) (nI t) (nI f) := by
  have hP1 := hP.1
  unfold wpY_solve
  dsimp only
  refine ⟨e - f + 1, ?_⟩
  have hh := qy_s40 (f_behind := f_behind) (d := 0) (n := e - f + 1) (a_readers := a_readers) (a_stack := a_stack) hT hP hf he ht hv ho h (e - f) (by omega) (by omega) (fun j hj => absurd hj (Nat.not_lt_zero j)) hB
  exact qy_s5 hT hP he ⟨e - f + 1, hh⟩ (e - f) (j := 0) (by omega) (by omega)
end
end
section
/-! the reference in a phase: the threads' local states g against its arrays; work and step -/
def qy_e (y : qt_Y) : qt_X := (y.1, (fun _ => 0), y.2)
def qy_Lt (l : qt_X) (t : Nat) (ap vr sp fi : Nat → Int32) : Prop := ap t = nI l.1 ∧ (∀ v, v < 6 → vr (6 * t + v) = qt_vr l.2.2 v) ∧ sp t = nI (qt_sp l.2.2) ∧ fi t = (if qt_fl l.2.2 = 2 then 1 else 0)
def qy_in (n : Nat) (C : Nat → Nat → Bool) : Nat → Nat → Bool := fun s => if s < n then C s else fun _ => false
def qy_I (n : Nat) (g : Nat → qt_X) (d0 : Nat → Int32) (o0 : Bool) (t : Nat) (f_over : Int32) (a_own a_storers a_readers a_added a_variables a_at a_steps a_finished a_done : Nat → Int32) : Prop :=
  (∀ s, s < n → qy_Lt (g s) s a_at a_variables a_steps a_finished) ∧ (∀ i, i < 64 → a_own i = qt_ow (g t).2.2 i) ∧ qy_B a_storers (qy_in n (fun s => qt_S (g s).2.2)) ∧ qy_B a_readers (qy_in n (fun s => qt_R (g s).2.2)) ∧ qx_A n g d0 a_added a_done ∧ qx_V n g o0 f_over
section
variable {n t : Nat} {g : Nat → qt_X} {d0 : Nat → Int32} {o0 : Bool} {l : qt_X}
theorem qy_inG (F : qt_X → Nat → Bool) (ht : t < n) : qy_in n (fun s => F (qx_G g t l s)) = qy_C (qy_in n (fun s => F (g s))) t (F l) := by
  funext s
  unfold qy_in qy_C
  dsimp only
  by_cases e : s = t
  · rw [e, if_pos ht, if_pos rfl, qx_Gs]
  · rw [if_neg e, qx_Gn e]
theorem qy_inS (F : qt_X → Nat → Bool) (ht : t < n) : qy_in n (fun s => F (g s)) = qy_C (qy_in n (fun s => F (g s))) t (F (g t)) := by
  funext s
  unfold qy_in qy_C
  by_cases e : s = t
  · rw [e, if_pos ht, if_pos rfl]
  · rw [if_neg e]
theorem qx_A_cnt {k p p' : Nat} {s s' : Nat → Int32} {c : qt_C} {ad dn : Nat → Int32} (ht : t < n) (hg : g t = (p, s, c)) (h : qx_A n g d0 ad dn) : qx_A n (qx_G g t (p', s', qt_cnt c k)) d0 ad (upd dn k (dn k + 1)) := by
  refine ⟨fun i hi => ?_, fun j hj => ?_⟩
  · rw [qx_GF (fun l => qt_A l.2.2 i) (by rw [hg]; rfl)]
    exact h.1 i hi
  · have h4 := h.2 j hj
    by_cases e : j = k
    · subst e
      rw [pk_us, h4, Int32.add_assoc]
      refine congrArg (fun x => d0 j + x) (qz_sm_upd n ht (fun x hx => by rw [qx_Gn hx]) ?_).symm
      rw [qx_Gs, hg]
      exact pk_us
    · rw [pk_un e, h4]
      refine congrArg (fun x => d0 j + x) (qz_sm_ext n (fun x hx => ?_))
      by_cases ex : x = t
      · rw [ex, qx_Gs, hg]
        exact (pk_un e).symm
      · rw [qx_Gn ex]
theorem qx_A_ad {i p p' : Nat} {s s' : Nat → Int32} {c : qt_C} {v : Int32} {ad dn : Nat → Int32} (ht : t < n) (hg : g t = (p, s, c)) (h : qx_A n g d0 ad dn) : qx_A n (qx_G g t (p', s', qt_ad c i v)) d0 (upd ad i (ad i + v)) dn := by
  refine ⟨fun j hj => ?_, fun k hk => ?_⟩
  · have h4 := h.1 j hj
    by_cases e : j = i
    · subst e
      rw [pk_us, h4]
      refine (qz_sm_upd n ht (fun x hx => by rw [qx_Gn hx]) ?_).symm
      rw [qx_Gs, hg]
      exact pk_us
    · rw [pk_un e, h4]
      refine qz_sm_ext n (fun x hx => ?_)
      by_cases ex : x = t
      · rw [ex, qx_Gs, hg]
        exact (pk_un e).symm
      · rw [qx_Gn ex]
  · rw [qx_GF (fun l => qt_D l.2.2 k) (by rw [hg]; rfl)]
    exact h.2 k hk
theorem qy_I_upd {o o' : Int32} {ow sr rd ad vr ap sp fi dn ow' sr' rd' ad' vr' ap' sp' fi' dn' : Nat → Int32} (ht : t < n) (hI : qy_I n g d0 o0 t o ow sr rd ad vr ap sp fi dn)
    (hf : ∀ s, s ≠ t → ap' s = ap s ∧ (∀ v, v < 6 → vr' (6 * s + v) = vr (6 * s + v)) ∧ sp' s = sp s ∧ fi' s = fi s) (hl : qy_Lt l t ap' vr' sp' fi') (ho : ∀ i, i < 64 → ow' i = qt_ow l.2.2 i)
    (hS : qy_B sr' (qy_C (qy_in n (fun s => qt_S (g s).2.2)) t (qt_S l.2.2))) (hR : qy_B rd' (qy_C (qy_in n (fun s => qt_R (g s).2.2)) t (qt_R l.2.2))) (hA : qx_A n (qx_G g t l) d0 ad' dn') (hV : qx_V n (qx_G g t l) o0 o') :
    qy_I n (qx_G g t l) d0 o0 t o' ow' sr' rd' ad' vr' ap' sp' fi' dn' := by
  refine ⟨fun s hs => ?_, by rw [qx_Gs]; exact ho, by rw [qy_inG (fun l => qt_S l.2.2) ht]; exact hS, by rw [qy_inG (fun l => qt_R l.2.2) ht]; exact hR, hA, hV⟩
  by_cases e : s = t
  · rw [e, qx_Gs]
    exact hl
  · rw [qx_Gn e]
    obtain ⟨a1, a2, a3, a4⟩ := hI.1 s hs
    obtain ⟨f1, f2, f3, f4⟩ := hf s e
    exact ⟨by rw [f1]; exact a1, fun v hv => by rw [f2 v hv]; exact a2 v hv, by rw [f3]; exact a3, by rw [f4]; exact a4⟩
variable {o : Int32} {ow sr rd ad vr ap sp fi dn : Nat → Int32} {p : Nat} {s : Nat → Int32} {c : qt_C}
theorem qy_BS (ht : t < n) (hg : g t = (p, s, c)) (hI : qy_I n g d0 o0 t o ow sr rd ad vr ap sp fi dn) : qy_B sr (qy_C (qy_in n (fun s => qt_S (g s).2.2)) t (qt_S c)) := by
  have h := hI.2.2.1
  rw [qy_inS (fun l => qt_S l.2.2) ht, hg] at h
  exact h
theorem qy_BR (ht : t < n) (hg : g t = (p, s, c)) (hI : qy_I n g d0 o0 t o ow sr rd ad vr ap sp fi dn) : qy_B rd (qy_C (qy_in n (fun s => qt_R (g s).2.2)) t (qt_R c)) := by
  have h := hI.2.2.2.1
  rw [qy_inS (fun l => qt_R l.2.2) ht, hg] at h
  exact h
theorem qy_cntI {k : Nat} (ht : t < n) (hg : g t = (p, s, c)) (hI : qy_I n g d0 o0 t o ow sr rd ad vr ap sp fi dn) :
    qy_I n (qx_G g t (p, s, qt_cnt c k)) d0 o0 t o ow sr rd ad vr ap (upd sp t (nI (qt_sp c + 1))) fi (upd dn k (dn k + 1)) := by
  obtain ⟨a1, a2, a3, a4⟩ := hI.1 t ht
  have ho := hI.2.1
  rw [hg] at a1 a2 a3 a4 ho
  exact qy_I_upd ht hI (fun x hx => ⟨rfl, fun _ _ => rfl, pk_un hx, rfl⟩) ⟨a1, a2, pk_us, a4⟩ ho (qy_BS (c := c) ht hg hI) (qy_BR (c := c) ht hg hI) (qx_A_cnt ht hg hI.2.2.2.2.1) (qx_V_same hI.2.2.2.2.2 (by rw [hg]; rfl))
theorem qy_advI {p' : Nat} (ht : t < n) (hg : g t = (p, s, c)) (hI : qy_I n g d0 o0 t o ow sr rd ad vr ap sp fi dn) :
    qy_I n (qx_G g t (p', s, c)) d0 o0 t o ow sr rd ad vr (upd ap t (nI p')) sp fi dn := by
  obtain ⟨a1, a2, a3, a4⟩ := hI.1 t ht
  have ho := hI.2.1
  rw [hg] at a1 a2 a3 a4 ho
  exact qy_I_upd ht hI (fun x hx => ⟨pk_un hx, fun _ _ => rfl, rfl, rfl⟩) ⟨pk_us, a2, a3, a4⟩ ho (qy_BS (c := c) ht hg hI) (qy_BR (c := c) ht hg hI) (qx_A_same hI.2.2.2.2.1 (by rw [hg]) (by rw [hg])) (qx_V_same hI.2.2.2.2.2 (by rw [hg]))
theorem qy_rdI {R : Nat → Bool} {rd' : Nat → Int32} (ht : t < n) (hg : g t = (p, s, c)) (hI : qy_I n g d0 o0 t o ow sr rd ad vr ap sp fi dn) (hR : qy_B rd' (qy_C (qy_in n (fun s => qt_R (g s).2.2)) t R)) :
    qy_I n (qx_G g t (p, s, qt_rd c R)) d0 o0 t o ow sr rd' ad vr ap sp fi dn := by
  obtain ⟨a1, a2, a3, a4⟩ := hI.1 t ht
  have ho := hI.2.1
  rw [hg] at a1 a2 a3 a4 ho
  exact qy_I_upd ht hI (fun x hx => ⟨rfl, fun _ _ => rfl, rfl, rfl⟩) ⟨a1, a2, a3, a4⟩ ho (qy_BS (c := c) ht hg hI) hR (qx_A_same hI.2.2.2.2.1 (by rw [hg]; rfl) (by rw [hg]; rfl)) (qx_V_same hI.2.2.2.2.2 (by rw [hg]; rfl))
theorem qy_varI {k : Nat} {x : Int32} (ht : t < n) (hk : k < 6) (hg : g t = (p, s, c)) (hI : qy_I n g d0 o0 t o ow sr rd ad vr ap sp fi dn) :
    qy_I n (qx_G g t (p, s, qt_vs c k x)) d0 o0 t o ow sr rd ad (upd vr (6 * t + k) x) ap sp fi dn := by
  obtain ⟨a1, a2, a3, a4⟩ := hI.1 t ht
  have ho := hI.2.1
  rw [hg] at a1 a2 a3 a4 ho
  refine qy_I_upd ht hI (fun y hy => ⟨rfl, fun v hv => pk_un (by omega), rfl, rfl⟩) ⟨a1, fun v hv => ?_, a3, a4⟩ ho (qy_BS (c := c) ht hg hI) (qy_BR (c := c) ht hg hI) (qx_A_same hI.2.2.2.2.1 (by rw [hg]; rfl) (by rw [hg]; rfl)) (qx_V_same hI.2.2.2.2.2 (by rw [hg]; rfl))
  show _ = upd (qt_vr c) k x v
  by_cases e : v = k
  · rw [e, pk_us, pk_us]
  · rw [pk_un (by omega), pk_un e]
    exact a2 v hv
theorem qy_swI {i : Nat} {x : Int32} (hn : n ≤ 32) (ht : t < n) (hi : i < 64) (hg : g t = (p, s, c)) (hI : qy_I n g d0 o0 t o ow sr rd ad vr ap sp fi dn) :
    qy_I n (qx_G g t (p, s, qt_sw c i x)) d0 o0 t o (upd ow i x) (upd sr i (sr i ||| ((1 : Int32) <<< (nI t &&& 31)))) rd ad vr ap sp fi dn := by
  obtain ⟨a1, a2, a3, a4⟩ := hI.1 t ht
  have ho := hI.2.1
  rw [hg] at a1 a2 a3 a4 ho
  refine qy_I_upd ht hI (fun y hy => ⟨rfl, fun _ _ => rfl, rfl, rfl⟩) ⟨a1, a2, a3, a4⟩ (fun j hj => ?_) (qy_B_up (by omega) hi (qy_BS (c := c) ht hg hI)) (qy_BR (c := c) ht hg hI) (qx_A_same hI.2.2.2.2.1 (by rw [hg]; rfl) (by rw [hg]; rfl)) (qx_V_same hI.2.2.2.2.2 (by rw [hg]; rfl))
  show _ = upd (qt_ow c) i x j
  by_cases e : j = i
  · rw [e, pk_us, pk_us]
  · rw [pk_un e, pk_un e]
    exact ho j hj
theorem qy_adI {i : Nat} {x : Int32} (ht : t < n) (hg : g t = (p, s, c)) (hI : qy_I n g d0 o0 t o ow sr rd ad vr ap sp fi dn) :
    qy_I n (qx_G g t (p, s, qt_ad c i x)) d0 o0 t o ow sr rd (upd ad i (ad i + x)) vr ap sp fi dn := by
  obtain ⟨a1, a2, a3, a4⟩ := hI.1 t ht
  have ho := hI.2.1
  rw [hg] at a1 a2 a3 a4 ho
  exact qy_I_upd ht hI (fun y hy => ⟨rfl, fun _ _ => rfl, rfl, rfl⟩) ⟨a1, a2, a3, a4⟩ ho (qy_BS (c := c) ht hg hI) (qy_BR (c := c) ht hg hI) (qx_A_ad ht hg hI.2.2.2.2.1) (qx_V_same hI.2.2.2.2.2 (by rw [hg]; rfl))
theorem qy_waitI (ht : t < n) (hf : qt_fl c = 0) (hg : g t = (p, s, c)) (hI : qy_I n g d0 o0 t o ow sr rd ad vr ap sp fi dn) :
    qy_I n (qx_G g t (p, s, qt_f c 1)) d0 o0 t o ow sr rd ad vr ap sp fi dn := by
  obtain ⟨a1, a2, a3, a4⟩ := hI.1 t ht
  have ho := hI.2.1
  rw [hg] at a1 a2 a3 a4 ho
  refine qy_I_upd ht hI (fun y hy => ⟨rfl, fun _ _ => rfl, rfl, rfl⟩) ⟨a1, a2, a3, ?_⟩ ho (qy_BS (c := c) ht hg hI) (qy_BR (c := c) ht hg hI) (qx_A_same hI.2.2.2.2.1 (by rw [hg]; rfl) (by rw [hg]; rfl)) (qx_V_same hI.2.2.2.2.2 (by rw [hg]; rfl))
  rw [a4, hf]
  rfl
theorem qy_finI (ht : t < n) (hg : g t = (p, s, c)) (hI : qy_I n g d0 o0 t o ow sr rd ad vr ap sp fi dn) :
    qy_I n (qx_G g t (p, s, qt_f c 2)) d0 o0 t o ow sr rd ad vr ap sp (upd fi t 1) dn := by
  obtain ⟨a1, a2, a3, a4⟩ := hI.1 t ht
  have ho := hI.2.1
  rw [hg] at a1 a2 a3 a4 ho
  exact qy_I_upd ht hI (fun y hy => ⟨rfl, fun _ _ => rfl, rfl, pk_un hy⟩) ⟨a1, a2, a3, pk_us⟩ ho (qy_BS (c := c) ht hg hI) (qy_BR (c := c) ht hg hI) (qx_A_same hI.2.2.2.2.1 (by rw [hg]; rfl) (by rw [hg]; rfl)) (qx_V_same hI.2.2.2.2.2 (by rw [hg]; rfl))
theorem qy_overI (ht : t < n) (hg : g t = (p, s, c)) (hI : qy_I n g d0 o0 t o ow sr rd ad vr ap sp fi dn) :
    qy_I n (qx_G g t (p, s, qt_over c)) d0 o0 t 1 ow sr rd ad vr ap sp (upd fi t 1) dn := by
  obtain ⟨a1, a2, a3, a4⟩ := hI.1 t ht
  have ho := hI.2.1
  rw [hg] at a1 a2 a3 a4 ho
  exact qy_I_upd ht hI (fun y hy => ⟨rfl, fun _ _ => rfl, rfl, pk_un hy⟩) ⟨a1, a2, a3, pk_us⟩ ho (qy_BS (c := c) ht hg hI) (qy_BR (c := c) ht hg hI) (qx_A_same hI.2.2.2.2.1 (by rw [hg]; rfl) (by rw [hg]; rfl)) (Or.inr ⟨rfl, Or.inr ⟨t, ht, by rw [qx_Gs]; rfl⟩⟩)
end
section
variable {N : Nat} {kd V : Nat → Int32} {K : Nat → Nat} {op sl st nu : Nat → Int32} {P Q e1 e2 tg : Nat → Nat} {B : Nat → Prop} {n t i : Nat} {d0 ct : Nat → Int32} {tn ag : Int32} {o0 : Bool} {c : qt_C}
  {f_phases f_races : Int32} {a_open a_words a_next : Nat → Int32}
theorem qy_work {post : Int32 → SY → Prop} (hT : qe_T N kd V K) (hC : qc_CODE N K V op sl st nu P Q e1 e2 tg B) (hn : n ≤ 32) (ht : t < n) (hi : i < N) (hB : B i) (k4 : K i ≠ 4) (k5 : K i ≠ 5) (hf : qt_fl c = 0) (f_behind f_over : Int32) (a_own a_storers a_readers a_added a_variables a_at a_steps a_finished a_done a_stack : Nat → Int32) {g : Nat → qt_X} (hg : g t = (i, (fun _ => 0), c))
    (hI : qy_I n (g) d0 o0 t f_over a_own a_storers a_readers a_added a_variables a_at a_steps a_finished a_done)
    (h : ∀ (f_behind f_over : Int32) (a_own a_storers a_readers a_added a_variables a_at a_steps a_finished a_done a_stack : Nat → Int32), qy_I n (qx_G g t (qy_e (qt_y1 K V e1 e2 tg ct tn ag t i c))) d0 o0 t f_over a_own a_storers a_readers a_added a_variables a_at a_steps a_finished a_done → post (if qt_fl (qt_y1 K V e1 e2 tg ct tn ag t i c).2 = 0 then 1 else 0) (nI N, tn, ag, f_phases, f_races, f_behind, f_over, kd, V, a_open, a_words, ct, a_own, a_next, a_storers, a_readers, a_added, a_variables, a_at, a_steps, a_finished, a_done, a_stack)) :
    wpY_work post (nI N, tn, ag, f_phases, f_races, f_behind, f_over, kd, V, a_open, a_words, ct, a_own, a_next, a_storers, a_readers, a_added, a_variables, a_at, a_steps, a_finished, a_done, a_stack) (nI t) (nI i) (nI (K i)) := by
  have hN := hT.1
  obtain ⟨tk, tok, tv⟩ := hT.2 i hi
  obtain ⟨c1, c2, c3, c4, c5, c6, c7, c8, c9, c10⟩ := hC
  have hL := c4 i hi hB
  have kle := hL.1
  have vt : vp_in (nI t) 32 := vp_in_nI (by omega) (by decide)
  have cc : (nI t).toNatClampNeg = t := nI_clamp (by omega)
  have vi : vp_in (nI i) 64 := vp_in_nI (by omega) (by decide)
  have ci : (nI i).toNatClampNeg = i := nI_clamp (by omega)
  have hf1 : ∀ {y : qt_Y}, qt_fl y.2 = 0 → (if qt_fl y.2 = 0 then (1 : Int32) else 0) = 1 := fun hy => if_pos hy
  unfold wpY_work
  dsimp only
  rw [cc, ci]
  unfold qt_y1 at h
  by_cases k8 : K i = 8
  · rw [if_pos k8] at h
    refine br_t (by rw [k8]; rfl) ⟨vt, nm_r (e' := upd a_finished t 1) (by rw [qz_z1]) ?_⟩
    exact h _ _ _ _ _ _ _ _ _ _ _ _ (qy_finI ht hg hI)
  · rw [if_neg k8] at h
    refine br_f (qz_ne (b := 8) k8 (by omega) (by decide)) ⟨vt, nm_r (e' := upd a_at t (nI (i + 1))) (by rw [nI_1]) ?_⟩
    have hI1 := qy_advI (p' := i + 1) ht hg hI
    have hg1 : qx_G g t (i + 1, (fun _ => 0), c) t = (i + 1, (fun _ => 0), c) := qx_Gs
    by_cases k7 : K i = 7
    · rw [if_pos k7] at h
      refine br_t (by rw [k7]; rfl) ?_
      have hI2 := qy_waitI ht hf hg1 hI1
      rw [qx_GG] at hI2
      exact h _ _ _ _ _ _ _ _ _ _ _ _ hI2
    · rw [if_neg k7] at h
      refine br_f (qz_ne (b := 7) k7 (by omega) (by decide)) ?_
      rw [nI_1]
      obtain ⟨hP1, hB1⟩ : qe_P K (i + 1) (e1 i) ∧ e1 i ≤ N := by
        rcases (show K i = 0 ∨ (K i = 1 ∨ K i = 2) ∨ (K i = 3 ∨ K i = 6) by omega) with k | k | k
        · obtain ⟨a1, _, _, _, _, _, a7⟩ := hL.2.1 k
          exact ⟨a1, (c3 _ a7).1⟩
        · obtain ⟨a1, a2, _, _, _, _, a7⟩ := hL.2.2.1 k
          have := a2.1
          have := (c3 _ a7).1
          exact ⟨a1, by omega⟩
        · obtain ⟨a1, _, _, _, _, a7⟩ := hL.2.2.2.1 k
          exact ⟨a1, (c3 _ a7).1⟩
      obtain ⟨_, v2, _, _⟩ := hI1.1 t ht
      have o2 := hI1.2.1
      rw [hg1] at v2 o2
      refine qy_solve (c := c) (R := qt_R c) hT hP1 (by omega) hB1 (by omega) v2 o2 (qy_BR ht hg1 hI1) ?_
      intro a_readers a_stack hR
      have hI2 := qy_rdI ht hg1 hI1 hR
      rw [qx_GG] at hI2
      have hg2 : qx_G g t (i + 1, (fun _ => 0), qt_rd c (qt_ev (qt_env ct tn ag t c) K V (i + 1) (e1 i) (qt_R c)).2) t = (i + 1, (fun _ => 0), qt_rd c (qt_ev (qt_env ct tn ag t c) K V (i + 1) (e1 i) (qt_R c)).2) := qx_Gs
      have hI3 := qy_advI (p' := e1 i) ht hg2 hI2
      rw [qx_GG] at hI3
      have hg3 : qx_G g t (e1 i, (fun _ => 0), qt_rd c (qt_ev (qt_env ct tn ag t c) K V (i + 1) (e1 i) (qt_R c)).2) t = (e1 i, (fun _ => 0), qt_rd c (qt_ev (qt_env ct tn ag t c) K V (i + 1) (e1 i) (qt_R c)).2) := qx_Gs
      refine ⟨vt, nm_e ?_⟩
      by_cases k0 : K i = 0
      · rw [if_pos k0] at h
        obtain ⟨v, v1, v2⟩ := tv (Or.inl k0)
        have ev : (6 : Int32) * nI t + V i = nI (6 * t + v) := by
          rw [v2]
          exact qz_lin 6 t v
        rw [v2, nI_clamp (show v < 2 ^ 31 by omega)] at h
        refine br_t (by rw [k0]; rfl) ⟨vi, ?_⟩
        rw [ev, nI_clamp (show 6 * t + v < 2 ^ 31 by omega)]
        refine ⟨vp_in_nI (by omega) (by decide), nm_e ?_⟩
        have hI4 := qy_varI (k := v) (x := (qt_ev (qt_env ct tn ag t c) K V (i + 1) (e1 i) (qt_R c)).1 0) ht v1 hg3 hI3
        rw [qx_GG] at hI4
        have hh := h (nI (e1 i)) _ _ _ _ _ _ _ _ _ _ a_stack hI4
        split at hh
        · exact hh
        · rename_i hne
          exact absurd hf hne
      · rw [if_neg k0] at h
        refine br_f (qz_ne (b := 0) k0 (by omega) (by decide)) ?_
        by_cases k12 : K i = 1 ∨ K i = 2
        · obtain ⟨a1, a2, _, _, _, _, a7⟩ := hL.2.2.1 k12
          have hB2 := (c3 _ a7).1
          have p1 := a1.1
          have h87 : wY_work_87 post (nI t) (nI (K i)) ((qt_ev (qt_env ct tn ag t c) K V (i + 1) (e1 i) (qt_R c)).1 0) (nI N) tn ag f_phases f_races (nI (e1 i)) f_over kd V a_open a_words ct a_own a_next a_storers a_readers a_added a_variables (upd (upd a_at t (nI (i + 1))) t (nI (e1 i))) a_steps a_finished a_done a_stack := by
            unfold wY_work_87
            obtain ⟨_, w2, _, _⟩ := hI3.1 t ht
            have w3 := hI3.2.1
            rw [hg3] at w2 w3
            refine qy_solve (c := c) (R := (qt_ev (qt_env ct tn ag t c) K V (i + 1) (e1 i) (qt_R c)).2) hT a2 (by omega) hB2 (by omega) w2 w3 (qy_BR ht hg3 hI3) ?_
            intro a_readers a_stack hR2
            have hI4 := qy_rdI ht hg3 hI3 hR2
            rw [qx_GG] at hI4
            have hI5 := qy_advI (p' := e2 i) ht qx_Gs hI4
            rw [qx_GG] at hI5
            obtain ⟨q1, q2⟩ := qz_wE ((qt_ev (qt_env ct tn ag t c) K V (i + 1) (e1 i) (qt_R c)).1 0)
            have vq := vp_in_nI (N := 64) q1 (by decide)
            rw [cc, q2, nI_clamp (show qz_w ((qt_ev (qt_env ct tn ag t c) K V (i + 1) (e1 i) (qt_R c)).1 0) < 2 ^ 31 by omega)]
            refine ⟨vt, nm_e ?_⟩
            by_cases k1 : K i = 1
            · rw [if_pos k1] at h
              refine br_t (by rw [k1]; rfl) ⟨vq, nm_e ⟨vq, vq, nm_e ?_⟩⟩
              have hI6 := qy_swI (x := (qt_ev (qt_env ct tn ag t c) K V (e1 i) (e2 i) (qt_ev (qt_env ct tn ag t c) K V (i + 1) (e1 i) (qt_R c)).2).1 0) hn ht q1 qx_Gs hI5
              rw [qx_GG] at hI6
              have hh := h (nI (e2 i)) _ _ _ _ _ _ _ _ _ _ a_stack hI6
              split at hh
              · exact hh
              · rename_i hne
                exact absurd hf hne
            · have k2 : K i = 2 := by omega
              rw [if_neg k1, if_pos k2] at h
              refine br_f (qz_ne (b := 1) k1 (by omega) (by decide)) ⟨vq, vq, nm_e ?_⟩
              have hI6 := qy_adI (i := qz_w ((qt_ev (qt_env ct tn ag t c) K V (i + 1) (e1 i) (qt_R c)).1 0)) (x := (qt_ev (qt_env ct tn ag t c) K V (e1 i) (e2 i) (qt_ev (qt_env ct tn ag t c) K V (i + 1) (e1 i) (qt_R c)).2).1 0) ht qx_Gs hI5
              rw [qx_GG] at hI6
              have hh := h (nI (e2 i)) _ _ _ _ _ _ _ _ _ _ a_stack hI6
              split at hh
              · exact hh
              · rename_i hne
                exact absurd hf hne
          exact br_c (fun _ => h87) (fun g1 => br_c (fun _ => h87) (fun g2 => absurd k12 (fun z => by
            rcases z with z | z
            · exact g1 (by rw [z]; rfl)
            · exact g2 (by rw [z]; rfl))))
        · rw [if_neg (by omega), if_neg (by omega)] at h
          refine br_f (qz_ne (b := 1) (by omega) (by omega) (by decide)) (br_f (qz_ne (b := 2) (by omega) (by omega) (by decide)) ?_)
          have k36 : K i = 3 ∨ K i = 6 := by omega
          obtain ⟨b1, b2, e, b3, b4⟩ := c5 i hi hB (by omega)
          have hBt := (c3 _ b2).1
          refine br_c (fun gz => ?_) (fun gz => ?_)
          · rw [if_pos gz] at h
            have h179 : ∀ (els : Bool) (x2 : Int32), x2 = (if els = true then 1 else 0) → qc_Cl K (qc_dp K i) els i e → wY_work_179 post (nI t) x2 (nI i) (nI N) tn ag f_phases f_races (nI (e1 i)) f_over kd V a_open a_words ct a_own a_next a_storers a_readers a_added a_variables (upd (upd a_at t (nI (i + 1))) t (nI (e1 i))) a_steps a_finished a_done a_stack := by
              intro els x2 hx hcl
              unfold wY_work_179
              refine qy_close hT hx hcl (qc_dp_o k36) (by omega) ?_
              rw [cc]
              refine ⟨vt, nm_r (e' := upd (upd (upd a_at t (nI (i + 1))) t (nI (e1 i))) t (nI (tg i))) (by rw [nI_1, b3]) ?_⟩
              have hI4 := qy_advI (p' := tg i) ht hg3 hI3
              rw [qx_GG] at hI4
              have hh := h (nI (e1 i)) _ _ _ _ _ _ _ _ _ _ a_stack hI4
              split at hh
              · exact hh
              · rename_i hne
                exact absurd hf hne
            rcases b4 with ⟨k3, hcl⟩ | ⟨k6, hcl⟩ | ⟨k, _⟩
            · exact br_t (by rw [k3]; rfl) (h179 true 1 rfl hcl)
            · exact br_f (by rw [k6]; decide) (h179 false 0 rfl hcl)
            · exact absurd k k4
          · rw [if_neg gz] at h
            have hh := h (nI (e1 i)) _ _ _ _ _ _ _ _ _ _ a_stack hI3
            split at hh
            · exact hh
            · rename_i hne
              exact absurd hf hne
theorem qy_step {post : Int32 → SY → Prop} (hT : qe_T N kd V K) (hC : qc_CODE N K V op sl st nu P Q e1 e2 tg B) (hn : n ≤ 32) (ht : t < n) (hB : B i) (hs : qt_sp c ≤ 300) (hf : qt_fl c = 0) (f_behind f_over : Int32) (a_own a_storers a_readers a_added a_variables a_at a_steps a_finished a_done a_stack : Nat → Int32) {g : Nat → qt_X} (hg : g t = (i, (fun _ => 0), c))
    (hI : qy_I n (g) d0 o0 t f_over a_own a_storers a_readers a_added a_variables a_at a_steps a_finished a_done)
    (h : ∀ (f_behind f_over : Int32) (a_own a_storers a_readers a_added a_variables a_at a_steps a_finished a_done a_stack : Nat → Int32), qy_I n (qx_G g t (qy_e (qt_y N K V e1 e2 tg ct tn ag t (i, c)))) d0 o0 t f_over a_own a_storers a_readers a_added a_variables a_at a_steps a_finished a_done → post (if qt_fl (qt_y N K V e1 e2 tg ct tn ag t (i, c)).2 = 0 then 1 else 0) (nI N, tn, ag, f_phases, f_races, f_behind, f_over, kd, V, a_open, a_words, ct, a_own, a_next, a_storers, a_readers, a_added, a_variables, a_at, a_steps, a_finished, a_done, a_stack)) :
    wpY_step post (nI N, tn, ag, f_phases, f_races, f_behind, f_over, kd, V, a_open, a_words, ct, a_own, a_next, a_storers, a_readers, a_added, a_variables, a_at, a_steps, a_finished, a_done, a_stack) (nI t) := by
  have hN := hT.1
  have hC' := hC
  obtain ⟨c1, c2, c3, c4, c5, c6, c7, c8, c9, c10⟩ := hC'
  have hiN := (c3 i hB).1
  have vt : vp_in (nI t) 32 := vp_in_nI (by omega) (by decide)
  have cc : (nI t).toNatClampNeg = t := nI_clamp (by omega)
  obtain ⟨a1, a2, a3, a4⟩ := hI.1 t ht
  rw [hg] at a1 a2 a3 a4
  dsimp only at a1 a2 a3 a4
  have hf' : ¬ qt_fl ((i, c) : qt_Y).2 ≠ 0 := by dsimp only; omega
  unfold wpY_step
  dsimp only
  rw [cc, a3]
  refine ⟨vt, nm_r a1 ?_⟩
  unfold qt_y at h
  rw [if_neg hf'] at h
  dsimp only at h
  by_cases hi : i = N
  · rw [if_pos hi] at h
    refine br_t (by rw [hi]) ⟨vt, nm_r (e' := upd a_finished t 1) (by rw [qz_z1]) ?_⟩
    exact h _ _ _ _ _ _ _ _ _ _ _ _ (qy_finI ht hg hI)
  · rw [if_neg hi] at h
    obtain ⟨tk, tok, tv⟩ := hT.2 i (by omega)
    have vi : vp_in (nI i) 64 := vp_in_nI (by omega) (by decide)
    have ci : (nI i).toNatClampNeg = i := nI_clamp (by omega)
    have hL := c4 i (by omega) hB
    have kle := hL.1
    rw [ci]
    refine br_f (qz_ne hi (by omega) (by omega)) ⟨vi, nm_r tk ?_⟩
    by_cases k4 : K i = 4
    · rw [if_pos (Or.inl k4)] at h
      obtain ⟨b1, b2, e, b3, b4⟩ := c5 i (by omega) hB (Or.inr (Or.inl k4))
      have hBt := (c3 _ b2).1
      obtain ⟨b, hb, hcl⟩ : ∃ b, qc_dp K i = b + 1 ∧ qc_Cl K b false i e := by
        rcases b4 with ⟨k, _⟩ | ⟨k, _⟩ | ⟨_, z⟩
        · omega
        · omega
        · exact z
      refine br_t (by rw [k4]; rfl) ?_
      refine qy_close (els := false) hT rfl hcl (by rw [qc_dp_n (by omega) (by omega) (by omega)]; exact hb) (by omega) ?_
      refine ⟨vt, nm_r (e' := upd a_at t (nI (tg i))) (by rw [nI_1, b3]) ?_⟩
      have hh := h f_behind _ _ _ _ _ _ _ _ _ _ a_stack (qy_advI (p' := tg i) ht hg hI)
      rw [if_pos hf] at hh
      exact hh
    · refine br_f (qz_ne (b := 4) k4 (by omega) (by decide)) ?_
      by_cases k5 : K i = 5
      · rw [if_pos (Or.inr k5)] at h
        obtain ⟨b1, o, b2, b3, b4⟩ := hL.2.2.2.2.2.1 k5
        have o1 := b2.1
        have hh := h f_behind _ _ _ _ _ _ _ _ _ _ a_stack (qy_advI (p' := tg i) ht hg hI)
        rw [if_pos hf] at hh
        refine br_t (by rw [k5]; rfl) ?_
        refine qy_opener hT b2 (by omega) ?_
        rw [nI_clamp (show o < 2 ^ 31 by omega), (hT.2 o (by omega)).1]
        refine ⟨vp_in_nI (by omega) (by decide), ?_⟩
        rcases b4 with ⟨k6, bt, _⟩ | ⟨k3, bt, _⟩
        · rw [bt] at hh
          exact br_t (by rw [k6]; rfl) ⟨vt, nm_e hh⟩
        · rw [bt] at hh
          exact br_f (by rw [k3]; decide) ⟨vt, nm_r (e' := upd a_at t (nI (i + 1))) (by rw [nI_1]) hh⟩
      · rw [if_neg (by omega)] at h
        refine br_f (qz_ne (b := 5) k5 (by omega) (by decide)) ⟨vt, ?_⟩
        by_cases hs3 : qt_sp c = 300
        · rw [if_pos hs3] at h
          refine br_t (by rw [hs3]; rfl) ⟨vt, nm_r (e' := upd a_finished t 1) (by rw [qz_z1]) ?_⟩
          exact h _ _ _ _ _ _ _ _ _ _ _ _ (qy_overI ht hg hI)
        · rw [if_neg hs3] at h
          refine br_f (qz_ne (b := 300) hs3 (by omega) (by decide)) ⟨vt, vt, nm_r (e' := upd a_steps t (nI (qt_sp c + 1))) (by rw [nI_1]) ⟨vi, vi, nm_e ?_⟩⟩
          refine qy_work (c := qt_cnt c i) hT hC hn ht (by omega) hB k4 k5 hf _ _ _ _ _ _ _ _ _ _ _ _ qx_Gs (qy_cntI ht hg hI) ?_
          intro f_behind f_over a_own a_storers a_readers a_added a_variables a_at a_steps a_finished a_done a_stack hI2
          rw [qx_GG] at hI2
          refine ⟨?_, h _ _ _ _ _ _ _ _ _ _ _ _ hI2⟩
          split <;> rfl
end
end
section
/-! the reference's test for races, by bits -/
theorem qz_low {x a : Nat} (h : x.testBit a = true) {b : Nat} (hab : a < b) : 1 ≤ x % 2 ^ b := by
  apply Classical.byContradiction
  intro hn
  have h0 : x % 2 ^ b = 0 := by omega
  have h1 : (x % 2 ^ b).testBit a = true := by
    rw [Nat.testBit_mod_two_pow, h]
    simp [hab]
  rw [h0, Nat.zero_testBit] at h1
  exact absurd h1 (by decide)
theorem qz_pdiv {x m : Nat} (hm : 0 < m) (h : 1 ≤ x % m) : (x - 1) / m = x / m := by
  have h1 := Nat.div_add_mod x m
  have h2 : x - 1 = m * (x / m) + (x % m - 1) := by omega
  have h3 : x % m < m := Nat.mod_lt x hm
  rw [h2, Nat.mul_add_div hm]
  rw [Nat.div_eq_of_lt (show x % m - 1 < m by omega)]
  omega
theorem qz_mdiv {x m : Nat} (hm : 0 < m) (hx : 1 ≤ x) (h : x % m = 0) : (x - 1) / m + 1 = x / m := by
  have h1 := Nat.div_add_mod x m
  rw [h] at h1
  have h4 : 1 ≤ x / m := by
    apply Classical.byContradiction
    intro hn
    rw [Nat.lt_one_iff.mp (Nat.lt_of_not_le hn)] at h1
    omega
  obtain ⟨q, hq⟩ : ∃ q, x / m = q + 1 := ⟨x / m - 1, by omega⟩
  rw [hq] at h1
  have h2 : x - 1 = m * q + (m - 1) := by
    have : m * (q + 1) = m * q + m := Nat.mul_succ m q
    omega
  rw [h2, Nat.mul_add_div hm, Nat.div_eq_of_lt (show m - 1 < m by omega), hq]
theorem qz_two {x : Nat} (hx : 1 ≤ x) : x &&& (x - 1) ≠ 0 ↔ ∃ a b, a < b ∧ x.testBit a = true ∧ x.testBit b = true := by
  constructor
  · intro h
    have hj : ∃ j, (x &&& (x - 1)).testBit j = true := by
      apply Classical.byContradiction
      intro hn
      apply h
      apply Nat.eq_of_testBit_eq
      intro i
      rw [Nat.zero_testBit]
      cases hh : (x &&& (x - 1)).testBit i
      · rfl
      · exact absurd ⟨i, hh⟩ hn
    obtain ⟨j, hj⟩ := hj
    rw [Nat.testBit_and] at hj
    have j1 : x.testBit j = true := by
      cases hh : x.testBit j
      · rw [hh, Bool.false_and] at hj
        exact absurd hj (by decide)
      · rfl
    have j2 : (x - 1).testBit j = true := by
      cases hh : (x - 1).testBit j
      · rw [hh, Bool.and_false] at hj
        exact absurd hj (by decide)
      · rfl
    apply Classical.byContradiction
    intro hn
    have hm : x % 2 ^ j = 0 := by
      apply Nat.eq_of_testBit_eq
      intro i
      rw [Nat.zero_testBit, Nat.testBit_mod_two_pow]
      by_cases hij : i < j
      · cases hh : x.testBit i
        · rw [Bool.and_false]
        · exact absurd ⟨i, j, hij, hh, j1⟩ hn
      · rw [decide_eq_false hij]
        rfl
    have hd := qz_mdiv (Nat.two_pow_pos j) hx hm
    rw [Nat.testBit_eq_decide_div_mod_eq] at j1 j2
    have k1 := of_decide_eq_true j1
    have k2 := of_decide_eq_true j2
    generalize x / 2 ^ j = u at hd k1
    generalize (x - 1) / 2 ^ j = v at hd k2
    omega
  · intro ⟨a, b, hab, ha, hb⟩ h
    have h1 : (x &&& (x - 1)).testBit b = true := by
      rw [Nat.testBit_and, hb, Nat.testBit_eq_decide_div_mod_eq, qz_pdiv (Nat.two_pow_pos b) (qz_low ha hab), ← Nat.testBit_eq_decide_div_mod_eq, hb]
      rfl
    rw [h, Nat.zero_testBit] at h1
    exact absurd h1 (by decide)
theorem qz_0b {s : Int32} : s = 0 ↔ ∀ j, j < 32 → bt s j = false := by
  constructor
  · intro h j _
    rw [h]
    exact b_0 j
  · intro h
    apply b_ext
    intro j hj
    rw [h j hj, b_0]
theorem qz_btN {s : Int32} {j : Nat} : bt s j = s.toBitVec.toNat.testBit j := rfl
theorem qz_two32 {s : Int32} : ¬ (s &&& (s - 1)) = 0 ↔ ∃ a b, a < 32 ∧ b < 32 ∧ a ≠ b ∧ bt s a = true ∧ bt s b = true := by
  by_cases h0 : s = 0
  · rw [h0]
    constructor
    · intro h
      exact absurd (by decide) h
    · intro ⟨a, b, _, _, _, h, _⟩
      rw [b_0] at h
      exact absurd h (by decide)
  · have hx : 1 ≤ s.toBitVec.toNat := by
      apply Classical.byContradiction
      intro hn
      apply h0
      apply Int32.toBitVec_inj.mp
      apply BitVec.eq_of_toNat_eq
      rw [show s.toBitVec.toNat = 0 by omega]
      rfl
    have hlt : s.toBitVec.toNat < 2 ^ 32 := s.toBitVec.isLt
    have e1 : (s - 1).toBitVec.toNat = s.toBitVec.toNat - 1 := by
      rw [Int32.toBitVec_sub, BitVec.toNat_sub]
      rw [show (Int32.toBitVec 1).toNat = 1 from rfl]
      omega
    have e2 : (s &&& (s - 1)) = 0 ↔ s.toBitVec.toNat &&& (s.toBitVec.toNat - 1) = 0 := by
      rw [← e1, ← BitVec.toNat_and, ← Int32.toBitVec_and]
      constructor
      · intro h
        rw [h]
        rfl
      · intro h
        apply Int32.toBitVec_inj.mp
        apply BitVec.eq_of_toNat_eq
        rw [h]
        rfl
    have hb : ∀ j, s.toBitVec.toNat.testBit j = true → j < 32 := by
      intro j h
      apply Classical.byContradiction
      intro hn
      rw [Nat.testBit_lt_two_pow (Nat.lt_of_lt_of_le hlt (Nat.pow_le_pow_right (by decide) (by omega)))] at h
      exact absurd h (by decide)
    rw [e2]
    refine (qz_two hx).trans ⟨fun ⟨a, b, h1, h2, h3⟩ => ⟨a, b, hb a h2, hb b h3, by omega, h2, h3⟩, fun ⟨a, b, h1, h2, h3, h4, h5⟩ => ?_⟩
    by_cases hab : a < b
    · exact ⟨a, b, hab, h4, h5⟩
    · exact ⟨b, a, by omega, h5, h4⟩
theorem qz_oth32 {r s : Int32} : ¬ (r &&& (s ^^^ (-1))) = 0 ↔ ∃ j, j < 32 ∧ bt r j = true ∧ bt s j = false := by
  constructor
  · intro h
    apply Classical.byContradiction
    intro hn
    apply h
    rw [qz_0b]
    intro j hj
    rw [b_and, b_xor, b_m1 j hj]
    cases h1 : bt r j
    · rfl
    · cases h2 : bt s j
      · exact absurd ⟨j, hj, h1, h2⟩ hn
      · rfl
  · intro ⟨j, hj, h1, h2⟩ h
    rw [qz_0b] at h
    have h3 := h j hj
    rw [b_and, b_xor, b_m1 j hj, h1, h2] at h3
    exact absurd h3 (by decide)
/-- the reference's two tests together -/
theorem qz_race {n : Nat} {S R : Nat → Bool} {s r : Int32} (hn : n ≤ 32) (hs : ∀ j, j < 32 → bt s j = if j < n then S j else false) (hr : ∀ j, j < 32 → bt r j = if j < n then R j else false) :
    qx_Rc n S R ↔ (¬ (s &&& (s - 1)) = 0 ∨ (¬ s = 0 ∧ ¬ (r &&& (s ^^^ (-1))) = 0)) := by
  have hS : ∀ j, j < 32 → bt s j = true → j < n ∧ S j = true := by
    intro j hj h
    rw [hs j hj] at h
    by_cases hjn : j < n
    · rw [if_pos hjn] at h
      exact ⟨hjn, h⟩
    · rw [if_neg hjn] at h
      exact absurd h (by decide)
  have hS2 : ∀ j, j < n → S j = true → bt s j = true := by
    intro j hj h
    rw [hs j (by omega), if_pos hj]
    exact h
  constructor
  · intro ⟨a, b, h1, h2, h3, h4, h5⟩
    by_cases hb : S b = true
    · left
      rw [qz_two32]
      exact ⟨a, b, by omega, by omega, h3, hS2 a h1 h4, hS2 b h2 hb⟩
    · right
      have hRb : R b = true := by
        rcases h5 with h | h
        · exact absurd h hb
        · exact h
      refine ⟨fun z => ?_, ?_⟩
      · have h := hS2 a h1 h4
        rw [z, b_0] at h
        exact absurd h (by decide)
      · rw [qz_oth32]
        refine ⟨b, by omega, ?_, ?_⟩
        · rw [hr b (by omega), if_pos h2]
          exact hRb
        · rw [hs b (by omega), if_pos h2]
          cases hh : S b
          · rfl
          · exact absurd hh hb
  · intro h
    rcases h with h | ⟨h1, h2⟩
    · rw [qz_two32] at h
      obtain ⟨a, b, a1, b1, ne, a2, b2⟩ := h
      obtain ⟨a3, a4⟩ := hS a a1 a2
      obtain ⟨b3, b4⟩ := hS b b1 b2
      exact ⟨a, b, a3, b3, ne, a4, Or.inl b4⟩
    · rw [qz_oth32] at h2
      obtain ⟨b, b1, b2, b3⟩ := h2
      have hbn : b < n ∧ R b = true := by
        rw [hr b b1] at b2
        by_cases hjn : b < n
        · rw [if_pos hjn] at b2
          exact ⟨hjn, b2⟩
        · rw [if_neg hjn] at b2
          exact absurd b2 (by decide)
      have ha : ∃ a, a < 32 ∧ bt s a = true := by
        apply Classical.byContradiction
        intro hn2
        apply h1
        rw [qz_0b]
        intro j hj
        cases hh : bt s j
        · rfl
        · exact absurd ⟨j, hj, hh⟩ hn2
      obtain ⟨a, a1, a2⟩ := ha
      obtain ⟨a3, a4⟩ := hS a a1 a2
      refine ⟨a, b, a3, hbn.1, fun e => ?_, a4, Or.inr hbn.2⟩
      rw [e, b3] at a2
      exact absurd a2 (by decide)
end
section
/-! a phase of the reference -/
section
variable {f_tokens f_threads f_argument f_phases f_races f_behind f_over : Int32} {a_kind a_value a_open a_words a_counters a_own a_next a_storers a_readers a_added a_variables a_at a_steps a_finished a_done a_stack : Nat → Int32} {t n : Nat}
theorem qy_p81 {post : SY → Prop} {J59 : Int32 → Int32 → Int32 → Int32 → Int32 → Int32 → Int32 → Int32 → (Nat → Int32) → (Nat → Int32) → (Nat → Int32) → (Nat → Int32) → (Nat → Int32) → (Nat → Int32) → (Nat → Int32) → (Nat → Int32) → (Nat → Int32) → (Nat → Int32) → (Nat → Int32) → (Nat → Int32) → (Nat → Int32) → (Nat → Int32) → (Nat → Int32) → (Nat → Int32) → Prop} {own0 : Nat → Int32} (h : ∃ n107 : Nat, wY_phase_107 post J59 (nI t) n107 1 f_tokens f_threads f_argument f_phases f_races f_behind f_over a_kind a_value a_open a_words a_counters (qr_mix 64 a_words own0) a_next a_storers a_readers a_added a_variables a_at a_steps a_finished a_done a_stack) (r : Nat) :
    ∀ {i m : Nat}, i + r = 64 → r < m → wY_phase_81 post J59 (nI t) f_tokens f_threads f_argument f_phases f_races f_behind f_over m (nI i) a_kind a_value a_open a_words a_counters (qr_mix i a_words own0) a_next a_storers a_readers a_added a_variables a_at a_steps a_finished a_done a_stack := by
  induction r with
  | zero =>
    intro i m hi hm
    obtain ⟨q, rfl⟩ : ∃ q, m = q + 1 := ⟨m - 1, by omega⟩
    rw [show i = 64 by omega]
    unfold wY_phase_81
    exact br_t (by decide) h
  | succ r ih =>
    intro i m hi hm
    obtain ⟨q, rfl⟩ : ∃ q, m = q + 1 := ⟨m - 1, by omega⟩
    have v : vp_in (nI i) 64 := vp_in_nI (by omega) (by decide)
    have ci : (nI i).toNatClampNeg = i := nI_clamp (by omega)
    unfold wY_phase_81
    refine br_f (nI_ge (b := 64) (by omega) (by decide)) ⟨v, v, nm_r (e' := qr_mix (i + 1) a_words own0) (by rw [ci]; exact qr_mixS rfl) (nm_r (nI_1 i) ?_)⟩
    exact ih (i := i + 1) (by omega) (by omega)
theorem qy_p122 {post : SY → Prop} {J59 : Int32 → Int32 → Int32 → Int32 → Int32 → Int32 → Int32 → Int32 → (Nat → Int32) → (Nat → Int32) → (Nat → Int32) → (Nat → Int32) → (Nat → Int32) → (Nat → Int32) → (Nat → Int32) → (Nat → Int32) → (Nat → Int32) → (Nat → Int32) → (Nat → Int32) → (Nat → Int32) → (Nat → Int32) → (Nat → Int32) → (Nat → Int32) → (Nat → Int32) → Prop} {nx0 : Nat → Int32} {S : Nat → Bool} (ht : t < 32) (hS : ∀ k, k < 64 → bt (a_storers k) t = S k)
    (h : J59 (nI (t + 1)) f_tokens f_threads f_argument f_phases f_races f_behind f_over a_kind a_value a_open a_words a_counters a_own (qr_mix 64 (fun k => if S k = true then a_own k else nx0 k) nx0) a_storers a_readers a_added a_variables a_at a_steps a_finished a_done a_stack) (r : Nat) :
    ∀ {i m : Nat}, i + r = 64 → r < m → wY_phase_122 post J59 (nI t) f_tokens f_threads f_argument f_phases f_races f_behind f_over m (nI i) a_kind a_value a_open a_words a_counters a_own (qr_mix i (fun k => if S k = true then a_own k else nx0 k) nx0) a_storers a_readers a_added a_variables a_at a_steps a_finished a_done a_stack := by
  induction r with
  | zero =>
    intro i m hi hm
    obtain ⟨q, rfl⟩ : ∃ q, m = q + 1 := ⟨m - 1, by omega⟩
    rw [show i = 64 by omega]
    unfold wY_phase_122
    exact br_t (by decide) (nm_r (nI_1 t) h)
  | succ r ih =>
    intro i m hi hm
    obtain ⟨q, rfl⟩ : ∃ q, m = q + 1 := ⟨m - 1, by omega⟩
    have v : vp_in (nI i) 64 := vp_in_nI (by omega) (by decide)
    have ci : (nI i).toNatClampNeg = i := nI_clamp (by omega)
    have hb := hS i (by omega)
    unfold wY_phase_122
    refine br_f (nI_ge (b := 64) (by omega) (by decide)) ⟨v, ?_⟩
    rw [ci]
    by_cases hs : S i = true
    · have e : ((a_storers i) >>> (nI t &&& 31)) &&& 1 = 1 := by rw [qz_tb1 ht, hb, hs]
      refine br_t e ⟨v, v, nm_r (e' := qr_mix (i + 1) (fun k => if S k = true then a_own k else nx0 k) nx0) (qr_mixS (by rw [if_pos hs])) (nm_r (nI_1 i) ?_)⟩
      exact ih (i := i + 1) (by omega) (by omega)
    · have e : ¬ ((a_storers i) >>> (nI t &&& 31)) &&& 1 = 1 := by rw [qz_tb1 ht, hb]; exact hs
      refine br_f e (nm_r (nI_1 i) ?_)
      rw [← qr_mixK (i := i) (f := fun k => if S k = true then a_own k else nx0 k) (g := nx0) (by rw [if_neg hs])]
      exact ih (i := i + 1) (by omega) (by omega)
theorem qy_p168 {post : SY → Prop} {w c0 : Nat → Int32} {r0 : Int32} {p : Nat → Prop} (hR : ∀ i, i < 64 → (p i ↔ (¬ (a_storers i &&& (a_storers i - 1)) = 0 ∨ (¬ a_storers i = 0 ∧ ¬ (a_readers i &&& (a_storers i ^^^ (-1))) = 0))))
    (h : post (f_tokens, f_threads, f_argument, f_phases, r0 + qr_cnt p, f_behind, f_over, a_kind, a_value, a_open, qr_mix 64 a_next w, qr_mix 64 (fun j => c0 j + a_added j) c0, a_own, a_next, a_storers, a_readers, a_added, a_variables, a_at, a_steps, a_finished, a_done, a_stack)) (r : Nat) :
    ∀ {i m : Nat} {ra : Int32}, i + r = 64 → r < m → ra = r0 + qz_sm (fun i => qr_b (p i)) i → wY_phase_168 post f_tokens f_threads f_argument f_phases f_behind f_over m (nI i) ra a_kind a_value a_open (qr_mix i a_next w) (qr_mix i (fun j => c0 j + a_added j) c0) a_own a_next a_storers a_readers a_added a_variables a_at a_steps a_finished a_done a_stack := by
  induction r with
  | zero =>
    intro i m ra hi hm hra
    obtain ⟨q, rfl⟩ : ∃ q, m = q + 1 := ⟨m - 1, by omega⟩
    have e : i = 64 := by omega
    rw [e] at hra ⊢
    unfold wY_phase_168
    refine br_t (by decide) ?_
    rw [hra]
    exact h
  | succ r ih =>
    intro i m ra hi hm hra
    obtain ⟨q, rfl⟩ : ∃ q, m = q + 1 := ⟨m - 1, by omega⟩
    have v : vp_in (nI i) 64 := vp_in_nI (by omega) (by decide)
    have ci : (nI i).toNatClampNeg = i := nI_clamp (by omega)
    have hp := hR i (by omega)
    have h255 : p i → wY_phase_255 post (wY_phase_168 post f_tokens f_threads f_argument f_phases f_behind f_over q) (nI i) f_tokens f_threads f_argument f_phases ra f_behind f_over a_kind a_value a_open (qr_mix (i + 1) a_next w) (qr_mix (i + 1) (fun j => c0 j + a_added j) c0) a_own a_next a_storers a_readers a_added a_variables a_at a_steps a_finished a_done a_stack := by
      intro g
      unfold wY_phase_255
      refine nm_e (nm_r (nI_1 i) ?_)
      refine ih (i := i + 1) (by omega) (by omega) ?_
      rw [hra, Int32.add_assoc]
      refine congrArg (fun x => r0 + x) ?_
      show _ = qz_sm (fun i => qr_b (p i)) i + qr_b (p i)
      rw [qr_b1 g]
    have hno : ¬ p i → wY_phase_168 post f_tokens f_threads f_argument f_phases f_behind f_over q (nI (i + 1)) ra a_kind a_value a_open (qr_mix (i + 1) a_next w) (qr_mix (i + 1) (fun j => c0 j + a_added j) c0) a_own a_next a_storers a_readers a_added a_variables a_at a_steps a_finished a_done a_stack := by
      intro g
      refine ih (i := i + 1) (by omega) (by omega) ?_
      rw [hra]
      refine congrArg (fun x => r0 + x) ?_
      show _ = qz_sm (fun i => qr_b (p i)) i + qr_b (p i)
      rw [qr_b0 g, Int32.add_zero]
    have h244 : ∀ x3 z0 : Int32, ((¬ x3 = 0 ∨ ¬ z0 = 0) ↔ p i) → wY_phase_244 post (wY_phase_168 post f_tokens f_threads f_argument f_phases f_behind f_over q) (nI i) x3 z0 f_tokens f_threads f_argument f_phases ra f_behind f_over a_kind a_value a_open (qr_mix (i + 1) a_next w) (qr_mix (i + 1) (fun j => c0 j + a_added j) c0) a_own a_next a_storers a_readers a_added a_variables a_at a_steps a_finished a_done a_stack := by
      intro x3 z0 hxz
      unfold wY_phase_244
      exact br_c (fun g3 => br_c (fun g0 => nm_r (nI_1 i) (hno (fun z => by
        rcases hxz.mpr z with y | y
        · exact y g3
        · exact y g0))) (fun g0 => h255 (hxz.mp (Or.inr g0)))) (fun g3 => h255 (hxz.mp (Or.inl g3)))
    have h221 : ∀ z0 : Int32, (¬ z0 = 0 ↔ ¬ (a_storers i &&& (a_storers i - 1)) = 0) → wY_phase_221 post (wY_phase_168 post f_tokens f_threads f_argument f_phases f_behind f_over q) (nI i) (a_storers i) z0 f_tokens f_threads f_argument f_phases ra f_behind f_over a_kind a_value a_open (qr_mix (i + 1) a_next w) (qr_mix (i + 1) (fun j => c0 j + a_added j) c0) a_own a_next a_storers a_readers a_added a_variables a_at a_steps a_finished a_done a_stack := by
      intro z0 hz
      unfold wY_phase_221
      refine br_c (fun g => ?_) (fun g => ⟨v, ?_⟩)
      · unfold wY_phase_243
        refine h244 z0 0 ?_
        rw [hp, hz]
        exact ⟨fun y => Or.inl (y.resolve_right (fun u => u rfl)), fun y => Or.inl (y.resolve_right (fun u => u.1 g))⟩
      · rw [ci]
        refine br_c (fun g2 => ?_) (fun g2 => ?_)
        · unfold wY_phase_243
          refine h244 z0 0 ?_
          rw [hp, hz]
          exact ⟨fun y => Or.inl (y.resolve_right (fun u => u rfl)), fun y => Or.inl (y.resolve_right (fun u => u.2 g2))⟩
        · refine h244 z0 1 ?_
          rw [hp]
          exact ⟨fun _ => Or.inr ⟨g, g2⟩, fun _ => Or.inr (by decide)⟩
    unfold wY_phase_168
    refine br_f (nI_ge (b := 64) (by omega) (by decide)) ⟨v, v, nm_r (e' := qr_mix (i + 1) a_next w) (by rw [ci]; exact qr_mixS rfl) ⟨v, v, v, nm_r (e' := qr_mix (i + 1) (fun j => c0 j + a_added j) c0) (by rw [ci, qr_mixi]; exact qr_mixS rfl) ⟨v, nm_r (e' := a_storers i) (by rw [ci]) ?_⟩⟩⟩
    refine br_c (fun g => h221 0 ⟨fun y => absurd rfl y, fun y => absurd g y⟩) (fun g => h221 1 ⟨fun _ => g, fun _ => by decide⟩)
theorem qy_p12 {post : SY → Prop} {nx0 st0 rd0 ad0 : Nat → Int32} (h : ∃ n59 : Nat, wY_phase_59 post n59 0 f_tokens f_threads f_argument f_phases f_races f_behind f_over a_kind a_value a_open a_words a_counters a_own (qr_mix 64 a_words nx0) (qr_mix 64 (fun _ => 0) st0) (qr_mix 64 (fun _ => 0) rd0) (qr_mix 64 (fun _ => 0) ad0) a_variables a_at a_steps a_finished a_done a_stack) (r : Nat) :
    ∀ {i m : Nat}, i + r = 64 → r < m → wY_phase_12 post f_tokens f_threads f_argument f_phases f_races f_behind f_over m (nI i) a_kind a_value a_open a_words a_counters a_own (qr_mix i a_words nx0) (qr_mix i (fun _ => 0) st0) (qr_mix i (fun _ => 0) rd0) (qr_mix i (fun _ => 0) ad0) a_variables a_at a_steps a_finished a_done a_stack := by
  induction r with
  | zero =>
    intro i m hi hm
    obtain ⟨q, rfl⟩ : ∃ q, m = q + 1 := ⟨m - 1, by omega⟩
    rw [show i = 64 by omega]
    unfold wY_phase_12
    exact br_t (by decide) h
  | succ r ih =>
    intro i m hi hm
    obtain ⟨q, rfl⟩ : ∃ q, m = q + 1 := ⟨m - 1, by omega⟩
    have v : vp_in (nI i) 64 := vp_in_nI (by omega) (by decide)
    have ci : (nI i).toNatClampNeg = i := nI_clamp (by omega)
    unfold wY_phase_12
    refine br_f (nI_ge (b := 64) (by omega) (by decide)) ⟨v, v, nm_r (e' := qr_mix (i + 1) a_words nx0) (by rw [ci]; exact qr_mixS rfl) ⟨v, nm_r (e' := qr_mix (i + 1) (fun _ => 0) st0) (by rw [ci]; exact qr_mixS rfl) ⟨v, nm_r (e' := qr_mix (i + 1) (fun _ => 0) rd0) (by rw [ci]; exact qr_mixS rfl) ⟨v, nm_r (e' := qr_mix (i + 1) (fun _ => 0) ad0) (by rw [ci]; exact qr_mixS rfl) (nm_r (nI_1 i) ?_)⟩⟩⟩⟩
    exact ih (i := i + 1) (by omega) (by omega)
end
theorem qr_enI (b : Bool) : (if b = true then (1 : Int32) else 0) = if (if b = true then 2 else 0) = 2 then 1 else 0 := by cases b <;> rfl
/-- local states when threads below t are through -/
def qy_g (G : qr_G) (F : Nat → qt_Y) (t : Nat) : Nat → qt_X := fun s => if s < t then qy_e (F s) else qy_e (qr_ai G s, qr_c0 G s)
theorem qy_gs {G : qr_G} {F : Nat → qt_Y} {t : Nat} : qy_g G F t t = qy_e (qr_ai G t, qr_c0 G t) := if_neg (Nat.lt_irrefl t)
theorem qy_gS {G : qr_G} {F : Nat → qt_Y} {t : Nat} : qy_g G F (t + 1) = qx_G (qy_g G F t) t (qy_e (F t)) := by
  funext s
  unfold qy_g qx_G
  by_cases e : s = t
  · rw [if_pos (by omega), if_pos e, e]
  · rw [if_neg e]
    dsimp only
    by_cases h : s < t
    · rw [if_pos h, if_pos (by omega)]
    · rw [if_neg h, if_neg (by omega)]
/-- the reference between threads of a phase -/
def qy_Q (n : Nat) (G : qr_G) (F : Nat → qt_Y) (t : Nat) (f_over : Int32) (a_next a_storers a_readers a_added a_variables a_at a_steps a_finished a_done : Nat → Int32) : Prop :=
  (∀ s, s < n → qy_Lt (qy_g G F t s) s a_at a_variables a_steps a_finished) ∧ (∀ i, i < 64 → a_next i = qr_last (fun s => qt_S (F s).2 i) (fun s => qt_ow (F s).2 i) (qr_wd G i) t) ∧
  qy_B a_storers (qy_in n (fun s => qt_S (qy_g G F t s).2.2)) ∧ qy_B a_readers (qy_in n (fun s => qt_R (qy_g G F t s).2.2)) ∧ qx_A n (qy_g G F t) (qr_dn G) a_added a_done ∧ qx_V n (qy_g G F t) (qr_ov G) f_over
/-- between phases: the reference's state -/
def qr_Y (n ph : Nat) (G : qr_G) (f_phases f_races f_over : Int32) (a_words a_counters a_variables a_at a_steps a_finished a_done : Nat → Int32) : Prop :=
  a_words = qr_wd G ∧ a_counters = qr_cn G ∧ f_phases = nI ph ∧ f_races = qr_rc G ∧ f_over = (if qr_ov G = true then 1 else 0) ∧
  (∀ t, t < n → a_at t = nI (qr_ai G t) ∧ (∀ v, v < 6 → a_variables (6 * t + v) = qr_vr G t v) ∧ a_steps t = nI (qr_sp G t) ∧ a_finished t = (if qr_en G t = true then 1 else 0)) ∧ ∀ k, k < 64 → a_done k = qr_dn G k
section
variable {N : Nat} {kd V : Nat → Int32} {K : Nat → Nat} {op sl st nu : Nat → Int32} {P Q e1 e2 tg : Nat → Nat} {B : Nat → Prop} {n ph : Nat} {ag : Int32} {G : qr_G} {F : Nat → qt_Y} {f_phases f_races : Int32} {a_open a_words : Nat → Int32}
theorem qy_p107 {post : SY → Prop} {J59 : Int32 → Int32 → Int32 → Int32 → Int32 → Int32 → Int32 → Int32 → (Nat → Int32) → (Nat → Int32) → (Nat → Int32) → (Nat → Int32) → (Nat → Int32) → (Nat → Int32) → (Nat → Int32) → (Nat → Int32) → (Nat → Int32) → (Nat → Int32) → (Nat → Int32) → (Nat → Int32) → (Nat → Int32) → (Nat → Int32) → (Nat → Int32) → (Nat → Int32) → Prop} {t : Nat} {a_next : Nat → Int32} {g0 : Nat → qt_X} {Ft : qt_Y} {d0 : Nat → Int32} {o0 : Bool} (hT : qe_T N kd V K) (hC : qc_CODE N K V op sl st nu P Q e1 e2 tg B) (hn : n ≤ 32) (ht : t < n) (hFt : qt_fl Ft.2 ≠ 0)
    (h : ∀ (f_behind f_over : Int32) (a_own a_storers a_readers a_added a_variables a_at a_steps a_finished a_done a_stack : Nat → Int32), qy_I n (qx_G g0 t (qy_e Ft)) d0 o0 t f_over a_own a_storers a_readers a_added a_variables a_at a_steps a_finished a_done → ∃ n122 : Nat, wY_phase_122 post J59 (nI t) (nI N) (nI n) ag f_phases f_races f_behind f_over n122 0 kd V a_open (qr_wd G) (qr_cn G) a_own a_next a_storers a_readers a_added a_variables a_at a_steps a_finished a_done a_stack) (r : Nat) :
    ∀ (f_behind f_over : Int32) (a_own a_storers a_readers a_added a_variables a_at a_steps a_finished a_done a_stack : Nat → Int32) {i m : Nat} {c : qt_C}, r < m → qt_yn N K V e1 e2 tg (qr_cn G) (nI n) ag t r (i, c) = Ft → qt_fl c = 0 → qt_sp c ≤ 300 → B i → qy_I n (qx_G g0 t (qy_e (i, c))) d0 o0 t f_over a_own a_storers a_readers a_added a_variables a_at a_steps a_finished a_done →
      wY_phase_107 post J59 (nI t) m 1 (nI N) (nI n) ag f_phases f_races f_behind f_over kd V a_open (qr_wd G) (qr_cn G) a_own a_next a_storers a_readers a_added a_variables a_at a_steps a_finished a_done a_stack := by
  induction r with
  | zero =>
    intro f_behind f_over a_own a_storers a_readers a_added a_variables a_at a_steps a_finished a_done a_stack i m c hm hr hf hs hB hI
    rw [← hr] at hFt
    exact absurd hf hFt
  | succ r ih =>
    intro f_behind f_over a_own a_storers a_readers a_added a_variables a_at a_steps a_finished a_done a_stack i m c hm hr hf hs hB hI
    obtain ⟨q, rfl⟩ : ∃ q, m = q + 1 := ⟨m - 1, by omega⟩
    unfold wY_phase_107
    refine br_f (by decide) ?_
    refine qy_step (c := c) (i := i) hT hC hn ht hB hs hf _ _ _ _ _ _ _ _ _ _ _ _ qx_Gs hI ?_
    intro f_behind f_over a_own a_storers a_readers a_added a_variables a_at a_steps a_finished a_done a_stack hI2
    rw [qx_GG] at hI2
    obtain ⟨g1, g2, g3, _⟩ := qt_go_y (ct := qr_cn G) (tn := nI n) (ag := ag) (t := t) hT.1 hC hB hf hs
    have hr2 : qt_yn N K V e1 e2 tg (qr_cn G) (nI n) ag t r (qt_y N K V e1 e2 tg (qr_cn G) (nI n) ag t (i, c)) = Ft := hr
    by_cases h0 : qt_fl (qt_y N K V e1 e2 tg (qr_cn G) (nI n) ag t (i, c)).2 = 0
    · rw [if_pos h0]
      exact ih _ _ _ _ _ _ _ _ _ _ _ _ (i := (qt_y N K V e1 e2 tg (qr_cn G) (nI n) ag t (i, c)).1) (c := (qt_y N K V e1 e2 tg (qr_cn G) (nI n) ag t (i, c)).2) (by omega) hr2 h0 g2 g1 hI2
    · rw [if_neg h0]
      rw [qt_yn_st h0] at hr2
      rw [hr2] at hI2
      obtain ⟨q2, rfl⟩ : ∃ q2, q = q2 + 1 := ⟨q - 1, by omega⟩
      unfold wY_phase_107
      exact br_t rfl (h _ _ _ _ _ _ _ _ _ _ _ _ hI2)
theorem qy_p59 {post : SY → Prop} (hT : qe_T N kd V K) (hC : qc_CODE N K V op sl st nu P Q e1 e2 tg B) (hn : n ≤ 32) (hGI : qr_I n ph B G)
    (hF : ∀ t, t < n → qr_F N K V op sl st nu P e1 e2 tg B (nI n) ag ph G t (F t)) (hph : f_phases = nI (ph + 1)) (hrc : f_races = qr_rc G)
    (h : ∀ (f_behind f_over : Int32) (a_own a_storers a_readers a_added a_variables a_at a_steps a_finished a_done a_stack : Nat → Int32) (f_races : Int32) (a_words a_counters a_next : Nat → Int32), qr_Y n (ph + 1) (qr_nx n G F) f_phases f_races f_over a_words a_counters a_variables a_at a_steps a_finished a_done → post (nI N, nI n, ag, f_phases, f_races, f_behind, f_over, kd, V, a_open, a_words, a_counters, a_own, a_next, a_storers, a_readers, a_added, a_variables, a_at, a_steps, a_finished, a_done, a_stack)) (r : Nat) :
    ∀ (f_behind f_over : Int32) (a_own a_storers a_readers a_added a_variables a_at a_steps a_finished a_done a_stack : Nat → Int32) {a_next : Nat → Int32} {t m : Nat}, t + r = n → r < m → qy_Q n G F t f_over a_next a_storers a_readers a_added a_variables a_at a_steps a_finished a_done → wY_phase_59 post m (nI t) (nI N) (nI n) ag f_phases f_races f_behind f_over kd V a_open (qr_wd G) (qr_cn G) a_own a_next a_storers a_readers a_added a_variables a_at a_steps a_finished a_done a_stack := by
  induction r with
  | zero =>
    intro f_behind f_over a_own a_storers a_readers a_added a_variables a_at a_steps a_finished a_done a_stack a_next t m ht hm hQ
    obtain ⟨q, rfl⟩ : ∃ q, m = q + 1 := ⟨m - 1, by omega⟩
    have etn : t = n := by omega
    subst etn
    obtain ⟨q1, q2, q3, q4, q5, q6⟩ := hQ
    have gF : ∀ s, s < t → qy_g G F t s = qy_e (F s) := fun s hs => if_pos hs
    unfold wY_phase_59
    refine br_t (nI_le (by omega) (by omega)) ⟨65, ?_⟩
    have hh := qy_p168 (f_tokens := nI N) (f_threads := nI t) (f_argument := ag) (f_phases := f_phases) (f_behind := f_behind) (f_over := f_over) (a_kind := kd) (a_value := V) (a_open := a_open) (a_own := a_own) (a_next := a_next) (a_storers := a_storers) (a_readers := a_readers) (a_added := a_added) (a_variables := a_variables) (a_at := a_at) (a_steps := a_steps) (a_finished := a_finished) (a_done := a_done) (a_stack := a_stack)
      (post := post) (w := qr_wd G) (c0 := qr_cn G) (r0 := qr_rc G) (p := fun i => qx_Rc t (fun s => qt_S (F s).2 i) (fun s => qt_R (F s).2 i)) ?_ ?_ 64 (i := 0) (m := 65) (ra := f_races) (by omega) (by omega) ?_
    · rw [qr_mix0, qr_mix0] at hh
      exact hh
    · intro i hi
      refine qz_race hn (fun j hj => ?_) (fun j hj => ?_)
      · rw [q3 i hi j hj]
        unfold qy_in
        by_cases hjt : j < t
        · rw [if_pos hjt, if_pos hjt]
          dsimp only
          rw [gF j hjt]
          rfl
        · rw [if_neg hjt, if_neg hjt]
      · rw [q4 i hi j hj]
        unfold qy_in
        by_cases hjt : j < t
        · rw [if_pos hjt, if_pos hjt]
          dsimp only
          rw [gF j hjt]
          rfl
        · rw [if_neg hjt, if_neg hjt]
    · refine h f_behind f_over a_own a_storers a_readers a_added a_variables a_at a_steps a_finished a_done a_stack _ _ _ a_next ⟨?_, ?_, hph, rfl, ?_, fun s hs => ?_, fun k hk => ?_⟩
      · show _ = qr_mix 64 (qr_w1 t G F) (qr_wd G)
        funext j
        by_cases hj : j < 64
        · rw [qr_mixl hj, qr_mixl hj, q2 j hj]
          rfl
        · rw [qr_mixg hj, qr_mixg hj]
      · show _ = qr_mix 64 (qr_c1 t G F) (qr_cn G)
        funext j
        by_cases hj : j < 64
        · rw [qr_mixl hj, qr_mixl hj]
          unfold qr_c1
          rw [q5.1 j hj]
          exact congrArg (fun x => qr_cn G j + x) (qz_sm_ext t (fun s hs => by rw [gF s hs]; rfl))
        · rw [qr_mixg hj, qr_mixg hj]
      · show f_over = if qr_B (qr_ov G = true ∨ qr_anyF t F) = true then 1 else 0
        have e : qx_anyO t (qy_g G F t) ↔ qr_anyF t F := by
          constructor
          · intro ⟨s, h1, h2⟩
            rw [gF s h1] at h2
            exact ⟨s, h1, h2⟩
          · intro ⟨s, h1, h2⟩
            exact ⟨s, h1, by rw [gF s h1]; exact h2⟩
        rcases q6 with ⟨h1, h2, h3⟩ | ⟨h1, h2⟩
        · rw [h1, if_neg]
          intro z
          rcases qr_Bt.mp z with z | z
          · rw [h2] at z
            exact absurd z (by decide)
          · exact h3 (e.mpr z)
        · rw [h1, if_pos]
          rw [e] at h2
          exact qr_Bt.mpr h2
      · obtain ⟨l1, l2, l3, l4⟩ := q1 s hs
        rw [gF s hs] at l1 l2 l3 l4
        refine ⟨l1, l2, l3, ?_⟩
        rw [l4]
        show (if qt_fl (F s).2 = 2 then (1 : Int32) else 0) = if decide (qt_fl (F s).2 = 2) = true then 1 else 0
        by_cases h2 : qt_fl (F s).2 = 2
        · rw [if_pos h2, if_pos (decide_eq_true h2)]
        · rw [if_neg h2, if_neg (by rw [decide_eq_false h2]; decide)]
      · show _ = qr_dn G k + qz_sm (fun s => qt_D (F s).2 k) t
        rw [q5.2 k hk]
        exact congrArg (fun x => qr_dn G k + x) (qz_sm_ext t (fun s hs => by rw [gF s hs]; rfl))
    · rw [hrc]
      exact (Int32.add_zero _).symm
  | succ r ih =>
    intro f_behind f_over a_own a_storers a_readers a_added a_variables a_at a_steps a_finished a_done a_stack a_next t m ht hm hQ
    obtain ⟨q, rfl⟩ : ∃ q, m = q + 1 := ⟨m - 1, by omega⟩
    obtain ⟨q1, q2, q3, q4, q5, q6⟩ := hQ
    have htn : t < n := by omega
    obtain ⟨f1, f2, f3, f4, f5, f6, f7, f8⟩ := hF t htn
    obtain ⟨b1, b2, b3⟩ := hGI t htn
    obtain ⟨l1, l2, l3, l4⟩ := q1 t htn
    rw [qy_gs] at l1 l2 l3 l4
    have vt : vp_in (nI t) 32 := vp_in_nI (by omega) (by decide)
    have cc : (nI t).toNatClampNeg = t := nI_clamp (by omega)
    unfold wY_phase_59
    refine br_f (nI_ge (by omega) (by omega)) ⟨vt, ?_⟩
    rw [cc]
    have l4' : a_finished t = if (if qr_en G t = true then 2 else 0) = 2 then 1 else 0 := l4
    cases he : qr_en G t
    · rw [he] at l4'
      have hfi : a_finished t = 0 := l4'
      have hfl : qt_fl (qr_c0 G t) = 0 := by
        show (if qr_en G t = true then 2 else 0) = 0
        rw [he]
        rfl
      refine br_t hfi ⟨65, ?_⟩
      obtain ⟨nY, hnY⟩ := f1
      have hgo : ∃ n107 : Nat, wY_phase_107 post (wY_phase_59 post q) (nI t) n107 1 (nI N) (nI n) ag f_phases f_races f_behind f_over kd V a_open (qr_wd G) (qr_cn G) (qr_mix 64 (qr_wd G) a_own) a_next a_storers a_readers a_added a_variables a_at a_steps a_finished a_done a_stack := by
        refine ⟨nY + 1, ?_⟩
        refine qy_p107 (d0 := qr_dn G) (o0 := qr_ov G) (g0 := qy_g G F t) (Ft := F t) hT hC hn htn f2 ?_ nY _ _ _ _ _ _ _ _ _ _ _ _ (i := qr_ai G t) (c := qr_c0 G t) (by omega) hnY hfl b2 b1 ?_
        · intro f_behind f_over a_own a_storers a_readers a_added a_variables a_at a_steps a_finished a_done a_stack hI
          refine ⟨65, ?_⟩
          have hS : ∀ k, k < 64 → bt (a_storers k) t = qt_S (F t).2 k := by
            intro k hk
            have h3 := hI.2.2.1 k hk t (by omega)
            unfold qy_in at h3
            rw [if_pos htn] at h3
            dsimp only at h3
            rw [qx_Gs] at h3
            exact h3
          have ho := hI.2.1
          rw [qx_Gs] at ho
          have hh := qy_p122 (f_tokens := nI N) (f_threads := nI n) (f_argument := ag) (f_phases := f_phases) (f_races := f_races) (f_behind := f_behind) (f_over := f_over) (a_kind := kd) (a_value := V) (a_open := a_open) (a_words := qr_wd G) (a_counters := qr_cn G) (a_own := a_own) (a_storers := a_storers) (a_readers := a_readers) (a_added := a_added) (a_variables := a_variables) (a_at := a_at) (a_steps := a_steps) (a_finished := a_finished) (a_done := a_done) (a_stack := a_stack)
            (post := post) (J59 := wY_phase_59 post q) (nx0 := a_next) (S := qt_S (F t).2) (by omega) hS ?_ 64 (i := 0) (m := 65) (by omega) (by omega)
          · rw [qr_mix0] at hh
            exact hh
          · refine ih _ _ _ _ _ _ _ _ _ _ _ _ (t := t + 1) (by omega) (by omega) ?_
            refine ⟨by rw [qy_gS]; exact hI.1, fun i hi => ?_, by rw [qy_gS]; exact hI.2.2.1, by rw [qy_gS]; exact hI.2.2.2.1, by rw [qy_gS]; exact hI.2.2.2.2.1, by rw [qy_gS]; exact hI.2.2.2.2.2⟩
            rw [qr_mixl hi]
            show (if qt_S (F t).2 i = true then a_own i else a_next i) = if qt_S (F t).2 i = true then qt_ow (F t).2 i else qr_last (fun s => qt_S (F s).2 i) (fun s => qt_ow (F s).2 i) (qr_wd G i) t
            rw [ho i hi, q2 i hi]
            rfl
        · have e : qx_G (qy_g G F t) t (qy_e (qr_ai G t, qr_c0 G t)) = qy_g G F t := qx_Gid qy_gs
          rw [e]
          refine ⟨q1, fun i hi => ?_, q3, q4, q5, q6⟩
          rw [qr_mixl hi, qy_gs]
          rfl
      have hh := qy_p81 (f_tokens := nI N) (f_threads := nI n) (f_argument := ag) (f_phases := f_phases) (f_races := f_races) (f_behind := f_behind) (f_over := f_over) (a_kind := kd) (a_value := V) (a_open := a_open) (a_words := qr_wd G) (a_counters := qr_cn G) (a_next := a_next) (a_storers := a_storers) (a_readers := a_readers) (a_added := a_added) (a_variables := a_variables) (a_at := a_at) (a_steps := a_steps) (a_finished := a_finished) (a_done := a_done) (a_stack := a_stack)
        hgo 64 (i := 0) (m := 65) (by omega) (by omega)
      rw [qr_mix0] at hh
      exact hh
    · rw [he] at l4'
      have hfi : ¬ a_finished t = 0 := by
        rw [l4']
        decide
      refine br_f hfi (nm_r (nI_1 t) ?_)
      have eF := f7 he
      have e : qy_g G F (t + 1) = qy_g G F t := by
        rw [qy_gS, eF]
        exact qx_Gid qy_gs
      refine ih _ _ _ _ _ _ _ _ _ _ _ _ (t := t + 1) (by omega) (by omega) ?_
      refine ⟨by rw [e]; exact q1, fun i hi => ?_, by rw [e]; exact q3, by rw [e]; exact q4, by rw [e]; exact q5, by rw [e]; exact q6⟩
      show _ = if qt_S (F t).2 i = true then qt_ow (F t).2 i else qr_last (fun s => qt_S (F s).2 i) (fun s => qt_ow (F s).2 i) (qr_wd G i) t
      rw [if_neg]
      · exact q2 i hi
      · rw [eF]
        show ¬ (false = true)
        decide
/-- a phase of the reference -/
theorem qy_phase {post : SY → Prop} (hT : qe_T N kd V K) (hC : qc_CODE N K V op sl st nu P Q e1 e2 tg B) (hn : n ≤ 32) (hGI : qr_I n ph B G) (hF : ∀ t, t < n → qr_F N K V op sl st nu P e1 e2 tg B (nI n) ag ph G t (F t)) (f_behind f_over : Int32) (a_own a_storers a_readers a_added a_variables a_at a_steps a_finished a_done a_stack : Nat → Int32) {a_counters a_next : Nat → Int32}
    (hY : qr_Y n ph G f_phases f_races f_over a_words a_counters a_variables a_at a_steps a_finished a_done)
    (h : ∀ (f_behind f_over : Int32) (a_own a_storers a_readers a_added a_variables a_at a_steps a_finished a_done a_stack : Nat → Int32) (f_phases f_races : Int32) (a_words a_counters a_next : Nat → Int32), qr_Y n (ph + 1) (qr_nx n G F) f_phases f_races f_over a_words a_counters a_variables a_at a_steps a_finished a_done → post (nI N, nI n, ag, f_phases, f_races, f_behind, f_over, kd, V, a_open, a_words, a_counters, a_own, a_next, a_storers, a_readers, a_added, a_variables, a_at, a_steps, a_finished, a_done, a_stack)) :
    wpY_phase post (nI N, nI n, ag, f_phases, f_races, f_behind, f_over, kd, V, a_open, a_words, a_counters, a_own, a_next, a_storers, a_readers, a_added, a_variables, a_at, a_steps, a_finished, a_done, a_stack) := by
  obtain ⟨y1, y2, y3, y4, y5, y6, y7⟩ := hY
  subst y1 y2
  unfold wpY_phase
  dsimp only
  refine nm_r (e' := nI (ph + 1)) (by rw [y3, nI_1]) ⟨65, ?_⟩
  have hh := qy_p12 (f_tokens := nI N) (f_threads := nI n) (f_argument := ag) (f_phases := nI (ph + 1)) (f_races := f_races) (f_behind := f_behind) (f_over := f_over) (a_kind := kd) (a_value := V) (a_open := a_open) (a_words := qr_wd G) (a_counters := qr_cn G) (a_own := a_own) (a_variables := a_variables) (a_at := a_at) (a_steps := a_steps) (a_finished := a_finished) (a_done := a_done) (a_stack := a_stack)
    (post := post) (nx0 := a_next) (st0 := a_storers) (rd0 := a_readers) (ad0 := a_added) ⟨n + 1, ?_⟩ 64 (i := 0) (m := 65) (by omega) (by omega)
  · rw [qr_mix0, qr_mix0, qr_mix0, qr_mix0] at hh
    exact hh
  · refine qy_p59 hT hC hn hGI hF rfl y4 (fun f_behind f_over a_own a_storers a_readers a_added a_variables a_at a_steps a_finished a_done a_stack f_races a_words a_counters a_next hh => h _ _ _ _ _ _ _ _ _ _ _ _ _ _ _ _ _ hh) n _ _ _ _ _ _ _ _ _ _ _ _ (t := 0) (by omega) (by omega) ?_
    have hb0 : ∀ (X0 : Nat → Int32) (C : Nat → Nat → Bool), (∀ s i, C s i = false) → qy_B (qr_mix 64 (fun _ => 0) X0) C := by
      intro X0 C hC i hi s hs
      rw [qr_mixl hi, b_0, hC]
    have hc0 : ∀ (f : qt_X → Nat → Bool), (∀ s i, f (qy_e (qr_ai G s, qr_c0 G s)) i = false) → ∀ s i, qy_in n (fun s => f (qy_g G F 0 s)) s i = false := by
      intro f hf s i
      unfold qy_in
      by_cases hs : s < n
      · rw [if_pos hs]
        exact hf s i
      · rw [if_neg hs]
    refine ⟨fun s hs => ?_, fun i hi => ?_, hb0 _ _ (hc0 (fun l => qt_S l.2.2) (fun _ _ => rfl)), hb0 _ _ (hc0 (fun l => qt_R l.2.2) (fun _ _ => rfl)), ⟨fun i hi => ?_, fun k hk => ?_⟩, ?_⟩
    · obtain ⟨z1, z2, z3, z4⟩ := y6 s hs
      refine ⟨z1, z2, z3, ?_⟩
      rw [z4]
      exact qr_enI (qr_en G s)
    · rw [qr_mixl hi]
      rfl
    · rw [qr_mixl hi]
      exact (qz_sm_0 n (fun _ _ => rfl)).symm
    · rw [y7 k hk]
      exact ((congrArg (fun x => qr_dn G k + x) (qz_sm_0 n (fun _ _ => rfl))).trans (Int32.add_zero _)).symm
    · have no : ¬ qx_anyO n (qy_g G F 0) := fun ⟨t, _, h⟩ => absurd h (by show ¬ (false = true); decide)
      unfold qx_V
      rw [y5]
      by_cases ho : qr_ov G = true
      · rw [if_pos ho]
        exact Or.inr ⟨rfl, Or.inl ho⟩
      · rw [if_neg ho]
        refine Or.inl ⟨rfl, ?_, no⟩
        cases hh : qr_ov G
        · rfl
        · exact absurd hh ho
end
end
section
/-! whole runs: phase by phase on both sides -/
def qr_all (n : Nat) (G : qr_G) : Prop := ∀ t, t < n → qr_en G t = true
theorem qr_some {n : Nat} {G : qr_G} (h : ¬ qr_all n G) : ∃ t, t < n ∧ qr_en G t = false := by
  apply Classical.byContradiction
  intro hn
  apply h
  intro t ht
  cases he : qr_en G t
  · exact absurd ⟨t, ht, he⟩ hn
  · rfl
theorem qz_mask : ∀ n, n < 32 → ∀ s, s < 32 → bt (((1 : Int32) <<< (nI n &&& 31)) - 1) s = decide (s < n) := by decide +kernel
section
variable {n : Nat} {G : qr_G}
theorem qr_endX {x3 f_ended : Int32} (hn : n ≤ 32) (hx : ∀ s, s < 32 → bt x3 s = decide (s < n)) (h1 : ∀ t, t < n → bt f_ended t = qr_en G t) (h2 : ∀ t, n ≤ t → t < 32 → bt f_ended t = false) : f_ended = x3 ↔ qr_all n G := by
  constructor
  · intro e t ht
    rw [← h1 t ht, e, hx t (by omega)]
    exact decide_eq_true ht
  · intro h
    apply b_ext
    intro s hs
    rw [hx s hs]
    by_cases hsn : s < n
    · rw [h1 s hsn, h s hsn, decide_eq_true hsn]
    · rw [h2 s (by omega) hs, decide_eq_false hsn]
variable {f_tokens f_threads f_argument f_phases f_races f_behind f_over : Int32} {a_kind a_value a_open a_words a_counters a_own a_next a_storers a_readers a_added a_variables a_at a_steps a_finished a_done a_stack : Nat → Int32}
theorem qy_r164 {post : Int32 → SY → Prop} {J149 : Int32 → Int32 → Int32 → Int32 → Int32 → Int32 → Int32 → Int32 → (Nat → Int32) → (Nat → Int32) → (Nat → Int32) → (Nat → Int32) → (Nat → Int32) → (Nat → Int32) → (Nat → Int32) → (Nat → Int32) → (Nat → Int32) → (Nat → Int32) → (Nat → Int32) → (Nat → Int32) → (Nat → Int32) → (Nat → Int32) → (Nat → Int32) → (Nat → Int32) → Prop} (hn : n ≤ 32) (hfi : ∀ t, t < n → a_finished t = if qr_en G t = true then 1 else 0) (h0 : qr_all n G → J149 0 f_tokens f_threads f_argument f_phases f_races f_behind f_over a_kind a_value a_open a_words a_counters a_own a_next a_storers a_readers a_added a_variables a_at a_steps a_finished a_done a_stack) (h1 : ¬ qr_all n G → J149 1 f_tokens f_threads f_argument f_phases f_races f_behind f_over a_kind a_value a_open a_words a_counters a_own a_next a_storers a_readers a_added a_variables a_at a_steps a_finished a_done a_stack) (r : Nat) :
    ∀ {t m : Nat} {x4 : Int32}, t + r = n → r < m → ((x4 = 0 ∧ ∀ s, s < t → qr_en G s = true) ∨ (x4 = 1 ∧ ∃ s, s < t ∧ qr_en G s = false)) → wY_run_164 post J149 (nI n) f_tokens f_threads f_argument f_phases f_races f_behind f_over a_kind a_value a_open a_words a_counters a_own a_next a_storers a_readers a_added a_variables a_at a_steps a_finished a_done a_stack m x4 (nI t) := by
  induction r with
  | zero =>
    intro t m x4 ht hm hx
    obtain ⟨q, rfl⟩ : ∃ q, m = q + 1 := ⟨m - 1, by omega⟩
    have e : t = n := by omega
    subst e
    unfold wY_run_164
    refine br_t (nI_le (by omega) (by omega)) ?_
    rcases hx with ⟨x1, x2⟩ | ⟨x1, s, x2, x3⟩
    · rw [x1]
      exact h0 x2
    · rw [x1]
      refine h1 (fun z => ?_)
      rw [z s x2] at x3
      exact absurd x3 (by decide)
  | succ r ih =>
    intro t m x4 ht hm hx
    obtain ⟨q, rfl⟩ : ∃ q, m = q + 1 := ⟨m - 1, by omega⟩
    have vt : vp_in (nI t) 32 := vp_in_nI (by omega) (by decide)
    have cc : (nI t).toNatClampNeg = t := nI_clamp (by omega)
    have hf := hfi t (by omega)
    unfold wY_run_164
    refine br_f (nI_ge (by omega) (by omega)) ?_
    rcases hx with ⟨x1, x2⟩ | ⟨x1, s, x2, x3⟩
    · refine br_t x1 ⟨vt, ?_⟩
      rw [cc]
      cases he : qr_en G t
      · rw [he] at hf
        have hf0 : a_finished t = 0 := hf
        exact br_t hf0 (nm_r (nI_1 t) (ih (by omega) (by omega) (Or.inr ⟨rfl, t, by omega, he⟩)))
      · rw [he] at hf
        have hf0 : ¬ a_finished t = 0 := by
          rw [hf]
          decide
        refine br_f hf0 (nm_r (nI_1 t) (ih (by omega) (by omega) (Or.inl ⟨rfl, fun s hs => ?_⟩)))
        by_cases es : s = t
        · rw [es]; exact he
        · exact x2 s (by omega)
    · refine br_f (by rw [x1]; decide) (nm_r (nI_1 t) (ih (by omega) (by omega) (Or.inr ⟨rfl, s, by omega, x3⟩)))
end
section
variable {N : Nat} {kd V : Nat → Int32} {K : Nat → Nat} {op sl st nu : Nat → Int32} {P Q e1 e2 tg : Nat → Nat} {B : Nat → Prop} {n : Nat} {ag x3 : Int32}
theorem qr_run (hT : qe_T N kd V K) (hC : qc_CODE N K V op sl st nu P Q e1 e2 tg B) (hn1 : 1 ≤ n) (hn : n ≤ 32) (hx : ∀ s, s < 32 → bt x3 s = decide (s < n)) (r : Nat) :
    ∀ {ph : Nat} {G : qr_G}, 302 ≤ ph + r → ph ≤ 301 → qr_I n ph B G → ∃ (Ge : qr_G) (phe : Nat), phe ≤ 301 ∧
      (∀ (f_waits f_ended f_races f_over : Int32) (a_at a_slots a_variables a_steps a_added a_own a_ownPhase a_storedPhase a_readPhase a_racePhase a_storedBy a_readBy a_readByMore a_doneCount : Nat → Int32) {f_tokens f_length f_fault f_compiled f_open f_ran : Int32} {a_kind a_value a_openKind a_openOut a_openStart a_isConstant a_constant a_words a_counters : Nat → Int32} {post : Int32 → SX → Prop} {m : Nat}, r < m → qr_X P (P N) n (ph) (G) f_ended f_races f_over a_at a_variables a_steps a_words a_counters a_added a_ownPhase a_storedPhase a_readPhase a_racePhase a_doneCount →
        (∀ (f_waits f_ended f_races f_over : Int32) (a_at a_slots a_variables a_steps a_added a_own a_ownPhase a_storedPhase a_readPhase a_racePhase a_storedBy a_readBy a_readByMore a_doneCount : Nat → Int32) {a_words a_counters : Nat → Int32}, qr_X P (P N) n (phe) (Ge) f_ended f_races f_over a_at a_variables a_steps a_words a_counters a_added a_ownPhase a_storedPhase a_readPhase a_racePhase a_doneCount → post (if qr_ov Ge = true then 1 else 0) (f_tokens, f_length, f_fault, f_compiled, f_open, f_waits, f_ended, nI n, ag, nI (phe), f_races, f_ran, f_over, a_kind, a_value, op, sl, st, nu, a_openKind, a_openOut, a_openStart, a_isConstant, a_constant, a_at, a_slots, a_variables, a_steps, a_words, a_counters, a_added, a_own, a_ownPhase, a_storedPhase, a_readPhase, a_racePhase, a_storedBy, a_readBy, a_readByMore, a_doneCount)) → wX_run_65 post (nI n) x3 m f_tokens f_length f_fault f_compiled f_open f_waits f_ended (nI n) ag (nI (ph)) f_races f_ran f_over a_kind a_value op sl st nu a_openKind a_openOut a_openStart a_isConstant a_constant a_at a_slots a_variables a_steps a_words a_counters a_added a_own a_ownPhase a_storedPhase a_readPhase a_racePhase a_storedBy a_readBy a_readByMore a_doneCount) ∧
      (∀ (f_behind f_over : Int32) (a_own a_storers a_readers a_added a_variables a_at a_steps a_finished a_done a_stack : Nat → Int32) {f_phases f_races : Int32} {a_open a_words a_counters a_next : Nat → Int32} {post : Int32 → SY → Prop} {m : Nat} {x4 : Int32}, r < m → qr_Y n (ph) (G) f_phases f_races f_over a_words a_counters a_variables a_at a_steps a_finished a_done → (x4 = 0 ↔ qr_all n G) →
        (∀ (f_behind f_over : Int32) (a_own a_storers a_readers a_added a_variables a_at a_steps a_finished a_done a_stack : Nat → Int32) {f_phases f_races : Int32} {a_words a_counters a_next : Nat → Int32}, qr_Y n (phe) (Ge) f_phases f_races f_over a_words a_counters a_variables a_at a_steps a_finished a_done → post (if qr_ov Ge = true then 1 else 0) (nI N, nI n, ag, f_phases, f_races, f_behind, f_over, kd, V, a_open, a_words, a_counters, a_own, a_next, a_storers, a_readers, a_added, a_variables, a_at, a_steps, a_finished, a_done, a_stack)) → wY_run_149 post (nI n) m x4 (nI N) (nI n) ag f_phases f_races f_behind f_over kd V a_open a_words a_counters a_own a_next a_storers a_readers a_added a_variables a_at a_steps a_finished a_done a_stack) := by
  induction r with
  | zero => intro ph G h1 h2; omega
  | succ r ih =>
    intro ph G h1 h2 hGI
    by_cases hall : qr_all n G
    · refine ⟨G, ph, h2, ?_, ?_⟩
      · intro f_waits f_ended f_races f_over a_at a_slots a_variables a_steps a_added a_own a_ownPhase a_storedPhase a_readPhase a_racePhase a_storedBy a_readBy a_readByMore a_doneCount f_tokens f_length f_fault f_compiled f_open f_ran a_kind a_value a_openKind a_openOut a_openStart a_isConstant a_constant a_words a_counters post m hm hX hp
        obtain ⟨q, rfl⟩ : ∃ q, m = q + 1 := ⟨m - 1, by omega⟩
        have he := (qr_endX hn hx (fun t ht => (hX.2.2.2.2.1 t ht).2.2.2.1) hX.2.2.2.2.2.1).mpr hall
        have ho := hX.2.2.2.1
        have hh := hp f_waits f_ended f_races f_over a_at a_slots a_variables a_steps a_added a_own a_ownPhase a_storedPhase a_readPhase a_racePhase a_storedBy a_readBy a_readByMore a_doneCount hX
        unfold wX_run_65
        refine br_t he ?_
        cases hov : qr_ov G
        · rw [hov] at ho hh
          exact br_t ho hh
        · rw [hov] at ho hh
          refine br_f ?_ hh
          rw [ho]
          decide
      · intro f_behind f_over a_own a_storers a_readers a_added a_variables a_at a_steps a_finished a_done a_stack f_phases f_races a_open a_words a_counters a_next post m x4 hm hY h4 hp
        obtain ⟨q, rfl⟩ : ∃ q, m = q + 1 := ⟨m - 1, by omega⟩
        have ho := hY.2.2.2.2.1
        have hh := hp f_behind _ a_own a_storers a_readers a_added _ _ _ _ _ a_stack (a_next := a_next) hY
        unfold wY_run_149
        refine br_t (h4.mpr hall) ?_
        cases hov : qr_ov G
        · rw [hov] at ho hh
          exact br_t ho hh
        · rw [hov] at ho hh
          refine br_f ?_ hh
          rw [ho]
          decide
    · obtain ⟨t0, t1, t2⟩ := qr_some hall
      obtain ⟨_, s1, s2⟩ := hGI t0 t1
      have s3 := s2 t2
      obtain ⟨F, hF⟩ := qr_F_ex (tn := nI n) (ag := ag) hT.1 hC hGI
      obtain ⟨Ge, phe, e1', hX', hY'⟩ := ih (ph := ph + 1) (G := qr_nx n G F) (by omega) (by omega) (qr_I_nx hF)
      refine ⟨Ge, phe, e1', ?_, ?_⟩
      · intro f_waits f_ended f_races f_over a_at a_slots a_variables a_steps a_added a_own a_ownPhase a_storedPhase a_readPhase a_racePhase a_storedBy a_readBy a_readByMore a_doneCount f_tokens f_length f_fault f_compiled f_open f_ran a_kind a_value a_openKind a_openOut a_openStart a_isConstant a_constant a_words a_counters post m hm hX hp
        obtain ⟨q, rfl⟩ : ∃ q, m = q + 1 := ⟨m - 1, by omega⟩
        have he : ¬ f_ended = x3 := fun z => hall ((qr_endX hn hx (fun t ht => (hX.2.2.2.2.1 t ht).2.2.2.1) hX.2.2.2.2.2.1).mp z)
        unfold wX_run_65
        refine br_f he (nm_r (nI_1 ph) ?_)
        refine qx_phase hC hn1 hn (by omega) hGI hF ?_ f_waits f_ended f_races f_over a_at a_slots a_variables a_steps a_added a_own a_ownPhase a_storedPhase a_readPhase a_racePhase a_storedBy a_readBy a_readByMore a_doneCount hX
        intro f_waits f_ended f_races f_over a_at a_slots a_variables a_steps a_added a_own a_ownPhase a_storedPhase a_readPhase a_racePhase a_storedBy a_readBy a_readByMore a_doneCount a_words a_counters hX2
        exact hX' _ _ _ _ _ _ _ _ _ _ _ _ _ _ _ _ _ _ (by omega) hX2 hp
      · intro f_behind f_over a_own a_storers a_readers a_added a_variables a_at a_steps a_finished a_done a_stack f_phases f_races a_open a_words a_counters a_next post m x4 hm hY h4 hp
        obtain ⟨q, rfl⟩ : ∃ q, m = q + 1 := ⟨m - 1, by omega⟩
        unfold wY_run_149
        refine br_f (fun z => hall (h4.mp z)) ?_
        refine qy_phase hT hC hn hGI hF _ _ _ _ _ _ _ _ _ _ _ _ hY ?_
        intro f_behind f_over a_own a_storers a_readers a_added a_variables a_at a_steps a_finished a_done a_stack f_phases f_races a_words a_counters a_next hY2
        refine ⟨n + 1, ?_⟩
        refine qy_r164 (G := qr_nx n G F) hn (fun t ht => (hY2.2.2.2.2.2.1 t ht).2.2.2) (fun g => ?_) (fun g => ?_) n (t := 0) (by omega) (by omega) (Or.inl ⟨rfl, fun s hs => absurd hs (Nat.not_lt_zero s)⟩)
        · exact hY' _ _ _ _ _ _ _ _ _ _ _ _ (by omega) hY2 ⟨fun _ => g, fun _ => rfl⟩ hp
        · exact hY' _ _ _ _ _ _ _ _ _ _ _ _ (by omega) hY2 ⟨fun z => absurd z (by decide), fun z => absurd z g⟩ hp
end
section
variable {f_tokens f_length f_fault f_compiled f_open f_waits f_ended f_threads f_arg f_phase f_races f_ran f_over : Int32} {a_kind a_value a_op a_slot a_statement a_number a_openKind a_openOut a_openStart a_isConstant a_constant a_at a_slots a_variables a_steps a_words a_counters a_added a_own a_ownPhase a_storedPhase a_readPhase a_racePhase a_storedBy a_readBy a_readByMore a_doneCount : Nat → Int32}
/-- the component's reset -/
theorem qx_r89 {post : SX → Prop} {d s r c : Nat → Int32} (h : post (f_tokens, f_length, f_fault, f_compiled, f_open, f_waits, f_ended, f_threads, f_arg, f_phase, f_races, f_ran, f_over, a_kind, a_value, a_op, a_slot, a_statement, a_number, a_openKind, a_openOut, a_openStart, a_isConstant, a_constant, a_at, a_slots, a_variables, a_steps, a_words, a_counters, a_added, a_own, a_ownPhase, qr_mix 64 (fun _ => 0) s, qr_mix 64 (fun _ => 0) r, qr_mix 64 (fun _ => 0) c, a_storedBy, a_readBy, a_readByMore, qr_mix 64 (fun _ => 0) d)) (q : Nat) :
    ∀ {i m : Nat}, i + q = 64 → q < m → wX_reset_89 post f_tokens f_length f_fault f_compiled f_open f_waits f_ended f_threads f_arg f_phase f_races f_ran f_over m (nI i) a_kind a_value a_op a_slot a_statement a_number a_openKind a_openOut a_openStart a_isConstant a_constant a_at a_slots a_variables a_steps a_words a_counters a_added a_own a_ownPhase (qr_mix i (fun _ => 0) s) (qr_mix i (fun _ => 0) r) (qr_mix i (fun _ => 0) c) a_storedBy a_readBy a_readByMore (qr_mix i (fun _ => 0) d) := by
  induction q with
  | zero =>
    intro i m hi hm
    obtain ⟨z, rfl⟩ : ∃ z, m = z + 1 := ⟨m - 1, by omega⟩
    rw [show i = 64 by omega]
    unfold wX_reset_89
    exact br_t (by decide) h
  | succ q ih =>
    intro i m hi hm
    obtain ⟨z, rfl⟩ : ∃ z, m = z + 1 := ⟨m - 1, by omega⟩
    have v : vp_in (nI i) 64 := vp_in_nI (by omega) (by decide)
    have ci : (nI i).toNatClampNeg = i := nI_clamp (by omega)
    unfold wX_reset_89
    refine br_f (nI_ge (b := 64) (by omega) (by decide)) ⟨v, nm_r (e' := qr_mix (i + 1) (fun _ => 0) d) (by rw [ci]; exact qr_mixS rfl) ⟨v, nm_r (e' := qr_mix (i + 1) (fun _ => 0) s) (by rw [ci, qz_s0]; exact qr_mixS rfl) ⟨v, nm_r (e' := qr_mix (i + 1) (fun _ => 0) r) (by rw [ci, qz_s0]; exact qr_mixS rfl) ⟨v, nm_r (e' := qr_mix (i + 1) (fun _ => 0) c) (by rw [ci, qz_s0]; exact qr_mixS rfl) (nm_r (nI_1 i) ?_)⟩⟩⟩⟩
    exact ih (i := i + 1) (by omega) (by omega)
theorem qx_r67 {post : SX → Prop} {d : Nat → Int32} (h : ∃ n89 : Nat, wX_reset_89 post f_tokens f_length f_fault f_compiled f_open f_waits f_ended f_threads f_arg f_phase f_races f_ran f_over n89 0 a_kind a_value a_op a_slot a_statement a_number a_openKind a_openOut a_openStart a_isConstant a_constant a_at a_slots a_variables a_steps a_words a_counters a_added a_own (qr_mix 2048 (fun _ => 0) d) a_storedPhase a_readPhase a_racePhase a_storedBy a_readBy a_readByMore a_doneCount) (q : Nat) :
    ∀ {i m : Nat}, i + q = 2048 → q < m → wX_reset_67 post f_tokens f_length f_fault f_compiled f_open f_waits f_ended f_threads f_arg f_phase f_races f_ran f_over m (nI i) a_kind a_value a_op a_slot a_statement a_number a_openKind a_openOut a_openStart a_isConstant a_constant a_at a_slots a_variables a_steps a_words a_counters a_added a_own (qr_mix i (fun _ => 0) d) a_storedPhase a_readPhase a_racePhase a_storedBy a_readBy a_readByMore a_doneCount := by
  induction q with
  | zero =>
    intro i m hi hm
    obtain ⟨z, rfl⟩ : ∃ z, m = z + 1 := ⟨m - 1, by omega⟩
    rw [show i = 2048 by omega]
    unfold wX_reset_67
    exact br_t (by decide) h
  | succ q ih =>
    intro i m hi hm
    obtain ⟨z, rfl⟩ : ∃ z, m = z + 1 := ⟨m - 1, by omega⟩
    have v : vp_in (nI i) 2048 := vp_in_nI (by omega) (by decide)
    have ci : (nI i).toNatClampNeg = i := nI_clamp (by omega)
    unfold wX_reset_67
    refine br_f (nI_ge (b := 2048) (by omega) (by decide)) ⟨v, nm_r (e' := qr_mix (i + 1) (fun _ => 0) d) (by rw [ci, qz_s0]; exact qr_mixS rfl) (nm_r (nI_1 i) ?_)⟩
    exact ih (i := i + 1) (by omega) (by omega)
theorem qx_r45 {post : SX → Prop} {d : Nat → Int32} (h : ∃ n67 : Nat, wX_reset_67 post f_tokens f_length f_fault f_compiled f_open f_waits f_ended f_threads f_arg f_phase f_races f_ran f_over n67 0 a_kind a_value a_op a_slot a_statement a_number a_openKind a_openOut a_openStart a_isConstant a_constant a_at a_slots (qr_mix 192 (fun _ => 0) d) a_steps a_words a_counters a_added a_own a_ownPhase a_storedPhase a_readPhase a_racePhase a_storedBy a_readBy a_readByMore a_doneCount) (q : Nat) :
    ∀ {i m : Nat}, i + q = 192 → q < m → wX_reset_45 post f_tokens f_length f_fault f_compiled f_open f_waits f_ended f_threads f_arg f_phase f_races f_ran f_over m (nI i) a_kind a_value a_op a_slot a_statement a_number a_openKind a_openOut a_openStart a_isConstant a_constant a_at a_slots (qr_mix i (fun _ => 0) d) a_steps a_words a_counters a_added a_own a_ownPhase a_storedPhase a_readPhase a_racePhase a_storedBy a_readBy a_readByMore a_doneCount := by
  induction q with
  | zero =>
    intro i m hi hm
    obtain ⟨z, rfl⟩ : ∃ z, m = z + 1 := ⟨m - 1, by omega⟩
    rw [show i = 192 by omega]
    unfold wX_reset_45
    exact br_t (by decide) h
  | succ q ih =>
    intro i m hi hm
    obtain ⟨z, rfl⟩ : ∃ z, m = z + 1 := ⟨m - 1, by omega⟩
    have v : vp_in (nI i) 192 := vp_in_nI (by omega) (by decide)
    have ci : (nI i).toNatClampNeg = i := nI_clamp (by omega)
    unfold wX_reset_45
    refine br_f (nI_ge (b := 192) (by omega) (by decide)) ⟨v, nm_r (e' := qr_mix (i + 1) (fun _ => 0) d) (by rw [ci]; exact qr_mixS rfl) (nm_r (nI_1 i) ?_)⟩
    exact ih (i := i + 1) (by omega) (by omega)
theorem qx_r17 {post : SX → Prop} {d s : Nat → Int32} (h : ∃ n45 : Nat, wX_reset_45 post f_tokens f_length f_fault f_compiled f_open f_waits f_ended f_threads f_arg f_phase f_races f_ran f_over n45 0 a_kind a_value a_op a_slot a_statement a_number a_openKind a_openOut a_openStart a_isConstant a_constant (qr_mix 32 (fun _ => 0) d) a_slots a_variables (qr_mix 32 (fun _ => 0) s) a_words a_counters a_added a_own a_ownPhase a_storedPhase a_readPhase a_racePhase a_storedBy a_readBy a_readByMore a_doneCount) (q : Nat) :
    ∀ {i m : Nat}, i + q = 32 → q < m → wX_reset_17 post f_tokens f_length f_fault f_compiled f_open f_waits f_ended f_threads f_arg f_phase f_races f_ran f_over m (nI i) a_kind a_value a_op a_slot a_statement a_number a_openKind a_openOut a_openStart a_isConstant a_constant (qr_mix i (fun _ => 0) d) a_slots a_variables (qr_mix i (fun _ => 0) s) a_words a_counters a_added a_own a_ownPhase a_storedPhase a_readPhase a_racePhase a_storedBy a_readBy a_readByMore a_doneCount := by
  induction q with
  | zero =>
    intro i m hi hm
    obtain ⟨z, rfl⟩ : ∃ z, m = z + 1 := ⟨m - 1, by omega⟩
    rw [show i = 32 by omega]
    unfold wX_reset_17
    exact br_t (by decide) h
  | succ q ih =>
    intro i m hi hm
    obtain ⟨z, rfl⟩ : ∃ z, m = z + 1 := ⟨m - 1, by omega⟩
    have v : vp_in (nI i) 32 := vp_in_nI (by omega) (by decide)
    have ci : (nI i).toNatClampNeg = i := nI_clamp (by omega)
    unfold wX_reset_17
    refine br_f (nI_ge (b := 32) (by omega) (by decide)) ⟨v, nm_r (e' := qr_mix (i + 1) (fun _ => 0) d) (by rw [ci, qz_s0]; exact qr_mixS rfl) ⟨v, nm_r (e' := qr_mix (i + 1) (fun _ => 0) s) (by rw [ci]; exact qr_mixS rfl) (nm_r (nI_1 i) ?_)⟩⟩
    exact ih (i := i + 1) (by omega) (by omega)
theorem qx_reset {post : SX → Prop} (h : post (f_tokens, f_length, f_fault, f_compiled, f_open, f_waits, 0, f_threads, f_arg, 0, 0, f_ran, f_over, a_kind, a_value, a_op, a_slot, a_statement, a_number, a_openKind, a_openOut, a_openStart, a_isConstant, a_constant, qr_mix 32 (fun _ => 0) a_at, a_slots, qr_mix 192 (fun _ => 0) a_variables, qr_mix 32 (fun _ => 0) a_steps, a_words, a_counters, a_added, a_own, qr_mix 2048 (fun _ => 0) a_ownPhase, qr_mix 64 (fun _ => 0) a_storedPhase, qr_mix 64 (fun _ => 0) a_readPhase, qr_mix 64 (fun _ => 0) a_racePhase, a_storedBy, a_readBy, a_readByMore, qr_mix 64 (fun _ => 0) a_doneCount)) :
    wpX_reset post (f_tokens, f_length, f_fault, f_compiled, f_open, f_waits, f_ended, f_threads, f_arg, f_phase, f_races, f_ran, f_over, a_kind, a_value, a_op, a_slot, a_statement, a_number, a_openKind, a_openOut, a_openStart, a_isConstant, a_constant, a_at, a_slots, a_variables, a_steps, a_words, a_counters, a_added, a_own, a_ownPhase, a_storedPhase, a_readPhase, a_racePhase, a_storedBy, a_readBy, a_readByMore, a_doneCount) := by
  have h1 := qx_r89 h 64 (i := 0) (m := 65) (by omega) (by omega)
  rw [qr_mix0, qr_mix0, qr_mix0, qr_mix0] at h1
  have h2 := qx_r67 ⟨65, h1⟩ 2048 (i := 0) (m := 2049) (by omega) (by omega)
  rw [qr_mix0] at h2
  have h3 := qx_r45 ⟨2049, h2⟩ 192 (i := 0) (m := 193) (by omega) (by omega)
  rw [qr_mix0] at h3
  have h4 := qx_r17 ⟨193, h3⟩ 32 (i := 0) (m := 33) (by omega) (by omega)
  rw [qr_mix0, qr_mix0] at h4
  unfold wpX_reset
  dsimp only
  exact ⟨33, h4⟩
end
section
variable {f_tokens f_threads f_argument f_phases f_races f_behind f_over : Int32} {a_kind a_value a_open a_words a_counters a_own a_next a_storers a_readers a_added a_variables a_at a_steps a_finished a_done a_stack : Nat → Int32} {n : Nat}
theorem qy_r99 {post : Int32 → SY → Prop} {d s f : Nat → Int32} (hn : n ≤ 32) (h : ∃ n149 : Nat, wY_run_149 post (nI n) n149 1 f_tokens f_threads f_argument f_phases f_races f_behind f_over a_kind a_value a_open a_words a_counters a_own a_next a_storers a_readers a_added a_variables (qr_mix 32 (fun _ => 0) d) (qr_mix 32 (fun _ => 0) s) (qr_mix 32 (fun t => if t < n then 0 else 1) f) a_done a_stack) (q : Nat) :
    ∀ {i m : Nat}, i + q = 32 → q < m → wY_run_99 post (nI n) f_tokens f_threads f_argument f_phases f_races f_behind f_over m (nI i) a_kind a_value a_open a_words a_counters a_own a_next a_storers a_readers a_added a_variables (qr_mix i (fun _ => 0) d) (qr_mix i (fun _ => 0) s) (qr_mix i (fun t => if t < n then 0 else 1) f) a_done a_stack := by
  induction q with
  | zero =>
    intro i m hi hm
    obtain ⟨z, rfl⟩ : ∃ z, m = z + 1 := ⟨m - 1, by omega⟩
    rw [show i = 32 by omega]
    unfold wY_run_99
    exact br_t (by decide) h
  | succ q ih =>
    intro i m hi hm
    obtain ⟨z, rfl⟩ : ∃ z, m = z + 1 := ⟨m - 1, by omega⟩
    have v : vp_in (nI i) 32 := vp_in_nI (by omega) (by decide)
    have ci : (nI i).toNatClampNeg = i := nI_clamp (by omega)
    unfold wY_run_99
    refine br_f (nI_ge (b := 32) (by omega) (by decide)) ⟨v, nm_r (e' := qr_mix (i + 1) (fun _ => 0) d) (by rw [ci]; exact qr_mixS rfl) ⟨v, nm_r (e' := qr_mix (i + 1) (fun _ => 0) s) (by rw [ci]; exact qr_mixS rfl) ?_⟩⟩
    refine pk_lt i n (fun g => ⟨v, nm_r (e' := qr_mix (i + 1) (fun t => if t < n then 0 else 1) f) (by rw [ci, qz_z0]; exact qr_mixS (by rw [if_pos g])) (nm_r (nI_1 i) ?_)⟩) (fun g => ⟨v, nm_r (e' := qr_mix (i + 1) (fun t => if t < n then 0 else 1) f) (by rw [ci, qz_z1]; exact qr_mixS (by rw [if_neg (by omega)])) (nm_r (nI_1 i) ?_)⟩)
    · exact ih (i := i + 1) (by omega) (by omega)
    · exact ih (i := i + 1) (by omega) (by omega)
theorem qy_r75 {post : Int32 → SY → Prop} {d : Nat → Int32} (h : ∃ n99 : Nat, wY_run_99 post (nI n) f_tokens f_threads f_argument f_phases f_races f_behind f_over n99 0 a_kind a_value a_open a_words a_counters a_own a_next a_storers a_readers a_added a_variables a_at a_steps a_finished (qr_mix 64 (fun _ => 0) d) a_stack) (q : Nat) :
    ∀ {i m : Nat}, i + q = 64 → q < m → wY_run_75 post (nI n) f_tokens f_threads f_argument f_phases f_races f_behind f_over m (nI i) a_kind a_value a_open a_words a_counters a_own a_next a_storers a_readers a_added a_variables a_at a_steps a_finished (qr_mix i (fun _ => 0) d) a_stack := by
  induction q with
  | zero =>
    intro i m hi hm
    obtain ⟨z, rfl⟩ : ∃ z, m = z + 1 := ⟨m - 1, by omega⟩
    rw [show i = 64 by omega]
    unfold wY_run_75
    exact br_t (by decide) h
  | succ q ih =>
    intro i m hi hm
    obtain ⟨z, rfl⟩ : ∃ z, m = z + 1 := ⟨m - 1, by omega⟩
    have v : vp_in (nI i) 64 := vp_in_nI (by omega) (by decide)
    have ci : (nI i).toNatClampNeg = i := nI_clamp (by omega)
    unfold wY_run_75
    refine br_f (nI_ge (b := 64) (by omega) (by decide)) ⟨v, nm_r (e' := qr_mix (i + 1) (fun _ => 0) d) (by rw [ci]; exact qr_mixS rfl) (nm_r (nI_1 i) ?_)⟩
    exact ih (i := i + 1) (by omega) (by omega)
theorem qy_r50 {post : Int32 → SY → Prop} {d : Nat → Int32} (h : ∃ n75 : Nat, wY_run_75 post (nI n) f_tokens f_threads f_argument f_phases f_races f_behind f_over n75 0 a_kind a_value a_open a_words a_counters a_own a_next a_storers a_readers a_added (qr_mix 192 (fun _ => 0) d) a_at a_steps a_finished a_done a_stack) (q : Nat) :
    ∀ {i m : Nat}, i + q = 192 → q < m → wY_run_50 post (nI n) f_tokens f_threads f_argument f_phases f_races f_behind f_over m (nI i) a_kind a_value a_open a_words a_counters a_own a_next a_storers a_readers a_added (qr_mix i (fun _ => 0) d) a_at a_steps a_finished a_done a_stack := by
  induction q with
  | zero =>
    intro i m hi hm
    obtain ⟨z, rfl⟩ : ∃ z, m = z + 1 := ⟨m - 1, by omega⟩
    rw [show i = 192 by omega]
    unfold wY_run_50
    exact br_t (by decide) h
  | succ q ih =>
    intro i m hi hm
    obtain ⟨z, rfl⟩ : ∃ z, m = z + 1 := ⟨m - 1, by omega⟩
    have v : vp_in (nI i) 192 := vp_in_nI (by omega) (by decide)
    have ci : (nI i).toNatClampNeg = i := nI_clamp (by omega)
    unfold wY_run_50
    refine br_f (nI_ge (b := 192) (by omega) (by decide)) ⟨v, nm_r (e' := qr_mix (i + 1) (fun _ => 0) d) (by rw [ci]; exact qr_mixS rfl) (nm_r (nI_1 i) ?_)⟩
    exact ih (i := i + 1) (by omega) (by omega)
theorem qy_init {post : Int32 → SY → Prop} (hn : n ≤ 32) (h : ∃ n149 : Nat, wY_run_149 post (nI n) n149 1 f_tokens f_threads f_argument f_phases f_races f_behind f_over a_kind a_value a_open a_words a_counters a_own a_next a_storers a_readers a_added (qr_mix 192 (fun _ => 0) a_variables) (qr_mix 32 (fun _ => 0) a_at) (qr_mix 32 (fun _ => 0) a_steps) (qr_mix 32 (fun t => if t < n then 0 else 1) a_finished) (qr_mix 64 (fun _ => 0) a_done) a_stack) :
    ∃ n50 : Nat, wY_run_50 post (nI n) f_tokens f_threads f_argument f_phases f_races f_behind f_over n50 0 a_kind a_value a_open a_words a_counters a_own a_next a_storers a_readers a_added a_variables a_at a_steps a_finished a_done a_stack := by
  have h1 := qy_r99 hn h 32 (i := 0) (m := 33) (by omega) (by omega)
  rw [qr_mix0, qr_mix0, qr_mix0] at h1
  have h2 := qy_r75 ⟨33, h1⟩ 64 (i := 0) (m := 65) (by omega) (by omega)
  rw [qr_mix0] at h2
  have h3 := qy_r50 ⟨65, h2⟩ 192 (i := 0) (m := 193) (by omega) (by omega)
  rw [qr_mix0] at h3
  exact ⟨193, h3⟩
end
end
section
/-! the relation; compile and run on both sides -/
def qr_R (N n : Nat) (K : Nat → Nat) (f_fault f_compiled f_phase f_races f_ran : Int32) (a_kind a_value a_op a_slot a_statement a_number a_variables a_steps a_added a_doneCount b_variables b_steps b_done : Nat → Int32) : Prop :=
  qe_T N a_kind a_value K ∧ n ≤ 32 ∧ (f_ran = 0 ∨ f_ran = 1) ∧ (f_ran = 0 → n = 0 ∧ f_phase = 0 ∧ f_races = 0 ∧ ∀ k, k < 64 → b_done k = 0) ∧
  (∀ t, t < n → (∀ v, v < 6 → a_variables (32 * v + t) = b_variables (6 * t + v)) ∧ a_steps t = b_steps t) ∧ (∀ k, k < 64 → a_doneCount k = b_done k) ∧ (∀ i, i < 64 → a_added i = 0) ∧
  (f_compiled = 0 ∨ (f_compiled = 1 ∧ (f_fault = -1 ∨ ∃ f, f ≤ N ∧ f_fault = nI f) ∧ qw_W N a_kind f_fault ∧ (f_fault = -1 → qc_CO N K a_value a_op a_slot a_statement a_number)))
/-- the relation: tokens, words, counters are the same; what a run left is equal; code, if there is some, is sound -/
def i_Rel (k : Nat) (u : SX) (v : SY) : Prop := match u with
  | (f_tokens, f_length, f_fault, f_compiled, f_open, f_waits, f_ended, f_threads, f_arg, f_phase, f_races, f_ran, f_over, a_kind, a_value, a_op, a_slot, a_statement, a_number, a_openKind, a_openOut, a_openStart, a_isConstant, a_constant, a_at, a_slots, a_variables, a_steps, a_words, a_counters, a_added, a_own, a_ownPhase, a_storedPhase, a_readPhase, a_racePhase, a_storedBy, a_readBy, a_readByMore, a_doneCount) => match v with
    | (b_tokens, b_threads, b_argument, b_phases, b_races, b_behind, b_over, b_kind, b_value, b_open, b_words, b_counters, b_own, b_next, b_storers, b_readers, b_added, b_variables, b_at, b_steps, b_finished, b_done, b_stack) => ∃ (N n : Nat) (K : Nat → Nat), (f_tokens = nI N ∧ b_tokens = nI N ∧ f_threads = nI n ∧ b_threads = nI n ∧ b_kind = a_kind ∧ b_value = a_value ∧ b_words = a_words ∧ b_counters = a_counters ∧ b_phases = f_phase ∧ b_races = f_races) ∧
      qr_R N n K f_fault f_compiled f_phase f_races f_ran a_kind a_value a_op a_slot a_statement a_number a_variables a_steps a_added a_doneCount b_variables b_steps b_done
theorem i_up {k : Nat} {u : SX} {v : SY} (h : i_Rel k u v) : i_Rel (k + 3) u v := h
section
variable {f_tokens f_length f_fault f_compiled f_open f_waits f_ended f_threads f_arg f_phase f_races f_ran f_over : Int32} {a_kind a_value a_op a_slot a_statement a_number a_openKind a_openOut a_openStart a_isConstant a_constant a_at a_slots a_variables a_steps a_words a_counters a_added a_own a_ownPhase a_storedPhase a_readPhase a_racePhase a_storedBy a_readBy a_readByMore a_doneCount : Nat → Int32} {b_tokens b_threads b_argument b_phases b_races b_behind b_over : Int32} {b_kind b_value b_open b_words b_counters b_own b_next b_storers b_readers b_added b_variables b_at b_steps b_finished b_done b_stack : Nat → Int32} {N n : Nat} {K : Nat → Nat}
theorem qr_in {k : Nat} (h : qr_R N n K f_fault f_compiled f_phase f_races f_ran a_kind a_value a_op a_slot a_statement a_number a_variables a_steps a_added a_doneCount b_variables b_steps b_done) : i_Rel k (nI N, f_length, f_fault, f_compiled, f_open, f_waits, f_ended, nI n, f_arg, f_phase, f_races, f_ran, f_over, a_kind, a_value, a_op, a_slot, a_statement, a_number, a_openKind, a_openOut, a_openStart, a_isConstant, a_constant, a_at, a_slots, a_variables, a_steps, a_words, a_counters, a_added, a_own, a_ownPhase, a_storedPhase, a_readPhase, a_racePhase, a_storedBy, a_readBy, a_readByMore, a_doneCount) (nI N, nI n, b_argument, f_phase, f_races, b_behind, b_over, a_kind, a_value, b_open, a_words, a_counters, b_own, b_next, b_storers, b_readers, b_added, b_variables, b_at, b_steps, b_finished, b_done, b_stack) := ⟨N, n, K, ⟨rfl, rfl, rfl, rfl, rfl, rfl, rfl, rfl, rfl, rfl⟩, h⟩
end
theorem qr_el {k : Nat} {u : SX} {v : SY} {P : SX → SY → Prop} (h : ∀ (N n : Nat) (K : Nat → Nat) (f_tokens f_length f_fault f_compiled f_open f_waits f_ended f_threads f_arg f_phase f_races f_ran f_over : Int32) (a_kind a_value a_op a_slot a_statement a_number a_openKind a_openOut a_openStart a_isConstant a_constant a_at a_slots a_variables a_steps a_words a_counters a_added a_own a_ownPhase a_storedPhase a_readPhase a_racePhase a_storedBy a_readBy a_readByMore a_doneCount : Nat → Int32) (b_tokens b_threads b_argument b_phases b_races b_behind b_over : Int32) (b_kind b_value b_open b_words b_counters b_own b_next b_storers b_readers b_added b_variables b_at b_steps b_finished b_done b_stack : Nat → Int32), qr_R N n K f_fault f_compiled f_phase f_races f_ran a_kind a_value a_op a_slot a_statement a_number a_variables a_steps a_added a_doneCount b_variables b_steps b_done → P (nI N, f_length, f_fault, f_compiled, f_open, f_waits, f_ended, nI n, f_arg, f_phase, f_races, f_ran, f_over, a_kind, a_value, a_op, a_slot, a_statement, a_number, a_openKind, a_openOut, a_openStart, a_isConstant, a_constant, a_at, a_slots, a_variables, a_steps, a_words, a_counters, a_added, a_own, a_ownPhase, a_storedPhase, a_readPhase, a_racePhase, a_storedBy, a_readBy, a_readByMore, a_doneCount) (nI N, nI n, b_argument, f_phase, f_races, b_behind, b_over, a_kind, a_value, b_open, a_words, a_counters, b_own, b_next, b_storers, b_readers, b_added, b_variables, b_at, b_steps, b_finished, b_done, b_stack)) (I : i_Rel k u v) : P u v := by
  obtain ⟨f_tokens, f_length, f_fault, f_compiled, f_open, f_waits, f_ended, f_threads, f_arg, f_phase, f_races, f_ran, f_over, a_kind, a_value, a_op, a_slot, a_statement, a_number, a_openKind, a_openOut, a_openStart, a_isConstant, a_constant, a_at, a_slots, a_variables, a_steps, a_words, a_counters, a_added, a_own, a_ownPhase, a_storedPhase, a_readPhase, a_racePhase, a_storedBy, a_readBy, a_readByMore, a_doneCount⟩ := u
  obtain ⟨b_tokens, b_threads, b_argument, b_phases, b_races, b_behind, b_over, b_kind, b_value, b_open, b_words, b_counters, b_own, b_next, b_storers, b_readers, b_added, b_variables, b_at, b_steps, b_finished, b_done, b_stack⟩ := v
  obtain ⟨N, n, K, ⟨h1, h2, h3, h4, h5, h6, h7, h8, h9, h10⟩, hR⟩ := I
  rw [h1, h2, h3, h4, h5, h6, h7, h8, h9, h10]
  exact h N n K f_tokens f_length f_fault f_compiled f_open f_waits f_ended f_threads f_arg f_phase f_races f_ran f_over a_kind a_value a_op a_slot a_statement a_number a_openKind a_openOut a_openStart a_isConstant a_constant a_at a_slots a_variables a_steps a_words a_counters a_added a_own a_ownPhase a_storedPhase a_readPhase a_racePhase a_storedBy a_readBy a_readByMore a_doneCount b_tokens b_threads b_argument b_phases b_races b_behind b_over b_kind b_value b_open b_words b_counters b_own b_next b_storers b_readers b_added b_variables b_at b_steps b_finished b_done b_stack hR
section
variable {f_tokens f_length f_fault f_compiled f_open f_waits f_ended f_threads f_arg f_phase f_races f_ran f_over : Int32} {a_kind a_value a_op a_slot a_statement a_number a_openKind a_openOut a_openStart a_isConstant a_constant a_at a_slots a_variables a_steps a_words a_counters a_added a_own a_ownPhase a_storedPhase a_readPhase a_racePhase a_storedBy a_readBy a_readByMore a_doneCount : Nat → Int32} {b_tokens b_threads b_argument b_phases b_races b_behind b_over : Int32} {b_kind b_value b_open b_words b_counters b_own b_next b_storers b_readers b_added b_variables b_at b_steps b_finished b_done b_stack : Nat → Int32} {N n : Nat} {K : Nat → Nat}
theorem qr_comp (h : qr_R N n K f_fault f_compiled f_phase f_races f_ran a_kind a_value a_op a_slot a_statement a_number a_variables a_steps a_added a_doneCount b_variables b_steps b_done) : ∃ (f_length' f_fault' f_open' : Int32) (op' sl' st' nu' ok' oo' oS' ic' cs' : Nat → Int32), qr_R N n K f_fault' 1 f_phase f_races f_ran a_kind a_value op' sl' st' nu' a_variables a_steps a_added a_doneCount b_variables b_steps b_done ∧
    ∀ {post : SX → Prop}, post (nI N, f_length', f_fault', 1, f_open', f_waits, f_ended, nI n, f_arg, f_phase, f_races, f_ran, f_over, a_kind, a_value, op', sl', st', nu', ok', oo', oS', ic', cs', a_at, a_slots, a_variables, a_steps, a_words, a_counters, a_added, a_own, a_ownPhase, a_storedPhase, a_readPhase, a_racePhase, a_storedBy, a_readBy, a_readByMore, a_doneCount) → wpX_compile post (nI N, f_length, f_fault, f_compiled, f_open, f_waits, f_ended, nI n, f_arg, f_phase, f_races, f_ran, f_over, a_kind, a_value, a_op, a_slot, a_statement, a_number, a_openKind, a_openOut, a_openStart, a_isConstant, a_constant, a_at, a_slots, a_variables, a_steps, a_words, a_counters, a_added, a_own, a_ownPhase, a_storedPhase, a_readPhase, a_racePhase, a_storedBy, a_readBy, a_readByMore, a_doneCount) := by
  obtain ⟨h1, h2, h3, h4, h5, h6, h7, h8⟩ := h
  rcases h8 with h8 | ⟨h8, h9⟩
  · obtain ⟨F, l', d', op', sl', st', nu', ok', oo', oS', isC', cst', g1, g2, g3, hw⟩ := qc_comp (op := a_op) (sl := a_slot) (st := a_statement) (nu := a_number) (ok := a_openKind) (oo := a_openOut) (oS := a_openStart) (isC := a_isConstant) (cst := a_constant) h1
    refine ⟨nI l', F, nI d', op', sl', st', nu', ok', oo', oS', isC', cst', ⟨h1, h2, h3, h4, h5, h6, h7, Or.inr ⟨rfl, g2, qw_W_of g1, g3⟩⟩, ?_⟩
    intro post hp
    rw [h8]
    exact hw hp
  · refine ⟨f_length, f_fault, f_open, a_op, a_slot, a_statement, a_number, a_openKind, a_openOut, a_openStart, a_isConstant, a_constant, ⟨h1, h2, h3, h4, h5, h6, h7, Or.inr ⟨rfl, h9⟩⟩, ?_⟩
    intro post hp
    rw [h8]
    unfold wpX_compile
    dsimp only
    exact br_f (by decide) hp
end
theorem i_vc_wrong {k : Nat} {u : SX} {v : SY} (I : i_Rel k u v) (hk : k + 3 ≤ 1536) : wpX_wrong (fun r u' => wpY_wrong (fun r' v' => r' = r ∧ i_Rel (k + 3) u' v') v) u := by
  refine qr_el (P := fun u v => wpX_wrong (fun r u' => wpY_wrong (fun r' v' => r' = r ∧ i_Rel (k + 3) u' v') v) u) ?_ I
  intro N n K f_tokens f_length f_fault f_compiled f_open f_waits f_ended f_threads f_arg f_phase f_races f_ran f_over a_kind a_value a_op a_slot a_statement a_number a_openKind a_openOut a_openStart a_isConstant a_constant a_at a_slots a_variables a_steps a_words a_counters a_added a_own a_ownPhase a_storedPhase a_readPhase a_racePhase a_storedBy a_readBy a_readByMore a_doneCount b_tokens b_threads b_argument b_phases b_races b_behind b_over b_kind b_value b_open b_words b_counters b_own b_next b_storers b_readers b_added b_variables b_at b_steps b_finished b_done b_stack h
  obtain ⟨f_length', f_fault', f_open', op', sl', st', nu', ok', oo', oS', ic', cs', hR, hw⟩ := qr_comp h
  unfold wpX_wrong
  dsimp only
  refine hw ?_
  dsimp only
  obtain ⟨h1, h2, h3, h4, h5, h6, h7, h8⟩ := hR
  have hR : qr_R N n K f_fault' 1 f_phase f_races f_ran a_kind a_value op' sl' st' nu' a_variables a_steps a_added a_doneCount b_variables b_steps b_done := ⟨h1, h2, h3, h4, h5, h6, h7, h8⟩
  rcases h8 with h8 | ⟨_, _, h9, _⟩
  · exact absurd h8 (by decide)
  · refine h9 ?_
    intro o
    exact ⟨rfl, qr_in hR⟩
/-- the state that a run begins with -/
def qr_G0 (wd cn : Nat → Int32) : qr_G := (fun _ => 0, fun _ => 0, fun _ _ => 0, fun _ => false, wd, cn, fun _ => 0, 0, false)
theorem qr_mask {n : Nat} (hn1 : 1 ≤ n) (hn : n ≤ 32) {x3 : Int32} (h : (n = 32 ∧ x3 = -1) ∨ (n < 32 ∧ x3 = ((1 : Int32) <<< (nI n &&& 31)) - 1)) : ∀ s, s < 32 → bt x3 s = decide (s < n) := by
  intro s hs
  rcases h with ⟨h1, h2⟩ | ⟨h1, h2⟩
  · rw [h2, b_m1 s hs, decide_eq_true (by omega)]
  · rw [h2]
    exact qz_mask n h1 s hs
section
variable {f_tokens f_length f_fault f_compiled f_open f_waits f_ended f_threads f_arg f_phase f_races f_ran f_over : Int32} {a_kind a_value a_op a_slot a_statement a_number a_openKind a_openOut a_openStart a_isConstant a_constant a_at a_slots a_variables a_steps a_words a_counters a_added a_own a_ownPhase a_storedPhase a_readPhase a_racePhase a_storedBy a_readBy a_readByMore a_doneCount : Nat → Int32} {b_tokens b_threads b_argument b_phases b_races b_behind b_over : Int32} {b_kind b_value b_open b_words b_counters b_own b_next b_storers b_readers b_added b_variables b_at b_steps b_finished b_done b_stack : Nat → Int32} {N n m : Nat} {K : Nat → Nat} {op sl st nu : Nat → Int32} {ag : Int32}
/-- a run, the code being made -/
theorem qr_go {k : Nat} {post : Int32 → SX → Prop} (hR : qr_R N n K (-1) 1 f_phase f_races f_ran a_kind a_value op sl st nu a_variables a_steps a_added a_doneCount b_variables b_steps b_done) (hm1 : 1 ≤ m) (hm : m ≤ 32) {x3 : Int32} (hx : ∀ s, s < 32 → bt x3 s = decide (s < m))
    (hpost : ∀ (r : Int32) (u' : SX), (∀ (pY : Int32 → SY → Prop), (∀ v' : SY, i_Rel k u' v' → pY r v') → wpY_run pY (nI N, nI n, b_argument, f_phase, f_races, b_behind, b_over, a_kind, a_value, b_open, a_words, a_counters, b_own, b_next, b_storers, b_readers, b_added, b_variables, b_at, b_steps, b_finished, b_done, b_stack) (nI m) ag) → post r u') {Cont : SX → Prop} (hcont : ∀ (f_tokens f_length f_fault f_compiled f_open f_waits f_ended f_threads f_arg f_phase f_races f_ran f_over : Int32) (a_kind a_value a_op a_slot a_statement a_number a_openKind a_openOut a_openStart a_isConstant a_constant a_at a_slots a_variables a_steps a_words a_counters a_added a_own a_ownPhase a_storedPhase a_readPhase a_racePhase a_storedBy a_readBy a_readByMore a_doneCount : Nat → Int32), (∃ n65 : Nat, wX_run_65 post (nI m) x3 n65 f_tokens f_length f_fault f_compiled f_open f_waits f_ended f_threads f_arg f_phase f_races f_ran f_over a_kind a_value a_op a_slot a_statement a_number a_openKind a_openOut a_openStart a_isConstant a_constant a_at a_slots a_variables a_steps a_words a_counters a_added a_own a_ownPhase a_storedPhase a_readPhase a_racePhase a_storedBy a_readBy a_readByMore a_doneCount) → Cont (f_tokens, f_length, f_fault, f_compiled, f_open, f_waits, f_ended, f_threads, f_arg, f_phase, f_races, f_ran, f_over, a_kind, a_value, a_op, a_slot, a_statement, a_number, a_openKind, a_openOut, a_openStart, a_isConstant, a_constant, a_at, a_slots, a_variables, a_steps, a_words, a_counters, a_added, a_own, a_ownPhase, a_storedPhase, a_readPhase, a_racePhase, a_storedBy, a_readBy, a_readByMore, a_doneCount)) :
    wpX_reset Cont (nI N, f_length, -1, 1, f_open, f_waits, f_ended, nI m, ag, f_phase, f_races, 1, 0, a_kind, a_value, op, sl, st, nu, a_openKind, a_openOut, a_openStart, a_isConstant, a_constant, a_at, a_slots, a_variables, a_steps, a_words, a_counters, a_added, a_own, a_ownPhase, a_storedPhase, a_readPhase, a_racePhase, a_storedBy, a_readBy, a_readByMore, a_doneCount) := by
  obtain ⟨h1, h2, h3, h4, h5, h6, h7, h8⟩ := hR
  obtain ⟨hW, P, Q, e1, e2, tg, B, hC⟩ : qw_W N a_kind (-1) ∧ qc_CO N K a_value op sl st nu := by
    rcases h8 with h8 | ⟨_, _, h9, h10⟩
    · exact absurd h8 (by decide)
    · exact ⟨h9, h10 rfl⟩
  obtain ⟨Ge, phe, p1, hX, hY⟩ := qr_run (ag := ag) h1 hC hm1 hm hx 302 (ph := 0) (G := qr_G0 a_words a_counters) (by omega) (by omega) (fun t ht => ⟨hC.1, Nat.zero_le _, fun _ => Nat.zero_le _⟩)
  refine qx_reset ?_
  refine hcont _ _ _ _ _ _ _ _ _ _ _ _ _ _ _ _ _ _ _ _ _ _ _ _ _ _ _ _ _ _ _ _ _ _ _ _ _ _ _ _ ⟨303, ?_⟩
  refine hX f_waits 0 0 0 _ a_slots _ _ a_added a_own _ _ _ _ a_storedBy a_readBy a_readByMore _ (by omega) ?_ ?_
  · refine ⟨rfl, rfl, rfl, rfl, fun t ht => ⟨⟨0, Nat.zero_le _, qr_mixl (by omega), fun _ => hC.2.1.symm⟩, fun v hv => qr_mixl (by omega), qr_mixl (by omega), b_0 t, fun i hi => ⟨0, Nat.zero_le _, qr_mixl (by omega)⟩⟩, fun t _ _ => b_0 t, fun i hi => ⟨h7 i hi, qr_mixl hi, ⟨0, Nat.zero_le _, qr_mixl hi⟩, ⟨0, Nat.zero_le _, qr_mixl hi⟩, ⟨0, Nat.zero_le _, qr_mixl hi⟩⟩⟩
  · intro f_waits f_ended f_races f_over a_at a_slots a_variables a_steps a_added a_own a_ownPhase a_storedPhase a_readPhase a_racePhase a_storedBy a_readBy a_readByMore a_doneCount a_words' a_counters' hXe
    refine hpost _ _ ?_
    intro pY hpY
    unfold wpY_run
    dsimp only
    refine hW ?_
    intro o
    refine br_f (nI_nlt (b := 1) (by omega) (by omega)) (br_f (nI_nlt (a := 32) (by omega) (by decide)) (br_t (by decide) ?_))
    refine qy_init hm ?_
    refine ⟨303, ?_⟩
    refine hY b_behind 0 b_own b_storers b_readers b_added _ _ _ _ _ b_stack (by omega) ?_ ?_ ?_
    · refine ⟨rfl, rfl, rfl, rfl, rfl, fun t ht => ⟨qr_mixl (by omega), fun v hv => qr_mixl (by omega), qr_mixl (by omega), ?_⟩, fun k hk => qr_mixl hk⟩
      rw [qr_mixl (by omega), if_pos ht]
      rfl
    · refine ⟨fun z => absurd z (by decide), fun z => ?_⟩
      have := z 0 (by omega)
      exact absurd this (by show ¬ (false = true); decide)
    · intro f_behind f_over a_own a_storers a_readers a_added a_variables a_at a_steps a_finished a_done a_stack f_phases f_races' b_words' b_counters' b_next' hYe
      refine hpY _ ?_
      obtain ⟨x1, x2, x3, x4, x5, x6, x7⟩ := hXe
      obtain ⟨y1, y2, y3, y4, y5, y6, y7⟩ := hYe
      rw [x1, x2, x3, y1, y2, y3, y4]
      refine qr_in ⟨h1, hm, Or.inr rfl, fun z => absurd z (by decide), fun t ht => ⟨fun v hv => ?_, ?_⟩, fun k hk => ?_, fun i hi => (x7 i hi).1, h8⟩
      · rw [(x5 t ht).2.1 v hv, (y6 t ht).2.1 v hv]
      · rw [(x5 t ht).2.2.1, (y6 t ht).2.2.1]
      · rw [(x7 k hk).2.1, y7 k hk]
end
theorem i_vc_run {k : Nat} {u : SX} {v : SY} (I : i_Rel k u v) (hk : k + 3 ≤ 1536) (v1 : Int32) (v2 : Int32) : wpX_run (fun r u' => wpY_run (fun r' v' => r' = r ∧ i_Rel (k + 3) u' v') v v1 v2) u v1 v2 := by
  refine qr_el (P := fun u v => wpX_run (fun r u' => wpY_run (fun r' v' => r' = r ∧ i_Rel (k + 3) u' v') v v1 v2) u v1 v2) ?_ I
  intro N n K f_tokens f_length f_fault f_compiled f_open f_waits f_ended f_threads f_arg f_phase f_races f_ran f_over a_kind a_value a_op a_slot a_statement a_number a_openKind a_openOut a_openStart a_isConstant a_constant a_at a_slots a_variables a_steps a_words a_counters a_added a_own a_ownPhase a_storedPhase a_readPhase a_racePhase a_storedBy a_readBy a_readByMore a_doneCount b_tokens b_threads b_argument b_phases b_races b_behind b_over b_kind b_value b_open b_words b_counters b_own b_next b_storers b_readers b_added b_variables b_at b_steps b_finished b_done b_stack h
  obtain ⟨f_length', f_fault', f_open', op', sl', st', nu', ok', oo', oS', ic', cs', hR, hw⟩ := qr_comp h
  have hR' := hR
  obtain ⟨h1, h2, h3, h4, h5, h6, h7, h8⟩ := hR'
  obtain ⟨hf, hW, _⟩ : (f_fault' = -1 ∨ ∃ f, f ≤ N ∧ f_fault' = nI f) ∧ qw_W N a_kind f_fault' ∧ (f_fault' = -1 → qc_CO N K a_value op' sl' st' nu') := by
    rcases h8 with h8 | ⟨_, h8⟩
    · exact absurd h8 (by decide)
    · exact h8
  unfold wpX_run
  dsimp only
  refine hw ?_
  dsimp only
  refine br_c (fun g1 => ?_) (fun g1 => br_c (fun g2 => ?_) (fun g2 => br_c (fun g3 => ?_) (fun g3 => ?_)))
  · unfold wpY_run
    dsimp only
    refine hW ?_
    intro o
    exact br_t g1 ⟨rfl, qr_in hR⟩
  · unfold wpY_run
    dsimp only
    refine hW ?_
    intro o
    exact br_f g1 (br_t g2 ⟨rfl, qr_in hR⟩)
  · have hv0 : ¬ v1 < 0 := fun z => g1 (Int32.lt_iff_toInt_lt.mpr (by
      have z' := Int32.lt_iff_toInt_lt.mp z
      have e0 : (0 : Int32).toInt = 0 := by decide
      have e1 : (1 : Int32).toInt = 1 := by decide
      omega))
    obtain ⟨m, hm, rfl⟩ := nI_of hv0
    have hm1 : 1 ≤ m := by
      apply Classical.byContradiction
      intro z
      exact g1 (nI_lt (b := 1) (by omega) (by decide))
    have hm2 : m ≤ 32 := by
      apply Classical.byContradiction
      intro z
      exact g2 (nI_lt (a := 32) (by omega) hm)
    subst g3
    have hpost : ∀ (r : Int32) (u' : SX), (∀ (pY : Int32 → SY → Prop), (∀ v' : SY, i_Rel (k + 3) u' v' → pY r v') → wpY_run pY (nI N, nI n, b_argument, f_phase, f_races, b_behind, b_over, a_kind, a_value, b_open, a_words, a_counters, b_own, b_next, b_storers, b_readers, b_added, b_variables, b_at, b_steps, b_finished, b_done, b_stack) (nI m) v2) → (fun (r : Int32) (u' : SX) => wpY_run (fun r' v' => r' = r ∧ i_Rel (k + 3) u' v') (nI N, nI n, b_argument, f_phase, f_races, b_behind, b_over, a_kind, a_value, b_open, a_words, a_counters, b_own, b_next, b_storers, b_readers, b_added, b_variables, b_at, b_steps, b_finished, b_done, b_stack) (nI m) v2) r u' :=
      fun r u' hh => hh _ (fun v' hv => ⟨rfl, hv⟩)
    by_cases h32 : m = 32
    · have e32 : nI m = 32 := by rw [h32]; rfl
      refine qr_go (x3 := -1) hR hm1 hm2 (qr_mask hm1 hm2 (Or.inl ⟨h32, rfl⟩)) hpost ?_
      intro f_tokens f_length f_fault f_compiled f_open f_waits f_ended f_threads f_arg f_phase f_races f_ran f_over a_kind a_value a_op a_slot a_statement a_number a_openKind a_openOut a_openStart a_isConstant a_constant a_at a_slots a_variables a_steps a_words a_counters a_added a_own a_ownPhase a_storedPhase a_readPhase a_racePhase a_storedBy a_readBy a_readByMore a_doneCount g
      exact br_t e32 g
    · refine qr_go (x3 := ((1 : Int32) <<< (nI m &&& 31)) - 1) hR hm1 hm2 (qr_mask hm1 hm2 (Or.inr ⟨by omega, rfl⟩)) hpost ?_
      intro f_tokens f_length f_fault f_compiled f_open f_waits f_ended f_threads f_arg f_phase f_races f_ran f_over a_kind a_value a_op a_slot a_statement a_number a_openKind a_openOut a_openStart a_isConstant a_constant a_at a_slots a_variables a_steps a_words a_counters a_added a_own a_ownPhase a_storedPhase a_readPhase a_racePhase a_storedBy a_readBy a_readByMore a_doneCount g
      exact br_f (qz_ne (b := 32) h32 (by omega) (by decide)) (nm_e g)
  · have hlt : ¬ f_fault' < 0 := by
      rcases hf with hf | ⟨f, f1, f2⟩
      · exact absurd hf g3
      · rw [f2]
        have := h1.1
        exact nI_pos (by omega)
    unfold wpY_run
    dsimp only
    refine hW ?_
    intro o
    exact br_f g1 (br_f g2 (br_f hlt ⟨rfl, qr_in hR⟩))
end
section
/-! the other owed theorems -/
theorem i_vc0 : wpX_init (fun u => wpY_init (fun v => i_Rel 0 u v)) := by
  unfold wpX_init wpY_init
  refine qr_in (N := 0) (n := 0) (K := fun _ => 0) ?_
  exact ⟨⟨Nat.zero_le _, fun i hi => absurd hi (Nat.not_lt_zero i)⟩, Nat.zero_le _, Or.inl rfl, fun _ => ⟨rfl, rfl, rfl, fun _ _ => rfl⟩, fun t ht => absurd ht (Nat.not_lt_zero t), fun _ _ => rfl, fun _ _ => rfl, Or.inl rfl⟩
theorem i_vc_wipe {k : Nat} {u : SX} {v : SY} (I : i_Rel k u v) (hk : k + 3 ≤ 1536) : wpX_wipe (fun r u' => wpY_wipe (fun r' v' => r' = r ∧ i_Rel (k + 3) u' v') v) u := by
  refine qr_el (P := fun u v => wpX_wipe (fun r u' => wpY_wipe (fun r' v' => r' = r ∧ i_Rel (k + 3) u' v') v) u) ?_ I
  intro N n K f_tokens f_length f_fault f_compiled f_open f_waits f_ended f_threads f_arg f_phase f_races f_ran f_over a_kind a_value a_op a_slot a_statement a_number a_openKind a_openOut a_openStart a_isConstant a_constant a_at a_slots a_variables a_steps a_words a_counters a_added a_own a_ownPhase a_storedPhase a_readPhase a_racePhase a_storedBy a_readBy a_readByMore a_doneCount b_tokens b_threads b_argument b_phases b_races b_behind b_over b_kind b_value b_open b_words b_counters b_own b_next b_storers b_readers b_added b_variables b_at b_steps b_finished b_done b_stack h
  obtain ⟨h1, h2, h3, h4, h5, h6, h7, h8⟩ := h
  unfold wpX_wipe
  dsimp only
  unfold wpY_wipe
  dsimp only
  refine ⟨rfl, qr_in (N := 0) (K := K) ⟨⟨Nat.zero_le _, fun i hi => absurd hi (Nat.not_lt_zero i)⟩, h2, h3, h4, h5, h6, h7, Or.inl rfl⟩⟩
section
variable {f_tokens f_length f_fault f_compiled f_open f_waits f_ended f_threads f_arg f_phase f_races f_ran f_over : Int32} {a_kind a_value a_op a_slot a_statement a_number a_openKind a_openOut a_openStart a_isConstant a_constant a_at a_slots a_variables a_steps a_words a_counters a_added a_own a_ownPhase a_storedPhase a_readPhase a_racePhase a_storedBy a_readBy a_readByMore a_doneCount : Nat → Int32} {b_tokens b_threads b_argument b_phases b_races b_behind b_over : Int32} {b_kind b_value b_open b_words b_counters b_own b_next b_storers b_readers b_added b_variables b_at b_steps b_finished b_done b_stack : Nat → Int32} {N n : Nat} {K : Nat → Nat}
theorem qr_tX1 {post : Int32 → SX → Prop} {q : Nat} {x : Int32} (hq : q < 2 ^ 31) (ho : qe_ok q) (h : wX_token_39 post (nI q) x 1 f_tokens f_length f_fault f_compiled f_open f_waits f_ended f_threads f_arg f_phase f_races f_ran f_over a_kind a_value a_op a_slot a_statement a_number a_openKind a_openOut a_openStart a_isConstant a_constant a_at a_slots a_variables a_steps a_words a_counters a_added a_own a_ownPhase a_storedPhase a_readPhase a_racePhase a_storedBy a_readBy a_readByMore a_doneCount) : wpX_token post (f_tokens, f_length, f_fault, f_compiled, f_open, f_waits, f_ended, f_threads, f_arg, f_phase, f_races, f_ran, f_over, a_kind, a_value, a_op, a_slot, a_statement, a_number, a_openKind, a_openOut, a_openStart, a_isConstant, a_constant, a_at, a_slots, a_variables, a_steps, a_words, a_counters, a_added, a_own, a_ownPhase, a_storedPhase, a_readPhase, a_racePhase, a_storedBy, a_readBy, a_readByMore, a_doneCount) (nI q) x := by
  have h34 : wX_token_34 post (nI q) x f_tokens f_length f_fault f_compiled f_open f_waits f_ended f_threads f_arg f_phase f_races f_ran f_over a_kind a_value a_op a_slot a_statement a_number a_openKind a_openOut a_openStart a_isConstant a_constant a_at a_slots a_variables a_steps a_words a_counters a_added a_own a_ownPhase a_storedPhase a_readPhase a_racePhase a_storedBy a_readBy a_readByMore a_doneCount := h
  have h22 : 20 ≤ q → wX_token_22 post (nI q) x f_tokens f_length f_fault f_compiled f_open f_waits f_ended f_threads f_arg f_phase f_races f_ran f_over a_kind a_value a_op a_slot a_statement a_number a_openKind a_openOut a_openStart a_isConstant a_constant a_at a_slots a_variables a_steps a_words a_counters a_added a_own a_ownPhase a_storedPhase a_readPhase a_racePhase a_storedBy a_readBy a_readByMore a_doneCount := fun g => by
    unfold wX_token_22
    refine br_f (nI_nlt (b := 20) g hq) (br_f (nI_nlt (a := 31) ?_ (by decide)) h34)
    rcases ho with z | z | z <;> omega
  have h10 : 10 ≤ q → wX_token_10 post (nI q) x f_tokens f_length f_fault f_compiled f_open f_waits f_ended f_threads f_arg f_phase f_races f_ran f_over a_kind a_value a_op a_slot a_statement a_number a_openKind a_openOut a_openStart a_isConstant a_constant a_at a_slots a_variables a_steps a_words a_counters a_added a_own a_ownPhase a_storedPhase a_readPhase a_racePhase a_storedBy a_readBy a_readByMore a_doneCount := fun g => by
    unfold wX_token_10
    refine br_f (nI_nlt (b := 10) g hq) ?_
    refine pk_le q 16 (fun _ => h34) (fun z => h22 ?_)
    rcases ho with y | y | y <;> omega
  unfold wpX_token
  dsimp only
  refine br_f (nI_pos hq) ?_
  refine pk_le q 8 (fun _ => h34) (fun z => h10 ?_)
  rcases ho with y | y | y <;> omega
theorem qr_tX0 {post : Int32 → SX → Prop} {y x : Int32} (hno : y < 0 ∨ ∃ q, q < 2 ^ 31 ∧ y = nI q ∧ ¬ qe_ok q) (h : post (-1) (f_tokens, f_length, f_fault, f_compiled, f_open, f_waits, f_ended, f_threads, f_arg, f_phase, f_races, f_ran, f_over, a_kind, a_value, a_op, a_slot, a_statement, a_number, a_openKind, a_openOut, a_openStart, a_isConstant, a_constant, a_at, a_slots, a_variables, a_steps, a_words, a_counters, a_added, a_own, a_ownPhase, a_storedPhase, a_readPhase, a_racePhase, a_storedBy, a_readBy, a_readByMore, a_doneCount)) : wpX_token post (f_tokens, f_length, f_fault, f_compiled, f_open, f_waits, f_ended, f_threads, f_arg, f_phase, f_races, f_ran, f_over, a_kind, a_value, a_op, a_slot, a_statement, a_number, a_openKind, a_openOut, a_openStart, a_isConstant, a_constant, a_at, a_slots, a_variables, a_steps, a_words, a_counters, a_added, a_own, a_ownPhase, a_storedPhase, a_readPhase, a_racePhase, a_storedBy, a_readBy, a_readByMore, a_doneCount) y x := by
  have h38 : wX_token_38 post y x f_tokens f_length f_fault f_compiled f_open f_waits f_ended f_threads f_arg f_phase f_races f_ran f_over a_kind a_value a_op a_slot a_statement a_number a_openKind a_openOut a_openStart a_isConstant a_constant a_at a_slots a_variables a_steps a_words a_counters a_added a_own a_ownPhase a_storedPhase a_readPhase a_racePhase a_storedBy a_readBy a_readByMore a_doneCount := by
    unfold wX_token_38 wX_token_39
    exact br_t rfl h
  rcases hno with hy | ⟨q, q1, rfl, q3⟩
  · have l10 : y < 10 := by
      rw [Int32.lt_iff_toInt_lt] at hy ⊢
      have e0 : (0 : Int32).toInt = 0 := by decide
      have e1 : (10 : Int32).toInt = 10 := by decide
      omega
    have l20 : y < 20 := by
      rw [Int32.lt_iff_toInt_lt] at hy ⊢
      have e0 : (0 : Int32).toInt = 0 := by decide
      have e1 : (20 : Int32).toInt = 20 := by decide
      omega
    unfold wpX_token
    dsimp only
    refine br_t hy ?_
    unfold wX_token_10
    refine br_t l10 ?_
    unfold wX_token_22
    exact br_t l20 h38
  · unfold qe_ok at q3
    have h22 : wX_token_22 post (nI q) x f_tokens f_length f_fault f_compiled f_open f_waits f_ended f_threads f_arg f_phase f_races f_ran f_over a_kind a_value a_op a_slot a_statement a_number a_openKind a_openOut a_openStart a_isConstant a_constant a_at a_slots a_variables a_steps a_words a_counters a_added a_own a_ownPhase a_storedPhase a_readPhase a_racePhase a_storedBy a_readBy a_readByMore a_doneCount := by
      unfold wX_token_22
      exact pk_lt q 20 (fun _ => h38) (fun z => br_t (nI_lt (a := 31) (by omega) q1) h38)
    unfold wpX_token
    dsimp only
    refine br_f (nI_pos q1) (br_f (nI_ge (a := 8) (by omega) q1) ?_)
    unfold wX_token_10
    exact pk_lt q 10 (fun _ => h22) (fun z => br_f (nI_ge (a := 16) (by omega) q1) h22)
theorem qr_tY1 {post : Int32 → SY → Prop} {q : Nat} {x : Int32} (hq : q < 2 ^ 31) (ho : qe_ok q) (h : wY_token_39 post (nI q) x 1 b_tokens b_threads b_argument b_phases b_races b_behind b_over b_kind b_value b_open b_words b_counters b_own b_next b_storers b_readers b_added b_variables b_at b_steps b_finished b_done b_stack) : wpY_token post (b_tokens, b_threads, b_argument, b_phases, b_races, b_behind, b_over, b_kind, b_value, b_open, b_words, b_counters, b_own, b_next, b_storers, b_readers, b_added, b_variables, b_at, b_steps, b_finished, b_done, b_stack) (nI q) x := by
  have h34 : wY_token_34 post (nI q) x b_tokens b_threads b_argument b_phases b_races b_behind b_over b_kind b_value b_open b_words b_counters b_own b_next b_storers b_readers b_added b_variables b_at b_steps b_finished b_done b_stack := h
  have h22 : 20 ≤ q → wY_token_22 post (nI q) x b_tokens b_threads b_argument b_phases b_races b_behind b_over b_kind b_value b_open b_words b_counters b_own b_next b_storers b_readers b_added b_variables b_at b_steps b_finished b_done b_stack := fun g => by
    unfold wY_token_22
    refine br_f (nI_ge (a := 19) (by omega) hq) (br_f (nI_ge (b := 32) ?_ (by decide)) h34)
    rcases ho with z | z | z <;> omega
  have h10 : 10 ≤ q → wY_token_10 post (nI q) x b_tokens b_threads b_argument b_phases b_races b_behind b_over b_kind b_value b_open b_words b_counters b_own b_next b_storers b_readers b_added b_variables b_at b_steps b_finished b_done b_stack := fun g => by
    unfold wY_token_10
    refine br_f (nI_ge (a := 9) (by omega) hq) ?_
    refine pk_lt q 17 (fun _ => h34) (fun z => h22 ?_)
    rcases ho with y | y | y <;> omega
  unfold wpY_token
  dsimp only
  refine br_f (nI_pos hq) ?_
  refine pk_lt q 9 (fun _ => h34) (fun z => h10 ?_)
  rcases ho with y | y | y <;> omega
theorem qr_tY0 {post : Int32 → SY → Prop} {y x : Int32} (hno : y < 0 ∨ ∃ q, q < 2 ^ 31 ∧ y = nI q ∧ ¬ qe_ok q) (h : post (-1) (b_tokens, b_threads, b_argument, b_phases, b_races, b_behind, b_over, b_kind, b_value, b_open, b_words, b_counters, b_own, b_next, b_storers, b_readers, b_added, b_variables, b_at, b_steps, b_finished, b_done, b_stack)) : wpY_token post (b_tokens, b_threads, b_argument, b_phases, b_races, b_behind, b_over, b_kind, b_value, b_open, b_words, b_counters, b_own, b_next, b_storers, b_readers, b_added, b_variables, b_at, b_steps, b_finished, b_done, b_stack) y x := by
  have h38 : wY_token_38 post y x b_tokens b_threads b_argument b_phases b_races b_behind b_over b_kind b_value b_open b_words b_counters b_own b_next b_storers b_readers b_added b_variables b_at b_steps b_finished b_done b_stack := by
    unfold wY_token_38 wY_token_39
    exact br_t rfl h
  rcases hno with hy | ⟨q, q1, rfl, q3⟩
  · have l10 : y ≤ 9 := by
      rw [Int32.lt_iff_toInt_lt] at hy
      rw [Int32.le_iff_toInt_le]
      have e0 : (0 : Int32).toInt = 0 := by decide
      have e1 : (9 : Int32).toInt = 9 := by decide
      omega
    have l20 : y ≤ 19 := by
      rw [Int32.lt_iff_toInt_lt] at hy
      rw [Int32.le_iff_toInt_le]
      have e0 : (0 : Int32).toInt = 0 := by decide
      have e1 : (19 : Int32).toInt = 19 := by decide
      omega
    unfold wpY_token
    dsimp only
    refine br_t hy ?_
    unfold wY_token_10
    refine br_t l10 ?_
    unfold wY_token_22
    exact br_t l20 h38
  · unfold qe_ok at q3
    have h22 : wY_token_22 post (nI q) x b_tokens b_threads b_argument b_phases b_races b_behind b_over b_kind b_value b_open b_words b_counters b_own b_next b_storers b_readers b_added b_variables b_at b_steps b_finished b_done b_stack := by
      unfold wY_token_22
      exact pk_le q 19 (fun _ => h38) (fun z => br_t (nI_le (a := 32) (by omega) q1) h38)
    unfold wpY_token
    dsimp only
    refine br_f (nI_pos q1) (br_f (nI_nlt (b := 9) (by omega) q1) ?_)
    unfold wY_token_10
    exact pk_le q 9 (fun _ => h22) (fun z => br_f (nI_nlt (b := 17) (by omega) q1) h22)
end
theorem i_vc_token {k : Nat} {u : SX} {v : SY} (I : i_Rel k u v) (hk : k + 3 ≤ 1536) (v1 : Int32) (v2 : Int32) : wpX_token (fun r u' => wpY_token (fun r' v' => r' = r ∧ i_Rel (k + 3) u' v') v v1 v2) u v1 v2 := by
  refine qr_el (P := fun u v => wpX_token (fun r u' => wpY_token (fun r' v' => r' = r ∧ i_Rel (k + 3) u' v') v v1 v2) u v1 v2) ?_ I
  intro N n K f_tokens f_length f_fault f_compiled f_open f_waits f_ended f_threads f_arg f_phase f_races f_ran f_over a_kind a_value a_op a_slot a_statement a_number a_openKind a_openOut a_openStart a_isConstant a_constant a_at a_slots a_variables a_steps a_words a_counters a_added a_own a_ownPhase a_storedPhase a_readPhase a_racePhase a_storedBy a_readBy a_readByMore a_doneCount b_tokens b_threads b_argument b_phases b_races b_behind b_over b_kind b_value b_open b_words b_counters b_own b_next b_storers b_readers b_added b_variables b_at b_steps b_finished b_done b_stack h
  have hR := h
  obtain ⟨h1, h2, h3, h4, h5, h6, h7, h8⟩ := hR
  by_cases hno : v1 < 0 ∨ ∃ q, q < 2 ^ 31 ∧ v1 = nI q ∧ ¬ qe_ok q
  · exact qr_tX0 hno (qr_tY0 hno ⟨rfl, qr_in h⟩)
  · have hv0 : ¬ v1 < 0 := fun z => hno (Or.inl z)
    obtain ⟨q, q1, rfl⟩ := nI_of hv0
    have q3 : qe_ok q := by
      apply Classical.byContradiction
      intro z
      exact hno (Or.inr ⟨q, q1, rfl, z⟩)
    have q32 : q < 32 := by rcases q3 with z | z | z <;> omega
    have hN := h1.1
    refine qr_tX1 q1 q3 ?_
    unfold wX_token_39
    refine br_f (by decide) (pk_eq N 64 (fun e64 => ?_) (fun n64 => ?_))
    · refine qr_tY1 q1 q3 ?_
      unfold wY_token_39
      have h64 : wY_token_64 (fun r' v' => r' = -1 ∧ i_Rel (k + 3) (nI N, f_length, f_fault, f_compiled, f_open, f_waits, f_ended, nI n, f_arg, f_phase, f_races, f_ran, f_over, a_kind, a_value, a_op, a_slot, a_statement, a_number, a_openKind, a_openOut, a_openStart, a_isConstant, a_constant, a_at, a_slots, a_variables, a_steps, a_words, a_counters, a_added, a_own, a_ownPhase, a_storedPhase, a_readPhase, a_racePhase, a_storedBy, a_readBy, a_readByMore, a_doneCount) v') (nI q) v2 (nI N) (nI n) b_argument f_phase f_races b_behind b_over a_kind a_value b_open a_words a_counters b_own b_next b_storers b_readers b_added b_variables b_at b_steps b_finished b_done b_stack := by
        unfold wY_token_64
        exact br_t (by rw [e64]; rfl) ⟨rfl, qr_in h⟩
      have h54 : wY_token_54 (fun r' v' => r' = -1 ∧ i_Rel (k + 3) (nI N, f_length, f_fault, f_compiled, f_open, f_waits, f_ended, nI n, f_arg, f_phase, f_races, f_ran, f_over, a_kind, a_value, a_op, a_slot, a_statement, a_number, a_openKind, a_openOut, a_openStart, a_isConstant, a_constant, a_at, a_slots, a_variables, a_steps, a_words, a_counters, a_added, a_own, a_ownPhase, a_storedPhase, a_readPhase, a_racePhase, a_storedBy, a_readBy, a_readByMore, a_doneCount) v') (nI q) v2 (nI N) (nI n) b_argument f_phase f_races b_behind b_over a_kind a_value b_open a_words a_counters b_own b_next b_storers b_readers b_added b_variables b_at b_steps b_finished b_done b_stack := by
        unfold wY_token_54 wpY_among
        dsimp only
        exact br_c (fun _ => br_t rfl ⟨rfl, qr_in h⟩) (fun _ => br_c (fun _ => br_t rfl ⟨rfl, qr_in h⟩) (fun _ => br_f (by decide) h64))
      exact br_f (by decide) (br_c (fun _ => h54) (fun _ => br_c (fun _ => h54) (fun _ => h64)))
    · have hNe : ¬ nI N = 64 := qz_ne (b := 64) n64 (by omega) (by decide)
      have vN : vp_in (nI N) 64 := vp_in_nI (by omega) (by decide)
      have cN : (nI N).toNatClampNeg = N := nI_clamp (by omega)
      have hnew : (q = 0 ∨ q = 11 → qe_V6 v2) → qr_R (N + 1) n (qc_set K N q) f_fault 0 f_phase f_races f_ran (upd a_kind N (nI q)) (upd a_value N v2) a_op a_slot a_statement a_number a_variables a_steps a_added a_doneCount b_variables b_steps b_done := by
        intro hv
        refine ⟨⟨by omega, fun i hi => ?_⟩, h2, h3, h4, h5, h6, h7, Or.inl rfl⟩
        by_cases e : i = N
        · subst e
          rw [pk_us, pk_us, qc_set_s]
          exact ⟨rfl, q3, hv⟩
        · rw [pk_un e, pk_un e, qc_set_n e]
          exact h1.2 i (by omega)
      have hput : (q = 0 ∨ q = 11 → qe_V6 v2) → ∀ pX : Int32 → SX → Prop, pX (nI (N + 1)) (nI (N + 1), f_length, f_fault, 0, f_open, f_waits, f_ended, nI n, f_arg, f_phase, f_races, f_ran, f_over, upd a_kind N (nI q), upd a_value N v2, a_op, a_slot, a_statement, a_number, a_openKind, a_openOut, a_openStart, a_isConstant, a_constant, a_at, a_slots, a_variables, a_steps, a_words, a_counters, a_added, a_own, a_ownPhase, a_storedPhase, a_readPhase, a_racePhase, a_storedBy, a_readBy, a_readByMore, a_doneCount) → wX_token_74 pX (nI q) v2 (nI N) f_length f_fault f_compiled f_open f_waits f_ended (nI n) f_arg f_phase f_races f_ran f_over a_kind a_value a_op a_slot a_statement a_number a_openKind a_openOut a_openStart a_isConstant a_constant a_at a_slots a_variables a_steps a_words a_counters a_added a_own a_ownPhase a_storedPhase a_readPhase a_racePhase a_storedBy a_readBy a_readByMore a_doneCount := by
        intro hv pX hp
        unfold wX_token_74
        exact ⟨vN, nm_r (e' := upd a_kind N (nI q)) (by rw [cN, qz_byte (by omega)]) (nm_r (nI_1 N) ⟨vN, nm_r (e' := upd a_value N v2) (by rw [cN]) hp⟩)⟩
      have hputY : (q = 0 ∨ q = 11 → qe_V6 v2) → wY_token_64 (fun r' v' => r' = nI (N + 1) ∧ i_Rel (k + 3) (nI (N + 1), f_length, f_fault, 0, f_open, f_waits, f_ended, nI n, f_arg, f_phase, f_races, f_ran, f_over, upd a_kind N (nI q), upd a_value N v2, a_op, a_slot, a_statement, a_number, a_openKind, a_openOut, a_openStart, a_isConstant, a_constant, a_at, a_slots, a_variables, a_steps, a_words, a_counters, a_added, a_own, a_ownPhase, a_storedPhase, a_readPhase, a_racePhase, a_storedBy, a_readBy, a_readByMore, a_doneCount) v') (nI q) v2 (nI N) (nI n) b_argument f_phase f_races b_behind b_over a_kind a_value b_open a_words a_counters b_own b_next b_storers b_readers b_added b_variables b_at b_steps b_finished b_done b_stack := by
        intro hv
        unfold wY_token_64
        exact br_f hNe ⟨vN, nm_r (e' := upd a_kind N (nI q)) (by rw [cN]) ⟨vN, nm_r (e' := upd a_value N v2) (by rw [cN]) (nm_r (nI_1 N) ⟨rfl, qr_in (hnew hv)⟩)⟩⟩
      by_cases h011 : q = 0 ∨ q = 11
      · have c1 : ∀ {A C : Prop}, A → (nI q = 0 → A) ∧ (¬ nI q = 0 → ((nI q = 11 → A) ∧ (¬ nI q = 11 → C))) := fun a => br_c (fun _ => a) (fun z0 => br_c (fun _ => a) (fun z1 => absurd h011 (fun z => by
          rcases z with z | z
          · exact z0 (by rw [z]; rfl)
          · exact z1 (by rw [z]; rfl))))
        refine c1 ?_
        unfold wX_token_63
        have hYno : ∀ (hb : v2 < 0 ∨ ¬ v2 ≤ 5), wpY_token (fun r' v' => r' = -1 ∧ i_Rel (k + 3) (nI N, f_length, f_fault, f_compiled, f_open, f_waits, f_ended, nI n, f_arg, f_phase, f_races, f_ran, f_over, a_kind, a_value, a_op, a_slot, a_statement, a_number, a_openKind, a_openOut, a_openStart, a_isConstant, a_constant, a_at, a_slots, a_variables, a_steps, a_words, a_counters, a_added, a_own, a_ownPhase, a_storedPhase, a_readPhase, a_racePhase, a_storedBy, a_readBy, a_readByMore, a_doneCount) v') (nI N, nI n, b_argument, f_phase, f_races, b_behind, b_over, a_kind, a_value, b_open, a_words, a_counters, b_own, b_next, b_storers, b_readers, b_added, b_variables, b_at, b_steps, b_finished, b_done, b_stack) (nI q) v2 := by
          intro hb
          refine qr_tY1 q1 q3 ?_
          unfold wY_token_39
          refine br_f (by decide) (c1 ?_)
          unfold wY_token_54 wpY_among
          dsimp only
          refine br_c (fun _ => br_t rfl ⟨rfl, qr_in h⟩) (fun z0 => br_t ?_ (br_t rfl ⟨rfl, qr_in h⟩))
          rcases hb with hb | hb
          · exact absurd hb z0
          · rw [Int32.le_iff_toInt_le] at hb ⊢
            have e5 : (5 : Int32).toInt = 5 := by decide
            have e6 : (6 : Int32).toInt = 6 := by decide
            omega
        refine br_c (fun z0 => hYno (Or.inl z0)) (fun z0 => br_c (fun z5 => ?_) (fun z5 => hYno (Or.inr z5)))
        obtain ⟨w, w1, w2⟩ := nI_of2 (M := 5) (n := 5) (by decide) z0 z5
        have hv : q = 0 ∨ q = 11 → qe_V6 v2 := fun _ => ⟨w, by omega, w2⟩
        refine hput hv _ ?_
        refine qr_tY1 q1 q3 ?_
        unfold wY_token_39
        refine br_f (by decide) (c1 ?_)
        unfold wY_token_54 wpY_among
        dsimp only
        refine br_f z0 (br_f ?_ (br_f (by decide) (hputY hv)))
        rw [w2]
        exact nI_ge (b := 6) (by omega) (by decide)
      · have n0 : ¬ nI q = 0 := qz_ne (b := 0) (by omega) (by omega) (by decide)
        have n11 : ¬ nI q = 11 := qz_ne (b := 11) (by omega) (by omega) (by decide)
        have hv : q = 0 ∨ q = 11 → qe_V6 v2 := fun z => absurd z h011
        refine br_f n0 (br_f n11 (hput hv _ ?_))
        refine qr_tY1 q1 q3 ?_
        unfold wY_token_39
        exact br_f (by decide) (br_f n0 (br_f n11 (hputY hv)))
theorem i_vc_put {k : Nat} {u : SX} {v : SY} (I : i_Rel k u v) (hk : k + 3 ≤ 1536) (v1 : Int32) (v2 : Int32) : wpX_put (fun r u' => wpY_put (fun r' v' => r' = r ∧ i_Rel (k + 3) u' v') v v1 v2) u v1 v2 := by
  refine qr_el (P := fun u v => wpX_put (fun r u' => wpY_put (fun r' v' => r' = r ∧ i_Rel (k + 3) u' v') v v1 v2) u v1 v2) ?_ I
  intro N n K f_tokens f_length f_fault f_compiled f_open f_waits f_ended f_threads f_arg f_phase f_races f_ran f_over a_kind a_value a_op a_slot a_statement a_number a_openKind a_openOut a_openStart a_isConstant a_constant a_at a_slots a_variables a_steps a_words a_counters a_added a_own a_ownPhase a_storedPhase a_readPhase a_racePhase a_storedBy a_readBy a_readByMore a_doneCount b_tokens b_threads b_argument b_phases b_races b_behind b_over b_kind b_value b_open b_words b_counters b_own b_next b_storers b_readers b_added b_variables b_at b_steps b_finished b_done b_stack h
  have vi := qz_win v1
  unfold wpX_put
  dsimp only
  refine ⟨vi, nm_e ⟨vi, nm_e ?_⟩⟩
  unfold wpY_put
  dsimp only
  exact ⟨vi, nm_e ⟨vi, nm_e ⟨rfl, qr_in h⟩⟩⟩
theorem i_vc_word {k : Nat} {u : SX} {v : SY} (I : i_Rel k u v) (hk : k + 3 ≤ 1536) (v1 : Int32) : wpX_word (fun r => wpY_word (fun r' => r' = r ∧ i_Rel (k + 3) u v) v v1) u v1 := by
  refine qr_el (P := fun u v => wpX_word (fun r => wpY_word (fun r' => r' = r ∧ i_Rel (k + 3) u v) v v1) u v1) ?_ I
  intro N n K f_tokens f_length f_fault f_compiled f_open f_waits f_ended f_threads f_arg f_phase f_races f_ran f_over a_kind a_value a_op a_slot a_statement a_number a_openKind a_openOut a_openStart a_isConstant a_constant a_at a_slots a_variables a_steps a_words a_counters a_added a_own a_ownPhase a_storedPhase a_readPhase a_racePhase a_storedBy a_readBy a_readByMore a_doneCount b_tokens b_threads b_argument b_phases b_races b_behind b_over b_kind b_value b_open b_words b_counters b_own b_next b_storers b_readers b_added b_variables b_at b_steps b_finished b_done b_stack h
  have vi := qz_win v1
  exact ⟨vi, vi, rfl, qr_in h⟩
theorem i_vc_counter {k : Nat} {u : SX} {v : SY} (I : i_Rel k u v) (hk : k + 3 ≤ 1536) (v1 : Int32) : wpX_counter (fun r => wpY_counter (fun r' => r' = r ∧ i_Rel (k + 3) u v) v v1) u v1 := by
  refine qr_el (P := fun u v => wpX_counter (fun r => wpY_counter (fun r' => r' = r ∧ i_Rel (k + 3) u v) v v1) u v1) ?_ I
  intro N n K f_tokens f_length f_fault f_compiled f_open f_waits f_ended f_threads f_arg f_phase f_races f_ran f_over a_kind a_value a_op a_slot a_statement a_number a_openKind a_openOut a_openStart a_isConstant a_constant a_at a_slots a_variables a_steps a_words a_counters a_added a_own a_ownPhase a_storedPhase a_readPhase a_racePhase a_storedBy a_readBy a_readByMore a_doneCount b_tokens b_threads b_argument b_phases b_races b_behind b_over b_kind b_value b_open b_words b_counters b_own b_next b_storers b_readers b_added b_variables b_at b_steps b_finished b_done b_stack h
  have vi := qz_win v1
  exact ⟨vi, vi, rfl, qr_in h⟩
section
variable {f_tokens f_length f_fault f_compiled f_open f_waits f_ended f_threads f_arg f_phase f_races f_ran f_over : Int32} {a_kind a_value a_op a_slot a_statement a_number a_openKind a_openOut a_openStart a_isConstant a_constant a_at a_slots a_variables a_steps a_words a_counters a_added a_own a_ownPhase a_storedPhase a_readPhase a_racePhase a_storedBy a_readBy a_readByMore a_doneCount : Nat → Int32} {b_tokens b_threads b_argument b_phases b_races b_behind b_over : Int32} {b_kind b_value b_open b_words b_counters b_own b_next b_storers b_readers b_added b_variables b_at b_steps b_finished b_done b_stack : Nat → Int32} {N n : Nat} {K : Nat → Nat}
theorem qr_z2X {post : SX → Prop} {w c : Nat → Int32} (h : post (f_tokens, f_length, f_fault, f_compiled, f_open, f_waits, f_ended, f_threads, f_arg, f_phase, f_races, f_ran, f_over, a_kind, a_value, a_op, a_slot, a_statement, a_number, a_openKind, a_openOut, a_openStart, a_isConstant, a_constant, a_at, a_slots, a_variables, a_steps, qr_mix 64 (fun _ => 0) w, qr_mix 64 (fun _ => 0) c, a_added, a_own, a_ownPhase, a_storedPhase, a_readPhase, a_racePhase, a_storedBy, a_readBy, a_readByMore, a_doneCount)) (q : Nat) :
    ∀ {i m : Nat}, i + q = 64 → q < m → wX_zero_2 post f_tokens f_length f_fault f_compiled f_open f_waits f_ended f_threads f_arg f_phase f_races f_ran f_over m (nI i) a_kind a_value a_op a_slot a_statement a_number a_openKind a_openOut a_openStart a_isConstant a_constant a_at a_slots a_variables a_steps (qr_mix i (fun _ => 0) w) (qr_mix i (fun _ => 0) c) a_added a_own a_ownPhase a_storedPhase a_readPhase a_racePhase a_storedBy a_readBy a_readByMore a_doneCount := by
  induction q with
  | zero =>
    intro i m hi hm
    obtain ⟨z, rfl⟩ : ∃ z, m = z + 1 := ⟨m - 1, by omega⟩
    rw [show i = 64 by omega]
    unfold wX_zero_2
    exact br_t (by decide) h
  | succ q ih =>
    intro i m hi hm
    obtain ⟨z, rfl⟩ : ∃ z, m = z + 1 := ⟨m - 1, by omega⟩
    have v : vp_in (nI i) 64 := vp_in_nI (by omega) (by decide)
    have ci : (nI i).toNatClampNeg = i := nI_clamp (by omega)
    unfold wX_zero_2
    refine br_f (nI_ge (b := 64) (by omega) (by decide)) ⟨v, nm_r (e' := qr_mix (i + 1) (fun _ => 0) w) (by rw [ci]; exact qr_mixS rfl) ⟨v, nm_r (e' := qr_mix (i + 1) (fun _ => 0) c) (by rw [ci]; exact qr_mixS rfl) (nm_r (nI_1 i) ?_)⟩⟩
    exact ih (i := i + 1) (by omega) (by omega)
theorem qr_z2Y {post : SY → Prop} {w c : Nat → Int32} (h : post (b_tokens, b_threads, b_argument, b_phases, b_races, b_behind, b_over, b_kind, b_value, b_open, qr_mix 64 (fun _ => 0) w, qr_mix 64 (fun _ => 0) c, b_own, b_next, b_storers, b_readers, b_added, b_variables, b_at, b_steps, b_finished, b_done, b_stack)) (q : Nat) :
    ∀ {i m : Nat}, i + q = 64 → q < m → wY_zero_2 post b_tokens b_threads b_argument b_phases b_races b_behind b_over m (nI i) b_kind b_value b_open (qr_mix i (fun _ => 0) w) (qr_mix i (fun _ => 0) c) b_own b_next b_storers b_readers b_added b_variables b_at b_steps b_finished b_done b_stack := by
  induction q with
  | zero =>
    intro i m hi hm
    obtain ⟨z, rfl⟩ : ∃ z, m = z + 1 := ⟨m - 1, by omega⟩
    rw [show i = 64 by omega]
    unfold wY_zero_2
    exact br_t (by decide) h
  | succ q ih =>
    intro i m hi hm
    obtain ⟨z, rfl⟩ : ∃ z, m = z + 1 := ⟨m - 1, by omega⟩
    have v : vp_in (nI i) 64 := vp_in_nI (by omega) (by decide)
    have ci : (nI i).toNatClampNeg = i := nI_clamp (by omega)
    unfold wY_zero_2
    refine br_f (nI_ge (b := 64) (by omega) (by decide)) ⟨v, nm_r (e' := qr_mix (i + 1) (fun _ => 0) w) (by rw [ci]; exact qr_mixS rfl) ⟨v, nm_r (e' := qr_mix (i + 1) (fun _ => 0) c) (by rw [ci]; exact qr_mixS rfl) (nm_r (nI_1 i) ?_)⟩⟩
    exact ih (i := i + 1) (by omega) (by omega)
end
theorem i_vc_zero {k : Nat} {u : SX} {v : SY} (I : i_Rel k u v) (hk : k + 3 ≤ 1536) : wpX_zero (fun u' => wpY_zero (fun v' => i_Rel (k + 3) u' v') v) u := by
  refine qr_el (P := fun u v => wpX_zero (fun u' => wpY_zero (fun v' => i_Rel (k + 3) u' v') v) u) ?_ I
  intro N n K f_tokens f_length f_fault f_compiled f_open f_waits f_ended f_threads f_arg f_phase f_races f_ran f_over a_kind a_value a_op a_slot a_statement a_number a_openKind a_openOut a_openStart a_isConstant a_constant a_at a_slots a_variables a_steps a_words a_counters a_added a_own a_ownPhase a_storedPhase a_readPhase a_racePhase a_storedBy a_readBy a_readByMore a_doneCount b_tokens b_threads b_argument b_phases b_races b_behind b_over b_kind b_value b_open b_words b_counters b_own b_next b_storers b_readers b_added b_variables b_at b_steps b_finished b_done b_stack h
  have hYf : wpY_zero (fun v' => i_Rel (k + 3) (nI N, f_length, f_fault, f_compiled, f_open, f_waits, f_ended, nI n, f_arg, f_phase, f_races, f_ran, f_over, a_kind, a_value, a_op, a_slot, a_statement, a_number, a_openKind, a_openOut, a_openStart, a_isConstant, a_constant, a_at, a_slots, a_variables, a_steps, qr_mix 64 (fun _ => 0) a_words, qr_mix 64 (fun _ => 0) a_counters, a_added, a_own, a_ownPhase, a_storedPhase, a_readPhase, a_racePhase, a_storedBy, a_readBy, a_readByMore, a_doneCount) v') (nI N, nI n, b_argument, f_phase, f_races, b_behind, b_over, a_kind, a_value, b_open, a_words, a_counters, b_own, b_next, b_storers, b_readers, b_added, b_variables, b_at, b_steps, b_finished, b_done, b_stack) := by
    unfold wpY_zero
    dsimp only
    refine ⟨65, ?_⟩
    have hh := qr_z2Y (post := fun v' => i_Rel (k + 3) (nI N, f_length, f_fault, f_compiled, f_open, f_waits, f_ended, nI n, f_arg, f_phase, f_races, f_ran, f_over, a_kind, a_value, a_op, a_slot, a_statement, a_number, a_openKind, a_openOut, a_openStart, a_isConstant, a_constant, a_at, a_slots, a_variables, a_steps, qr_mix 64 (fun _ => 0) a_words, qr_mix 64 (fun _ => 0) a_counters, a_added, a_own, a_ownPhase, a_storedPhase, a_readPhase, a_racePhase, a_storedBy, a_readBy, a_readByMore, a_doneCount) v') (b_tokens := nI N) (b_threads := nI n) (b_argument := b_argument) (b_phases := f_phase) (b_races := f_races) (b_behind := b_behind) (b_over := b_over) (b_kind := a_kind) (b_value := a_value) (b_open := b_open) (b_own := b_own) (b_next := b_next) (b_storers := b_storers) (b_readers := b_readers) (b_added := b_added) (b_variables := b_variables) (b_at := b_at) (b_steps := b_steps) (b_finished := b_finished) (b_done := b_done) (b_stack := b_stack) (w := a_words) (c := a_counters) (qr_in h) 64 (i := 0) (m := 65) (by omega) (by omega)
    rw [qr_mix0, qr_mix0] at hh
    exact hh
  unfold wpX_zero
  dsimp only
  refine ⟨65, ?_⟩
  have hh := qr_z2X (post := fun u' => wpY_zero (fun v' => i_Rel (k + 3) u' v') (nI N, nI n, b_argument, f_phase, f_races, b_behind, b_over, a_kind, a_value, b_open, a_words, a_counters, b_own, b_next, b_storers, b_readers, b_added, b_variables, b_at, b_steps, b_finished, b_done, b_stack)) (w := a_words) (c := a_counters) hYf 64 (i := 0) (m := 65) (by omega) (by omega)
  rw [qr_mix0, qr_mix0] at hh
  exact hh
section
variable {f_tokens f_length f_fault f_compiled f_open f_waits f_ended f_threads f_arg f_phase f_races f_ran f_over : Int32} {a_kind a_value a_op a_slot a_statement a_number a_openKind a_openOut a_openStart a_isConstant a_constant a_at a_slots a_variables a_steps a_words a_counters a_added a_own a_ownPhase a_storedPhase a_readPhase a_racePhase a_storedBy a_readBy a_readByMore a_doneCount : Nat → Int32} {b_tokens b_threads b_argument b_phases b_races b_behind b_over : Int32} {b_kind b_value b_open b_words b_counters b_own b_next b_storers b_readers b_added b_variables b_at b_steps b_finished b_done b_stack : Nat → Int32} {N n : Nat} {K : Nat → Nat}
theorem qr_isT {post : Int32 → Prop} {x : Int32} (hn : n ≤ 32) (h1 : ∀ t, t < n → ¬ f_ran = 0 → x = nI t → post 1) (h0 : (f_ran = 0 ∨ x < 0 ∨ nI n ≤ x) → post 0) : wpX_isThread post (f_tokens, f_length, f_fault, f_compiled, f_open, f_waits, f_ended, nI n, f_arg, f_phase, f_races, f_ran, f_over, a_kind, a_value, a_op, a_slot, a_statement, a_number, a_openKind, a_openOut, a_openStart, a_isConstant, a_constant, a_at, a_slots, a_variables, a_steps, a_words, a_counters, a_added, a_own, a_ownPhase, a_storedPhase, a_readPhase, a_racePhase, a_storedBy, a_readBy, a_readByMore, a_doneCount) x := by
  unfold wpX_isThread
  dsimp only
  refine br_c (fun g => h0 (Or.inl g)) (fun g => br_c (fun g0 => h0 (Or.inr (Or.inl g0))) (fun g0 => br_c (fun g1 => h0 (Or.inr (Or.inr g1))) (fun g1 => ?_)))
  rcases pk_ix x (n := n) (by omega) with z | z | ⟨t, t1, t2⟩
  · exact absurd z g0
  · exact absurd z g1
  · exact h1 t t1 g t2
theorem qr_am {post : Int32 → Prop} {x : Int32} {m : Nat} {y : Int32} (hy : y = nI m) (hm : m < 2 ^ 31) (h1 : ∀ t, t < m → x = nI t → post 1) (h0 : (x < 0 ∨ nI m ≤ x) → post 0) : wpY_among post (b_tokens, b_threads, b_argument, b_phases, b_races, b_behind, b_over, b_kind, b_value, b_open, b_words, b_counters, b_own, b_next, b_storers, b_readers, b_added, b_variables, b_at, b_steps, b_finished, b_done, b_stack) x y := by
  subst hy
  unfold wpY_among
  dsimp only
  refine br_c (fun g0 => h0 (Or.inl g0)) (fun g0 => br_c (fun g1 => h0 (Or.inr g1)) (fun g1 => ?_))
  rcases pk_ix x (n := m) hm with z | z | ⟨t, t1, t2⟩
  · exact absurd z g0
  · exact absurd z g1
  · exact h1 t t1 t2
end
theorem qr_nin {n t : Nat} {x : Int32} (hn : n < 2 ^ 31) (ht : t < n) (hx : x = nI t) : ¬ (x < 0 ∨ nI n ≤ x) := by
  rw [hx]
  intro z
  rcases z with z | z
  · exact nI_pos (by omega) z
  · exact nI_ge ht hn z
theorem i_vc_steps {k : Nat} {u : SX} {v : SY} (I : i_Rel k u v) (hk : k + 3 ≤ 1536) (v1 : Int32) : wpX_steps (fun r => wpY_steps (fun r' => r' = r ∧ i_Rel (k + 3) u v) v v1) u v1 := by
  refine qr_el (P := fun u v => wpX_steps (fun r => wpY_steps (fun r' => r' = r ∧ i_Rel (k + 3) u v) v v1) u v1) ?_ I
  intro N n K f_tokens f_length f_fault f_compiled f_open f_waits f_ended f_threads f_arg f_phase f_races f_ran f_over a_kind a_value a_op a_slot a_statement a_number a_openKind a_openOut a_openStart a_isConstant a_constant a_at a_slots a_variables a_steps a_words a_counters a_added a_own a_ownPhase a_storedPhase a_readPhase a_racePhase a_storedBy a_readBy a_readByMore a_doneCount b_tokens b_threads b_argument b_phases b_races b_behind b_over b_kind b_value b_open b_words b_counters b_own b_next b_storers b_readers b_added b_variables b_at b_steps b_finished b_done b_stack h
  obtain ⟨h1, h2, h3, h4, h5, h6, h7, h8⟩ := h
  have h : qr_R N n K f_fault f_compiled f_phase f_races f_ran a_kind a_value a_op a_slot a_statement a_number a_variables a_steps a_added a_doneCount b_variables b_steps b_done := ⟨h1, h2, h3, h4, h5, h6, h7, h8⟩
  unfold wpX_steps
  dsimp only
  refine qr_isT h2 (fun t t1 hr hx => ?_) (fun g => br_t rfl ?_)
  · have vt : vp_in v1 32 := by rw [hx]; exact vp_in_nI (by omega) (by decide)
    refine br_f (by decide) ⟨vt, ?_⟩
    unfold wpY_steps
    dsimp only
    refine qr_am rfl (by omega) (fun t' t1' hx' => br_f (by decide) ⟨vt, ?_⟩) (fun z => absurd z (qr_nin (by omega) t1 hx))
    rw [hx, nI_clamp (by omega)]
    exact ⟨(h5 t t1).2.symm, qr_in h⟩
  · unfold wpY_steps
    dsimp only
    refine qr_am rfl (by omega) (fun t t1 hx => ?_) (fun _ => br_t rfl ⟨rfl, qr_in h⟩)
    rcases g with g | g
    · have := (h4 g).1
      omega
    · exact absurd g (qr_nin (by omega) t1 hx)
theorem i_vc_variable {k : Nat} {u : SX} {v : SY} (I : i_Rel k u v) (hk : k + 3 ≤ 1536) (v1 : Int32) (v2 : Int32) : wpX_variable (fun r => wpY_variable (fun r' => r' = r ∧ i_Rel (k + 3) u v) v v1 v2) u v1 v2 := by
  refine qr_el (P := fun u v => wpX_variable (fun r => wpY_variable (fun r' => r' = r ∧ i_Rel (k + 3) u v) v v1 v2) u v1 v2) ?_ I
  intro N n K f_tokens f_length f_fault f_compiled f_open f_waits f_ended f_threads f_arg f_phase f_races f_ran f_over a_kind a_value a_op a_slot a_statement a_number a_openKind a_openOut a_openStart a_isConstant a_constant a_at a_slots a_variables a_steps a_words a_counters a_added a_own a_ownPhase a_storedPhase a_readPhase a_racePhase a_storedBy a_readBy a_readByMore a_doneCount b_tokens b_threads b_argument b_phases b_races b_behind b_over b_kind b_value b_open b_words b_counters b_own b_next b_storers b_readers b_added b_variables b_at b_steps b_finished b_done b_stack h
  obtain ⟨h1, h2, h3, h4, h5, h6, h7, h8⟩ := h
  have h : qr_R N n K f_fault f_compiled f_phase f_races f_ran a_kind a_value a_op a_slot a_statement a_number a_variables a_steps a_added a_doneCount b_variables b_steps b_done := ⟨h1, h2, h3, h4, h5, h6, h7, h8⟩
  unfold wpX_variable
  dsimp only
  refine qr_isT h2 (fun t t1 hr hx => br_f (by decide) ?_) (fun g => br_t rfl ?_)
  · have hno : (v2 < 0 ∨ nI 6 ≤ v2) → wpY_variable (fun r' => r' = 0 ∧ i_Rel (k + 3) (nI N, f_length, f_fault, f_compiled, f_open, f_waits, f_ended, nI n, f_arg, f_phase, f_races, f_ran, f_over, a_kind, a_value, a_op, a_slot, a_statement, a_number, a_openKind, a_openOut, a_openStart, a_isConstant, a_constant, a_at, a_slots, a_variables, a_steps, a_words, a_counters, a_added, a_own, a_ownPhase, a_storedPhase, a_readPhase, a_racePhase, a_storedBy, a_readBy, a_readByMore, a_doneCount) (nI N, nI n, b_argument, f_phase, f_races, b_behind, b_over, a_kind, a_value, b_open, a_words, a_counters, b_own, b_next, b_storers, b_readers, b_added, b_variables, b_at, b_steps, b_finished, b_done, b_stack)) (nI N, nI n, b_argument, f_phase, f_races, b_behind, b_over, a_kind, a_value, b_open, a_words, a_counters, b_own, b_next, b_storers, b_readers, b_added, b_variables, b_at, b_steps, b_finished, b_done, b_stack) v1 v2 := by
      intro g
      unfold wpY_variable
      dsimp only
      refine qr_am rfl (by omega) (fun t' t1' hx' => br_f (by decide) ?_) (fun z => br_t rfl ⟨rfl, qr_in h⟩)
      refine qr_am (m := 6) rfl (by decide) (fun w w1 hw => absurd g (qr_nin (by decide) w1 hw)) (fun _ => br_t rfl ⟨rfl, qr_in h⟩)
    refine br_c (fun g0 => hno (Or.inl g0)) (fun g0 => br_c (fun g5 => ?_) (fun g5 => hno (Or.inr ?_)))
    · obtain ⟨w, w1, w2⟩ := nI_of2 (M := 5) (n := 5) (by decide) g0 g5
      have ex : (32 : Int32) * v2 + v1 = nI (32 * w + t) := by
        rw [w2, hx]
        exact qz_lin 32 w t
      have ey : (6 : Int32) * v1 + v2 = nI (6 * t + w) := by
        rw [w2, hx]
        exact qz_lin 6 t w
      rw [ex, nI_clamp (show 32 * w + t < 2 ^ 31 by omega)]
      refine ⟨vp_in_nI (by omega) (by decide), ?_⟩
      unfold wpY_variable
      dsimp only
      refine qr_am rfl (by omega) (fun t' t1' hx' => br_f (by decide) ?_) (fun z => absurd z (qr_nin (by omega) t1 hx))
      refine qr_am (m := 6) rfl (by decide) (fun w' w1' hw => br_f (by decide) ?_) (fun z => absurd z (qr_nin (t := w) (by decide) (by omega) w2))
      rw [ey, nI_clamp (show 6 * t + w < 2 ^ 31 by omega)]
      exact ⟨vp_in_nI (by omega) (by decide), ((h5 t t1).1 w (by omega)).symm, qr_in h⟩
    · rw [Int32.le_iff_toInt_le] at g5 ⊢
      have e5 : (5 : Int32).toInt = 5 := by decide
      have e6 : (nI 6).toInt = 6 := by decide
      omega
  · unfold wpY_variable
    dsimp only
    refine qr_am rfl (by omega) (fun t t1 hx => ?_) (fun _ => br_t rfl ⟨rfl, qr_in h⟩)
    rcases g with g | g
    · have := (h4 g).1
      omega
    · exact absurd g (qr_nin (by omega) t1 hx)
theorem i_vc_done {k : Nat} {u : SX} {v : SY} (I : i_Rel k u v) (hk : k + 3 ≤ 1536) (v1 : Int32) : wpX_done (fun r => wpY_done (fun r' => r' = r ∧ i_Rel (k + 3) u v) v v1) u v1 := by
  refine qr_el (P := fun u v => wpX_done (fun r => wpY_done (fun r' => r' = r ∧ i_Rel (k + 3) u v) v v1) u v1) ?_ I
  intro N n K f_tokens f_length f_fault f_compiled f_open f_waits f_ended f_threads f_arg f_phase f_races f_ran f_over a_kind a_value a_op a_slot a_statement a_number a_openKind a_openOut a_openStart a_isConstant a_constant a_at a_slots a_variables a_steps a_words a_counters a_added a_own a_ownPhase a_storedPhase a_readPhase a_racePhase a_storedBy a_readBy a_readByMore a_doneCount b_tokens b_threads b_argument b_phases b_races b_behind b_over b_kind b_value b_open b_words b_counters b_own b_next b_storers b_readers b_added b_variables b_at b_steps b_finished b_done b_stack h
  obtain ⟨h1, h2, h3, h4, h5, h6, h7, h8⟩ := h
  have h : qr_R N n K f_fault f_compiled f_phase f_races f_ran a_kind a_value a_op a_slot a_statement a_number a_variables a_steps a_added a_doneCount b_variables b_steps b_done := ⟨h1, h2, h3, h4, h5, h6, h7, h8⟩
  have hno : (v1 < 0 ∨ nI 64 ≤ v1) → wpY_done (fun r' => r' = 0 ∧ i_Rel (k + 3) (nI N, f_length, f_fault, f_compiled, f_open, f_waits, f_ended, nI n, f_arg, f_phase, f_races, f_ran, f_over, a_kind, a_value, a_op, a_slot, a_statement, a_number, a_openKind, a_openOut, a_openStart, a_isConstant, a_constant, a_at, a_slots, a_variables, a_steps, a_words, a_counters, a_added, a_own, a_ownPhase, a_storedPhase, a_readPhase, a_racePhase, a_storedBy, a_readBy, a_readByMore, a_doneCount) (nI N, nI n, b_argument, f_phase, f_races, b_behind, b_over, a_kind, a_value, b_open, a_words, a_counters, b_own, b_next, b_storers, b_readers, b_added, b_variables, b_at, b_steps, b_finished, b_done, b_stack)) (nI N, nI n, b_argument, f_phase, f_races, b_behind, b_over, a_kind, a_value, b_open, a_words, a_counters, b_own, b_next, b_storers, b_readers, b_added, b_variables, b_at, b_steps, b_finished, b_done, b_stack) v1 := by
    intro g
    unfold wpY_done
    dsimp only
    exact qr_am (m := 64) rfl (by decide) (fun w w1 hw => absurd g (qr_nin (by decide) w1 hw)) (fun _ => br_t rfl ⟨rfl, qr_in h⟩)
  unfold wpX_done
  dsimp only
  refine br_c (fun g => ?_) (fun g => br_c (fun g0 => hno (Or.inl g0)) (fun g0 => br_c (fun g5 => ?_) (fun g5 => hno (Or.inr ?_))))
  · have hz := (h4 g).2.2.2
    unfold wpY_done
    dsimp only
    refine qr_am (m := 64) rfl (by decide) (fun w w1 hw => br_f (by decide) ?_) (fun _ => br_t rfl ⟨rfl, qr_in h⟩)
    rw [hw, nI_clamp (by omega)]
    exact ⟨vp_in_nI w1 (by decide), hz w w1, qr_in h⟩
  · obtain ⟨w, w1, w2⟩ := nI_of2 (M := 63) (n := 63) (by decide) g0 g5
    rw [w2, nI_clamp (by omega)]
    refine ⟨vp_in_nI (by omega) (by decide), ?_⟩
    unfold wpY_done
    dsimp only
    refine qr_am (m := 64) rfl (by decide) (fun w' w1' hw => br_f (by decide) ?_) (fun z => absurd z (qr_nin (t := w) (by decide) (by omega) rfl))
    rw [nI_clamp (show w < 2 ^ 31 by omega)]
    exact ⟨vp_in_nI (by omega) (by decide), (h6 w (by omega)).symm, qr_in h⟩
  · rw [Int32.le_iff_toInt_le] at g5 ⊢
    have e5 : (63 : Int32).toInt = 63 := by decide
    have e6 : (nI 64).toInt = 64 := by decide
    omega
section
variable {f_tokens f_length f_fault f_compiled f_open f_waits f_ended f_threads f_arg f_phase f_races f_ran f_over : Int32} {a_kind a_value a_op a_slot a_statement a_number a_openKind a_openOut a_openStart a_isConstant a_constant a_at a_slots a_variables a_steps a_words a_counters a_added a_own a_ownPhase a_storedPhase a_readPhase a_racePhase a_storedBy a_readBy a_readByMore a_doneCount : Nat → Int32} {b_tokens b_threads b_argument b_phases b_races b_behind b_over : Int32} {b_kind b_value b_open b_words b_counters b_own b_next b_storers b_readers b_added b_variables b_at b_steps b_finished b_done b_stack : Nat → Int32} {N n : Nat} {K : Nat → Nat}
theorem qr_ran (x1 : Int32) (hn : n ≤ 32) (hs : ∀ t, t < n → a_steps t = b_steps t) (r : Nat) : ∀ {t : Nat} {x2 x3 : Int32}, t + r = n →
    ∃ res : Int32, (∀ (post : Int32 → Prop) (m : Nat), r < m → post res → wX_ran_7 post x1 (nI N) f_length f_fault f_compiled f_open f_waits f_ended (nI n) f_arg f_phase f_races 1 f_over a_kind a_value a_op a_slot a_statement a_number a_openKind a_openOut a_openStart a_isConstant a_constant a_at a_slots a_variables a_steps a_words a_counters a_added a_own a_ownPhase a_storedPhase a_readPhase a_racePhase a_storedBy a_readBy a_readByMore a_doneCount m x2 x3 (nI t)) ∧ (∀ (post : Int32 → Prop) (m : Nat), r < m → post res → wY_ran_7 post x1 (nI N) (nI n) b_argument f_phase f_races b_behind b_over a_kind a_value b_open a_words a_counters b_own b_next b_storers b_readers b_added b_variables b_at b_steps b_finished b_done b_stack m x2 x3 (nI t)) := by
  induction r with
  | zero =>
    intro t x2 x3 ht
    have e : t = n := by omega
    subst e
    have fin : ∃ res : Int32, ∀ post : Int32 → Prop, post res → ((x1 = 0 → (post f_phase)) ∧ (¬ x1 = 0 → (((x1 = 1 → (post x2)) ∧ (¬ x1 = 1 → (((x1 = 2 → (post x3)) ∧ (¬ x1 = 2 → (((x1 = 3 → (post f_races)) ∧ (¬ x1 = 3 → (((x1 = 4 → (post (nI t))) ∧ (¬ x1 = 4 → (post 0))))))))))))))) := by
      by_cases g0 : x1 = 0
      · exact ⟨f_phase, fun post hp => br_t g0 hp⟩
      · by_cases g1 : x1 = 1
        · exact ⟨x2, fun post hp => br_f g0 (br_t g1 hp)⟩
        · by_cases g2 : x1 = 2
          · exact ⟨x3, fun post hp => br_f g0 (br_f g1 (br_t g2 hp))⟩
          · by_cases g3 : x1 = 3
            · exact ⟨f_races, fun post hp => br_f g0 (br_f g1 (br_f g2 (br_t g3 hp)))⟩
            · by_cases g4 : x1 = 4
              · exact ⟨nI t, fun post hp => br_f g0 (br_f g1 (br_f g2 (br_f g3 (br_t g4 hp))))⟩
              · exact ⟨0, fun post hp => br_f g0 (br_f g1 (br_f g2 (br_f g3 (br_f g4 hp))))⟩
    obtain ⟨res, hres⟩ := fin
    refine ⟨res, fun post m hm hp => ?_, fun post m hm hp => ?_⟩
    · obtain ⟨q, rfl⟩ : ∃ q, m = q + 1 := ⟨m - 1, by omega⟩
      unfold wX_ran_7
      refine qr_isT hn (fun t' t1 _ hx => absurd (Or.inr (nI_le (Nat.le_refl t) (by omega))) (qr_nin (by omega) t1 hx)) (fun _ => br_t rfl (br_f (by decide) (hres post hp)))
    · obtain ⟨q, rfl⟩ : ∃ q, m = q + 1 := ⟨m - 1, by omega⟩
      unfold wY_ran_7
      exact br_t (nI_le (Nat.le_refl t) (by omega)) (hres post hp)
  | succ r ih =>
    intro t x2 x3 ht
    have vt : vp_in (nI t) 32 := vp_in_nI (by omega) (by decide)
    have ct : (nI t).toNatClampNeg = t := nI_clamp (by omega)
    have hst := hs t (by omega)
    by_cases hle : a_steps t ≤ x3
    · obtain ⟨res, hX, hY⟩ := ih (t := t + 1) (x2 := x2 + a_steps t) (x3 := x3) (by omega)
      refine ⟨res, fun post m hm hp => ?_, fun post m hm hp => ?_⟩
      · obtain ⟨q, rfl⟩ : ∃ q, m = q + 1 := ⟨m - 1, by omega⟩
        unfold wX_ran_7
        refine qr_isT hn (fun t' t1 _ hx => br_f (by decide) ?_) (fun g => ?_)
        · rw [ct]
          exact ⟨vt, nm_e ⟨vt, br_t hle (nm_r (nI_1 t) (hX post q (by omega) hp))⟩⟩
        · rcases g with g | g
          · exact absurd g (by decide)
          · exact absurd g (qr_nin (by omega) (show t < n by omega) rfl)
      · obtain ⟨q, rfl⟩ : ∃ q, m = q + 1 := ⟨m - 1, by omega⟩
        unfold wY_ran_7
        refine br_f (nI_ge (by omega) (by omega)) ?_
        rw [ct, ← hst]
        exact ⟨vt, nm_e ⟨vt, br_t hle (nm_r (nI_1 t) (hY post q (by omega) hp))⟩⟩
    · obtain ⟨res, hX, hY⟩ := ih (t := t + 1) (x2 := x2 + a_steps t) (x3 := a_steps t) (by omega)
      refine ⟨res, fun post m hm hp => ?_, fun post m hm hp => ?_⟩
      · obtain ⟨q, rfl⟩ : ∃ q, m = q + 1 := ⟨m - 1, by omega⟩
        unfold wX_ran_7
        refine qr_isT hn (fun t' t1 _ hx => br_f (by decide) ?_) (fun g => ?_)
        · rw [ct]
          exact ⟨vt, nm_e ⟨vt, br_f hle ⟨vt, nm_e (nm_r (nI_1 t) (hX post q (by omega) hp))⟩⟩⟩
        · rcases g with g | g
          · exact absurd g (by decide)
          · exact absurd g (qr_nin (by omega) (show t < n by omega) rfl)
      · obtain ⟨q, rfl⟩ : ∃ q, m = q + 1 := ⟨m - 1, by omega⟩
        unfold wY_ran_7
        refine br_f (nI_ge (by omega) (by omega)) ?_
        rw [ct, ← hst]
        exact ⟨vt, nm_e ⟨vt, br_f hle ⟨vt, nm_e (nm_r (nI_1 t) (hY post q (by omega) hp))⟩⟩⟩
end
theorem i_vc_ran {k : Nat} {u : SX} {v : SY} (I : i_Rel k u v) (hk : k + 3 ≤ 1536) (v1 : Int32) : wpX_ran (fun r => wpY_ran (fun r' => r' = r ∧ i_Rel (k + 3) u v) v v1) u v1 := by
  refine qr_el (P := fun u v => wpX_ran (fun r => wpY_ran (fun r' => r' = r ∧ i_Rel (k + 3) u v) v v1) u v1) ?_ I
  intro N n K f_tokens f_length f_fault f_compiled f_open f_waits f_ended f_threads f_arg f_phase f_races f_ran f_over a_kind a_value a_op a_slot a_statement a_number a_openKind a_openOut a_openStart a_isConstant a_constant a_at a_slots a_variables a_steps a_words a_counters a_added a_own a_ownPhase a_storedPhase a_readPhase a_racePhase a_storedBy a_readBy a_readByMore a_doneCount b_tokens b_threads b_argument b_phases b_races b_behind b_over b_kind b_value b_open b_words b_counters b_own b_next b_storers b_readers b_added b_variables b_at b_steps b_finished b_done b_stack h
  obtain ⟨h1, h2, h3, h4, h5, h6, h7, h8⟩ := h
  have h : qr_R N n K f_fault f_compiled f_phase f_races f_ran a_kind a_value a_op a_slot a_statement a_number a_variables a_steps a_added a_doneCount b_variables b_steps b_done := ⟨h1, h2, h3, h4, h5, h6, h7, h8⟩
  unfold wpX_ran
  dsimp only
  rcases h3 with hr | hr
  · obtain ⟨z1, z2, z3, _⟩ := h4 hr
    refine ⟨1, ?_⟩
    unfold wX_ran_7
    refine qr_isT h2 (fun t t1 g _ => absurd hr g) (fun _ => br_t rfl (br_t hr ?_))
    unfold wpY_ran
    dsimp only
    refine ⟨1, ?_⟩
    have hin : i_Rel (k + 3) (nI N, f_length, f_fault, f_compiled, f_open, f_waits, f_ended, nI n, f_arg, f_phase, f_races, f_ran, f_over, a_kind, a_value, a_op, a_slot, a_statement, a_number, a_openKind, a_openOut, a_openStart, a_isConstant, a_constant, a_at, a_slots, a_variables, a_steps, a_words, a_counters, a_added, a_own, a_ownPhase, a_storedPhase, a_readPhase, a_racePhase, a_storedBy, a_readBy, a_readByMore, a_doneCount) (nI N, nI n, b_argument, f_phase, f_races, b_behind, b_over, a_kind, a_value, b_open, a_words, a_counters, b_own, b_next, b_storers, b_readers, b_added, b_variables, b_at, b_steps, b_finished, b_done, b_stack) := qr_in h
    have hp : ∀ y : Int32, y = 0 → y = 0 ∧ i_Rel (k + 3) (nI N, f_length, f_fault, f_compiled, f_open, f_waits, f_ended, nI n, f_arg, f_phase, f_races, f_ran, f_over, a_kind, a_value, a_op, a_slot, a_statement, a_number, a_openKind, a_openOut, a_openStart, a_isConstant, a_constant, a_at, a_slots, a_variables, a_steps, a_words, a_counters, a_added, a_own, a_ownPhase, a_storedPhase, a_readPhase, a_racePhase, a_storedBy, a_readBy, a_readByMore, a_doneCount) (nI N, nI n, b_argument, f_phase, f_races, b_behind, b_over, a_kind, a_value, b_open, a_words, a_counters, b_own, b_next, b_storers, b_readers, b_added, b_variables, b_at, b_steps, b_finished, b_done, b_stack) := fun y hy => ⟨hy, hin⟩
    unfold wY_ran_7
    refine br_t (nI_le (a := n) (b := 0) (by omega) (by decide)) ?_
    exact br_c (fun _ => hp _ z2) (fun _ => br_c (fun _ => hp _ rfl) (fun _ => br_c (fun _ => hp _ rfl) (fun _ => br_c (fun _ => hp _ z3) (fun _ => br_c (fun _ => hp _ (by rw [z1]; rfl)) (fun _ => hp _ rfl)))))
  · subst hr
    obtain ⟨res, hX, hY⟩ := qr_ran (N := N) (f_length := f_length) (f_fault := f_fault) (f_compiled := f_compiled) (f_open := f_open) (f_waits := f_waits) (f_ended := f_ended) (f_arg := f_arg) (f_phase := f_phase) (f_races := f_races) (f_over := f_over) (a_kind := a_kind) (a_value := a_value) (a_op := a_op) (a_slot := a_slot) (a_statement := a_statement) (a_number := a_number) (a_openKind := a_openKind) (a_openOut := a_openOut) (a_openStart := a_openStart) (a_isConstant := a_isConstant) (a_constant := a_constant) (a_at := a_at) (a_slots := a_slots) (a_variables := a_variables) (a_words := a_words) (a_counters := a_counters) (a_added := a_added) (a_own := a_own) (a_ownPhase := a_ownPhase) (a_storedPhase := a_storedPhase) (a_readPhase := a_readPhase) (a_racePhase := a_racePhase) (a_storedBy := a_storedBy) (a_readBy := a_readBy) (a_readByMore := a_readByMore) (a_doneCount := a_doneCount) (b_argument := b_argument) (b_behind := b_behind) (b_over := b_over) (b_open := b_open) (b_own := b_own) (b_next := b_next) (b_storers := b_storers) (b_readers := b_readers) (b_added := b_added) (b_variables := b_variables) (b_at := b_at) (b_finished := b_finished) (b_done := b_done) (b_stack := b_stack) v1 h2 (fun t ht => (h5 t ht).2) n (t := 0) (x2 := 0) (x3 := 0) (by omega)
    refine ⟨n + 1, hX _ _ (by omega) ?_⟩
    unfold wpY_ran
    dsimp only
    exact ⟨n + 1, hY _ _ (by omega) ⟨rfl, qr_in h⟩⟩
end
