section
theorem pk_us {f : Nat → Int32} {k : Nat} {x : Int32} : upd f k x k = x := if_pos rfl
theorem pk_un {f : Nat → Int32} {k j : Nat} {x : Int32} (h : j ≠ k) : upd f k x j = f j := if_neg h
theorem pk_sub {a b : Nat} (h : b ≤ a) : nI a - nI b = nI (a - b) := by
  obtain ⟨c, rfl⟩ : ∃ c, a = c + b := ⟨a - b, by omega⟩
  rw [← nI_add, Int32.add_sub_cancel, Nat.add_sub_cancel]
theorem pk_m1 (n : Nat) : nI (n + 1) + (-1) = nI n := by
  rw [← nI_1, Int32.add_assoc, show (1 : Int32) + (-1) = 0 from rfl, Int32.add_zero]
theorem pk_mul (a b : Nat) : nI a * nI b = nI (a * b) := (Int32.ofNat_mul a b).symm
theorem pk_div {a d : Nat} (ha : a < 2 ^ 31) (h0 : 0 < d) (hd : d < 2 ^ 31) : nI a / nI d = nI (a / d) := by
  apply Int32.toInt_inj.mp
  rw [lg_idiv_nonneg (by rw [nI_toInt ha]; omega) (by rw [nI_toInt hd]; omega), nI_toInt ha, nI_toInt hd, nI_toInt (Nat.lt_of_le_of_lt (Nat.div_le_self a d) ha)]
  first | rfl | exact (Int.natCast_ediv _ _).symm
theorem pk_rem {a d : Nat} (ha : a < 2 ^ 31) (h0 : 0 < d) (hd : d < 2 ^ 31) : nI a - nI a / nI d * nI d = nI (a % d) := by
  rw [pk_div ha h0 hd, pk_mul, pk_sub (Nat.div_mul_le_self a d)]
  exact congrArg nI (by have := Nat.div_add_mod' a d; omega)
theorem pk_ix (x : Int32) {n : Nat} (hn : n < 2 ^ 31) : x < 0 ∨ nI n ≤ x ∨ ∃ j : Nat, j < n ∧ x = nI j := by
  by_cases h : x < 0
  · exact Or.inl h
  · obtain ⟨j, hj, rfl⟩ := nI_of h
    by_cases h2 : j < n
    · exact Or.inr (Or.inr ⟨j, h2, rfl⟩)
    · exact Or.inr (Or.inl (nI_le (by omega) hj))
theorem pk_le {x y : Int32} {A B : Prop} (a b : Nat) (f : a ≤ b → A) (g : b < a → B) (hx : x = nI a := by rfl) (hy : y = nI b := by rfl) (ha : a < 2 ^ 31 := by omega) (hb : b < 2 ^ 31 := by omega) : (x ≤ y → A) ∧ (¬ x ≤ y → B) := by
  subst hx hy
  rw [nI_leI ha hb]
  exact ⟨f, fun z => g (by omega)⟩
theorem pk_lt {x y : Int32} {A B : Prop} (a b : Nat) (f : a < b → A) (g : b ≤ a → B) (hx : x = nI a := by rfl) (hy : y = nI b := by rfl) (ha : a < 2 ^ 31 := by omega) (hb : b < 2 ^ 31 := by omega) : (x < y → A) ∧ (¬ x < y → B) := by
  subst hx hy
  rw [nI_ltI ha hb]
  exact ⟨f, fun z => g (by omega)⟩
theorem pk_eq {x y : Int32} {A B : Prop} (a b : Nat) (f : a = b → A) (g : a ≠ b → B) (hx : x = nI a := by rfl) (hy : y = nI b := by rfl) (ha : a < 2 ^ 31 := by omega) (hb : b < 2 ^ 31 := by omega) : (x = y → A) ∧ (¬ x = y → B) := by
  subst hx hy
  rw [nI_eq ha hb]
  exact ⟨f, g⟩
theorem pk_in {x : Int32} (n N : Nat) (h : n < N) (hx : x = nI n := by rfl) (hN : N < 2 ^ 31 := by omega) : vp_in x N := by
  subst hx
  exact vp_in_nI h hN
theorem pk_cl {x : Int32} (n : Nat) (hx : x = nI n := by rfl) (h : n < 2 ^ 31 := by omega) : x.toNatClampNeg = n := by
  subst hx
  exact nI_clamp h
theorem pk_tn {n : Nat} (h : n < 2 ^ 32) : (nI n).toBitVec.toNat = n := Nat.mod_eq_of_lt h
theorem pk_and (x : Int32) {m : Int32} (k : Nat) (hm : m.toBitVec.toNat = 2 ^ k - 1) : x &&& m = nI (x.toBitVec.toNat % 2 ^ k) := by
  apply Int32.toBitVec_inj.mp
  apply BitVec.eq_of_toNat_eq
  rw [Int32.toBitVec_and, BitVec.toNat_and, hm, Nat.and_two_pow_sub_one_eq_mod]
  show _ = (BitVec.ofNat 32 _).toNat
  rw [BitVec.toNat_ofNat]
  exact (Nat.mod_eq_of_lt (Nat.lt_of_le_of_lt (Nat.mod_le _ _) x.toBitVec.isLt)).symm
theorem pk_andN {n : Nat} (h : n < 2 ^ 32) {m : Int32} (k : Nat) (hm : m.toBitVec.toNat = 2 ^ k - 1) : nI n &&& m = nI (n % 2 ^ k) := by
  rw [pk_and _ k hm, pk_tn h]
theorem pk_charN {q : Nat} (hq : q < 65536) : narrow .char (.int (nI q)) = .int (nI q) ∧ fits .char (.int (nI q)) = true := by
  constructor
  · have e : (nI q).toUInt32.toUInt16.toUInt32.toInt32 = nI q := by
      apply Int32.toBitVec_inj.mp
      apply BitVec.eq_of_toNat_eq
      show (nI q).toUInt32.toUInt16.toUInt32.toNat = q % 2 ^ 32
      rw [UInt16.toNat_toUInt32, UInt32.toNat_toUInt16, show (nI q).toUInt32.toNat = q % 2 ^ 32 from rfl]
      omega
    exact congrArg Value.int e
  · have a : (0 : Int32) ≤ nI q := nI_pos' (by omega)
    have b : nI q ≤ 65535 := nI_le (b := 65535) (by omega) (by decide)
    show (decide ((0 : Int32) ≤ nI q) && decide (nI q ≤ 65535)) = true
    rw [decide_eq_true a, decide_eq_true b]
    rfl
theorem pk_char (x : Int32) : (x.toUInt32 % 65536).toInt32 = nI (x.toBitVec.toNat % 65536) := by
  apply Int32.toBitVec_inj.mp
  apply BitVec.eq_of_toNat_eq
  rw [pk_tn (by omega)]
  show (x.toUInt32 % 65536).toNat = _
  rw [UInt32.toNat_mod]
  rfl
theorem pk_nc (x : Int32) : narrow .char (.int (x.toUInt32 % 65536).toInt32) = .int (x.toUInt32 % 65536).toInt32 := by
  rw [pk_char]
  exact (pk_charN (Nat.mod_lt _ (by decide))).1
theorem pk_vb (z : Int32) : vp_nar .byte z.toInt8.toInt32 = z.toInt8.toInt32 := by rw [vp_nar_byte]; simp
theorem pk_vc (z : Int32) : vp_nar .char (z.toUInt32 % 65536).toInt32 = (z.toUInt32 % 65536).toInt32 := Value.int.inj (pk_nc z)
def bt (x : Int32) (i : Nat) : Bool := x.toBitVec.getLsbD i
theorem b_ext {x y : Int32} (h : ∀ i, i < 32 → bt x i = bt y i) : x = y := Int32.toBitVec_inj.mp (BitVec.eq_of_getLsbD_eq (fun i hi => h i hi))
theorem b_or (x y : Int32) (i : Nat) : bt (x ||| y) i = (bt x i || bt y i) := by unfold bt; rw [Int32.toBitVec_or, BitVec.getLsbD_or]
theorem b_and (x y : Int32) (i : Nat) : bt (x &&& y) i = (bt x i && bt y i) := by unfold bt; rw [Int32.toBitVec_and, BitVec.getLsbD_and]
theorem b_xor (x y : Int32) (i : Nat) : bt (x ^^^ y) i = (bt x i ^^ bt y i) := by unfold bt; rw [Int32.toBitVec_xor, BitVec.getLsbD_xor]
theorem b_big {x : Int32} {i : Nat} (h : 32 ≤ i) : bt x i = false := BitVec.getLsbD_of_ge _ _ h
theorem b_65535 (i : Nat) : bt 65535 i = decide (i < 16) := by
  rcases Nat.lt_or_ge i 32 with h | h
  · exact (by decide +kernel : ∀ i, i < 32 → bt 65535 i = decide (i < 16)) i h
  · rw [b_big h, decide_eq_false (by omega)]
theorem b_m1 : ∀ i, i < 32 → bt (-1) i = true := by decide +kernel
theorem b_0 (i : Nat) : bt 0 i = false := BitVec.getLsbD_zero
theorem s_l : ∀ n, n < 32 → ((nI n &&& 31).toBitVec.smod 32).toNat = n := by decide +kernel
theorem b_shl (n : Nat) (hn : n < 32) (x : Int32) {i : Nat} (hi : i < 32) : bt (x <<< (nI n &&& 31)) i = (decide (n ≤ i) && bt x (i - n)) := by
  unfold bt
  rw [Int32.toBitVec_shiftLeft]
  show (x.toBitVec <<< ((nI n &&& 31).toBitVec.smod 32).toNat).getLsbD i = _
  rw [s_l n hn, BitVec.getLsbD_shiftLeft]
  rcases Nat.lt_or_ge i n with h | h
  · simp [h, Nat.not_le.mpr h]
  · simp [hi, h, Nat.not_lt.mpr h]
theorem b_sshr (n : Nat) (hn : n < 32) (x : Int32) {i : Nat} (hi : i < 32) : bt (x >>> (nI n &&& 31)) i = if n + i < 32 then bt x (n + i) else bt x 31 := by
  unfold bt
  rw [Int32.toBitVec_shiftRight]
  show (x.toBitVec.sshiftRight ((nI n &&& 31).toBitVec.smod 32).toNat).getLsbD i = _
  rw [s_l n hn, BitVec.getLsbD_sshiftRight, BitVec.msb_eq_getLsbD_last]
  simp [hi]
theorem nx_and (a b : Nat) : nI a &&& nI b = nI (a &&& b) := by
  apply Int32.toBitVec_inj.1
  show BitVec.ofNat 32 a &&& BitVec.ofNat 32 b = BitVec.ofNat 32 (a &&& b)
  apply BitVec.eq_of_getLsbD_eq
  intro i hi
  simp [hi]
theorem nx_mod (k : Nat) : nI k &&& 65535 = nI (k % 65536) := by
  show nI k &&& nI 65535 = _
  rw [nx_and, show (65535 : Nat) = 2 ^ 16 - 1 from rfl, Nat.and_two_pow_sub_one_eq_mod]
theorem nx_mask (x : Int32) : ∃ k, k < 65536 ∧ x &&& 65535 = nI k := by
  have e : x = nI x.toBitVec.toNat := by
    apply Int32.toBitVec_inj.1
    show x.toBitVec = BitVec.ofNat 32 x.toBitVec.toNat
    simp
  refine ⟨x.toBitVec.toNat % 65536, Nat.mod_lt _ (by omega), ?_⟩
  rw [← nx_mod, ← e]
end
section
/-! sets of cells, as bits -/
theorem bk_one (n : Nat) (hn : n < 32) (j : Nat) : bt ((1 : Int32) <<< (nI n &&& 31)) j = decide (j = n) := by
  rcases Nat.lt_or_ge j 32 with h | h
  · rw [b_shl n hn 1 h]
    have e : ∀ k, k < 32 → bt 1 k = decide (k = 0) := by decide +kernel
    rw [e (j - n) (by omega)]
    by_cases z : j = n
    · subst z; simp
    · rcases Nat.lt_or_ge j n with w | w
      · rw [decide_eq_false (show ¬ n ≤ j by omega), decide_eq_false z]; rfl
      · rw [decide_eq_false (show ¬ j - n = 0 by omega), decide_eq_false z, Bool.and_false]
  · rw [b_big h, decide_eq_false (by omega)]
theorem bk_set (s : Int32) (n : Nat) (hn : n < 32) (j : Nat) : bt (s ||| ((1 : Int32) <<< (nI n &&& 31))) j = (bt s j || decide (j = n)) := by
  rw [b_or, bk_one n hn]
theorem bk_b1 (j : Nat) : bt 1 j = decide (j = 0) := by
  rcases Nat.lt_or_ge j 32 with h | h
  · exact (by decide +kernel : ∀ j, j < 32 → bt 1 j = decide (j = 0)) j h
  · rw [b_big h, decide_eq_false (by omega)]
theorem bk_bit (s : Int32) (n : Nat) (hn : n < 32) : ((s >>> (nI n &&& 31)) &&& 1) = (if bt s n = true then 1 else 0) := by
  apply b_ext
  intro j hj
  rw [b_and, b_sshr n hn s hj, bk_b1]
  by_cases h : j = 0
  · subst h
    rw [if_pos (by omega), Nat.add_zero]
    cases hb : bt s n
    · simp [b_0]
    · simp [bk_b1]
  · rw [decide_eq_false h, Bool.and_false]
    cases hb : bt s n
    · simp [b_0]
    · simp [bk_b1, h]
theorem bk_t0 (s : Int32) (n : Nat) (hn : n < 32) : ((s >>> (nI n &&& 31)) &&& 1) = 0 ↔ bt s n = false := by
  rw [bk_bit s n hn]
  cases bt s n <;> decide
theorem bk_t1 (s : Int32) (n : Nat) (hn : n < 32) : ((s >>> (nI n &&& 31)) &&& 1) = 1 ↔ bt s n = true := by
  rw [bk_bit s n hn]
  cases bt s n <;> decide
theorem bk_nf {b : Bool} (h : ¬ b = false) : b = true := by cases b; exact absurd rfl h; rfl
theorem bk_nt {b : Bool} (h : ¬ b = true) : b = false := by cases b; rfl; exact absurd rfl h
theorem bk_ft {b : Bool} (h : b = false) : ¬ b = true := by rw [h]; decide
/-- a branch by a bit -/
theorem bk_br {A B : Prop} (s : Int32) (n : Nat) (hn : n < 32) (f : bt s n = false → A) (g : bt s n = true → B) : (((s >>> (nI n &&& 31)) &&& 1) = 0 → A) ∧ (¬ ((s >>> (nI n &&& 31)) &&& 1) = 0 → B) :=
  ⟨fun h => f ((bk_t0 s n hn).mp h), fun h => g (bk_nf (fun z => h ((bk_t0 s n hn).mpr z)))⟩
theorem bk_br1 {A B : Prop} (s : Int32) (n : Nat) (hn : n < 32) (f : bt s n = true → A) (g : bt s n = false → B) : (((s >>> (nI n &&& 31)) &&& 1) = 1 → A) ∧ (¬ ((s >>> (nI n &&& 31)) &&& 1) = 1 → B) :=
  ⟨fun h => f ((bk_t1 s n hn).mp h), fun h => g (bk_nt (fun z => h ((bk_t1 s n hn).mpr z)))⟩
theorem bk_and0 (a b : Int32) : (a &&& b) = 0 ↔ ∀ j, j < 32 → bt a j = true → bt b j = false := by
  constructor
  · intro h j hj ha
    have e := b_and a b j
    rw [h, b_0, ha, Bool.true_and] at e
    exact e.symm
  · intro h
    apply b_ext
    intro j hj
    rw [b_and, b_0]
    cases ha : bt a j
    · rfl
    · rw [h j hj ha]; rfl
theorem bk_not (x : Int32) (j : Nat) (hj : j < 32) : bt (x ^^^ (-1)) j = !bt x j := by
  rw [b_xor, b_m1 j hj]
  cases bt x j <;> rfl
/-- no bit beyond the sixteen -/
def bk_in16 (x : Int32) : Prop := ∀ j, 16 ≤ j → bt x j = false
theorem bk_ext16 {x y : Int32} (hx : bk_in16 x) (hy : bk_in16 y) (h : ∀ j, j < 16 → bt x j = bt y j) : x = y := by
  apply b_ext
  intro j _
  rcases Nat.lt_or_ge j 16 with w | w
  · exact h j w
  · rw [hx j w, hy j w]
theorem bk_in0 : bk_in16 0 := fun j _ => b_0 j
theorem bk_inset {s : Int32} {n : Nat} (hs : bk_in16 s) (hn : n < 16) : bk_in16 (s ||| ((1 : Int32) <<< (nI n &&& 31))) := by
  intro j hj
  rw [bk_set s n (by omega), hs j hj, decide_eq_false (by omega)]
  rfl
theorem bk_inor {s t : Int32} (hs : bk_in16 s) (ht : bk_in16 t) : bk_in16 (s ||| t) := by
  intro j hj
  rw [b_or, hs j hj, ht j hj]
  rfl
/-- the set of the cells below n with p -/
def bk_mk (p : Nat → Bool) : Nat → Int32
  | 0 => 0
  | n + 1 => if p n = true then bk_mk p n ||| ((1 : Int32) <<< (nI n &&& 31)) else bk_mk p n
theorem bk_mkt {p : Nat → Bool} {n : Nat} (h : p n = true) : bk_mk p (n + 1) = bk_mk p n ||| ((1 : Int32) <<< (nI n &&& 31)) := if_pos h
theorem bk_mkf {p : Nat → Bool} {n : Nat} (h : p n = false) : bk_mk p (n + 1) = bk_mk p n := if_neg (bk_ft h)
theorem bk_mkb (p : Nat → Bool) : ∀ n, n ≤ 32 → ∀ j, bt (bk_mk p n) j = (decide (j < n) && p j) := by
  intro n
  induction n with
  | zero => intro _ j; exact b_0 j
  | succ n ih =>
    intro hn j
    cases hp : p n
    · rw [bk_mkf hp, ih (by omega)]
      by_cases z : j = n
      · subst z; rw [hp]; simp
      · have e : decide (j < n) = decide (j < n + 1) := by
          by_cases w : j < n
          · rw [decide_eq_true w, decide_eq_true (by omega)]
          · rw [decide_eq_false w, decide_eq_false (by omega)]
        rw [e]
    · rw [bk_mkt hp, bk_set _ n (by omega), ih (by omega)]
      by_cases z : j = n
      · subst z; rw [hp]; simp
      · have e : decide (j < n) = decide (j < n + 1) := by
          by_cases w : j < n
          · rw [decide_eq_true w, decide_eq_true (by omega)]
          · rw [decide_eq_false w, decide_eq_false (by omega)]
        rw [e, decide_eq_false z, Bool.or_false]
theorem bk_mk16 (p : Nat → Bool) : bk_in16 (bk_mk p 16) := by
  intro j hj
  rw [bk_mkb p 16 (by omega), decide_eq_false (by omega)]
  rfl
theorem bk_mkl (p : Nat → Bool) {j : Nat} (hj : j < 16) : bt (bk_mk p 16) j = p j := by
  rw [bk_mkb p 16 (by omega), decide_eq_true hj, Bool.true_and]
theorem bk_eqmk {x : Int32} (p : Nat → Bool) (hx : bk_in16 x) (h : ∀ j, j < 16 → bt x j = p j) : x = bk_mk p 16 :=
  bk_ext16 hx (bk_mk16 p) (fun j hj => by rw [h j hj, bk_mkl p hj])
/-- the complement within the sixteen -/
theorem bk_cpl (x : Int32) (j : Nat) (hj : j < 16) : bt (65535 &&& (x ^^^ (-1))) j = !bt x j := by
  rw [b_and, b_65535, decide_eq_true hj, bk_not x j (by omega), Bool.true_and]
theorem bk_cpl16 (x : Int32) : bk_in16 (65535 &&& (x ^^^ (-1))) := by
  intro j hj
  rw [b_and, b_65535, decide_eq_false (by omega)]
  rfl
/-- a meets b -/
theorem bk_meet {a b : Int32} (ha : bk_in16 a) : ¬ (a &&& b) = 0 ↔ ∃ j, j < 16 ∧ bt a j = true ∧ bt b j = true := by
  rw [bk_and0]
  constructor
  · intro h
    apply Classical.byContradiction
    intro z
    apply h
    intro j hj w
    rcases Nat.lt_or_ge j 16 with q | q
    · exact bk_nt (fun y => z ⟨j, q, w, y⟩)
    · rw [ha j q] at w
      exact absurd w (by decide)
  · intro ⟨j, hj, h1, h2⟩ h
    rw [h j (by omega) h1] at h2
    exact absurd h2 (by decide)
/-- a within b -/
theorem bk_sub {a b : Int32} (ha : bk_in16 a) : (a &&& (b ^^^ (-1))) = 0 ↔ ∀ j, j < 16 → bt a j = true → bt b j = true := by
  rw [bk_and0]
  constructor
  · intro h j hj w
    have e := h j (by omega) w
    rw [bk_not b j (by omega)] at e
    cases hb : bt b j
    · rw [hb] at e; exact absurd e (by decide)
    · rfl
  · intro h j hj w
    rw [bk_not b j hj]
    rcases Nat.lt_or_ge j 16 with q | q
    · rw [h j q w]; rfl
    · rw [ha j q] at w
      exact absurd w (by decide)
theorem bk_w16 {x : Int32} (h : bk_in16 x) : ∃ k, k < 65536 ∧ x = nI k := by
  obtain ⟨k, hk, e⟩ := nx_mask x
  refine ⟨k, hk, ?_⟩
  rw [← e]
  apply b_ext
  intro j _
  rw [b_and, b_65535]
  rcases Nat.lt_or_ge j 16 with w | w
  · rw [decide_eq_true w, Bool.and_true]
  · rw [h j w]; rfl
theorem bk_char {x : Int32} (h : bk_in16 x) : vp_nar .char x = x := by
  obtain ⟨k, hk, rfl⟩ := bk_w16 h
  exact Value.int.inj (pk_charN hk).1
theorem bk_char2 {x : Int32} (h : bk_in16 x) : vp_nar .char ((x.toUInt32 % 65536).toInt32) = x := by
  obtain ⟨k, hk, rfl⟩ := bk_w16 h
  rw [pk_vc, pk_char, pk_tn (by omega), Nat.mod_eq_of_lt hk]
theorem bk_n16 {i : Nat} (h : i < 16) : ¬ (16 : Int32) ≤ nI i := nI_ge (b := 16) h (by decide)
theorem bk_e16 : (16 : Int32) ≤ nI 16 := nI_le (a := 16) (b := 16) (by omega) (by decide)
theorem bk_i16 {i : Nat} (h : i < 16) : vp_in (nI i) 16 := vp_in_nI h (by omega)
theorem bk_cl {i : Nat} (h : i < 16) : (nI i).toNatClampNeg = i := nI_clamp (by omega)
theorem bk_i8 {i : Nat} (h : i < 8) : vp_in (nI i) 8 := vp_in_nI h (by omega)
theorem bk_nb : ∀ c, c < 16 → vp_nar .byte (nI c).toInt8.toInt32 = nI c := by decide +kernel
/-- an operation, or -1 -/
def bk_Op (o : Int32) : Prop := o = -1 ∨ o = 0 ∨ o = 1 ∨ o = 2 ∨ o = 3
theorem bk_ob {o : Int32} (h : bk_Op o) : vp_nar .byte o = o := by
  rcases h with h | h | h | h | h <;> (subst h; decide +kernel)
theorem bk_ob2 {o : Int32} (h : bk_Op o) : vp_nar .byte o.toInt8.toInt32 = o := by
  rcases h with h | h | h | h | h <;> (subst h; decide +kernel)
theorem bk_cells (x : Int32) : (x < 0 ∨ (¬ x < 0 ∧ 16 ≤ x)) ∨ ∃ c, c < 16 ∧ x = nI c := by
  rcases pk_ix x (n := 16) (by decide) with h | h | h
  · exact Or.inl (Or.inl h)
  · by_cases z : x < 0
    · exact Or.inl (Or.inl z)
    · exact Or.inl (Or.inr ⟨z, h⟩)
  · exact Or.inr h
end
section
/-! counting -/
def bk_cn (p : Nat → Bool) : Nat → Nat
  | 0 => 0
  | n + 1 => if p n = true then bk_cn p n + 1 else bk_cn p n
theorem bk_cnt {p : Nat → Bool} {n : Nat} (h : p n = true) : bk_cn p (n + 1) = bk_cn p n + 1 := if_pos h
theorem bk_cnf {p : Nat → Bool} {n : Nat} (h : p n = false) : bk_cn p (n + 1) = bk_cn p n := if_neg (bk_ft h)
theorem bk_cn_le (p : Nat → Bool) : ∀ n, bk_cn p n ≤ n := by
  intro n
  induction n with
  | zero => exact Nat.le_refl 0
  | succ n ih =>
    cases h : p n
    · rw [bk_cnf h]; omega
    · rw [bk_cnt h]; omega
theorem bk_cn_mono {p q : Nat → Bool} : ∀ n, (∀ j, j < n → p j = true → q j = true) → bk_cn p n ≤ bk_cn q n := by
  intro n
  induction n with
  | zero => intro _; exact Nat.le_refl 0
  | succ n ih =>
    intro h
    have i1 := ih (fun j hj => h j (by omega))
    cases hp : p n
    · rw [bk_cnf hp]
      cases hq : q n
      · rw [bk_cnf hq]; exact i1
      · rw [bk_cnt hq]; omega
    · rw [bk_cnt hp, bk_cnt (h n (by omega) hp)]; omega
theorem bk_cn_lt {p q : Nat → Bool} {i : Nat} (hp : p i = false) (hq : q i = true) : ∀ n, i < n → (∀ j, j < n → p j = true → q j = true) → bk_cn p n < bk_cn q n := by
  intro n
  induction n with
  | zero => intro h; omega
  | succ n ih =>
    intro hi h
    by_cases z : i = n
    · subst z
      rw [bk_cnf hp, bk_cnt hq]
      have := bk_cn_mono (p := p) (q := q) i (fun j hj => h j (by omega))
      omega
    · have i1 := ih (by omega) (fun j hj => h j (by omega))
      cases hp' : p n
      · rw [bk_cnf hp']
        cases hq' : q n
        · rw [bk_cnf hq']; exact i1
        · rw [bk_cnt hq']; omega
      · rw [bk_cnt hp', bk_cnt (h n (by omega) hp')]; omega
theorem bk_cn_full {p : Nat → Bool} : ∀ n, n ≤ bk_cn p n → ∀ j, j < n → p j = true := by
  intro n
  induction n with
  | zero => intro _ j hj; omega
  | succ n ih =>
    intro h j hj
    cases hp : p n
    · rw [bk_cnf hp] at h
      have := bk_cn_le p n
      omega
    · rw [bk_cnt hp] at h
      by_cases z : j = n
      · subst z; exact hp
      · exact ih (by omega) j (by omega)
theorem bk_cn_cg {p q : Nat → Bool} : ∀ n, (∀ j, j < n → p j = q j) → bk_cn p n = bk_cn q n := by
  intro n h
  have a := bk_cn_mono (p := p) (q := q) n (fun j hj z => by rw [← h j hj]; exact z)
  have b := bk_cn_mono (p := q) (q := p) n (fun j hj z => by rw [h j hj]; exact z)
  omega
theorem bk_cn_add {p q : Nat → Bool} {i : Nat} (hp : p i = false) (hq : q i = true) : ∀ n, i < n → (∀ j, j < n → j ≠ i → p j = q j) → bk_cn q n = bk_cn p n + 1 := by
  intro n
  induction n with
  | zero => intro h; omega
  | succ n ih =>
    intro hi h
    by_cases z : i = n
    · subst z
      rw [bk_cnf hp, bk_cnt hq, bk_cn_cg (p := p) (q := q) i (fun j hj => h j (by omega) (by omega))]
    · have i1 := ih (by omega) (fun j hj => h j (by omega))
      have e := h n (by omega) (fun w => z w.symm)
      cases hp' : p n
      · rw [bk_cnf hp', bk_cnf (by rw [← e]; exact hp')]; exact i1
      · rw [bk_cnt hp', bk_cnt (by rw [← e]; exact hp')]; omega
/-! the sound cells: the least set that holds a cell once it holds all that the cell reads -/
def bk_Cl (rd : Nat → Nat → Bool) (S : Nat → Prop) : Prop := ∀ j, j < 16 → (∀ l, l < 16 → rd j l = true → S l) → S j
def bk_Snd (rd : Nat → Nat → Bool) (i : Nat) : Prop := ∀ S : Nat → Prop, bk_Cl rd S → S i
theorem bk_Snd_cl (rd : Nat → Nat → Bool) : bk_Cl rd (bk_Snd rd) := fun j hj h S hS => hS j hj (fun l hl hr => h l hl hr S hS)
theorem bk_Snd_inv {rd : Nat → Nat → Bool} {i : Nat} (h : bk_Snd rd i) : ∀ l, l < 16 → rd i l = true → bk_Snd rd l := by
  have k : bk_Snd rd i ∧ ∀ l, l < 16 → rd i l = true → bk_Snd rd l := by
    refine h (fun j => bk_Snd rd j ∧ ∀ l, l < 16 → rd j l = true → bk_Snd rd l) ?_
    intro j hj hl
    exact ⟨bk_Snd_cl rd j hj (fun l h1 h2 => (hl l h1 h2).1), fun l h1 h2 => (hl l h1 h2).1⟩
  exact k.2
def bk_Cb (rd : Nat → Nat → Bool) (kn : Nat → Bool) : Prop := ∀ j, j < 16 → (∀ l, l < 16 → rd j l = true → kn l = true) → kn j = true
/-- one round: the set is closed, or it has grown -/
theorem bk_rnd {rd : Nat → Nat → Bool} {k0 kn : Nat → Bool} {r : Nat} (h0 : bk_Cb rd k0 ∨ r ≤ bk_cn k0 16) (hm : ∀ j, j < 16 → k0 j = true → kn j = true)
    (hs : ∀ j, j < 16 → kn j = true → bk_Snd rd j) (hc : ∀ j, j < 16 → (∀ l, l < 16 → rd j l = true → k0 l = true) → kn j = true) : bk_Cb rd kn ∨ r + 1 ≤ bk_cn kn 16 := by
  by_cases z : bk_Cb rd k0
  · refine Or.inl fun j hj hl => hm j hj (z j hj fun l h1 h2 => ?_)
    have k : l < 16 → k0 l = true := hs l h1 (hl l h1 h2) (fun i => i < 16 → k0 i = true) (fun i _ hw hi => z i hi (fun l h3 h4 => hw l h3 h4 h3))
    exact k h1
  · have e : ∃ j, j < 16 ∧ (∀ l, l < 16 → rd j l = true → k0 l = true) ∧ k0 j = false := by
      apply Classical.byContradiction
      intro w
      apply z
      intro j hj hl
      exact bk_nf (fun q => w ⟨j, hj, hl, q⟩)
    obtain ⟨j, hj, hl, hk⟩ := e
    have := bk_cn_lt hk (hc j hj hl) 16 hj hm
    rcases h0 with h0 | h0
    · exact absurd h0 z
    · exact Or.inr (by omega)
theorem bk_rend {rd : Nat → Nat → Bool} {kn : Nat → Bool} (h : bk_Cb rd kn ∨ 16 ≤ bk_cn kn 16) (hs : ∀ j, j < 16 → kn j = true → bk_Snd rd j) : ∀ j, j < 16 → (kn j = true ↔ bk_Snd rd j) := by
  have z : bk_Cb rd kn := by
    rcases h with h | h
    · exact h
    · exact fun j hj _ => bk_cn_full 16 h j hj
  intro j hj
  refine ⟨hs j hj, fun w => ?_⟩
  have k : j < 16 → kn j = true := w (fun i => i < 16 → kn i = true) (fun i _ hw hi => z i hi (fun l h3 h4 => hw l h3 h4 h3))
  exact k hj
/-! the cells that depend on a cell -/
def bk_Rch (rd : Nat → Nat → Bool) (c : Nat) (i : Nat) : Prop :=
  ∀ S : Nat → Prop, (∀ i, i < 16 → rd i c = true → S i) → (∀ i j, i < 16 → j < 16 → S j → rd i j = true → S i) → S i
theorem bk_Rch_1 {rd : Nat → Nat → Bool} {c i : Nat} (hi : i < 16) (h : rd i c = true) : bk_Rch rd c i := fun _ h1 _ => h1 i hi h
theorem bk_Rch_s {rd : Nat → Nat → Bool} {c i j : Nat} (hi : i < 16) (hj : j < 16) (h : bk_Rch rd c j) (hr : rd i j = true) : bk_Rch rd c i := fun S h1 h2 => h2 i j hi hj (h S h1 h2) hr
def bk_Rb (rd : Nat → Nat → Bool) (s : Int32) : Prop := ∀ i j, i < 16 → j < 16 → bt s j = true → rd i j = true → bt s i = true
/-- what holds of the set at the head of round r -/
def bk_RI (rd : Nat → Nat → Bool) (c r : Nat) (s : Int32) : Prop :=
  bk_in16 s ∧ (∀ i, i < 16 → rd i c = true → bt s i = true) ∧ (∀ i, i < 16 → bt s i = true → bk_Rch rd c i) ∧ (bk_Rb rd s ∨ r ≤ bk_cn (bt s) 16)
theorem bk_RI_s {rd : Nat → Nat → Bool} {c r : Nat} {s t : Int32} (h : bk_RI rd c r s) (ht : bk_in16 t) (hm : ∀ i, i < 16 → bt s i = true → bt t i = true)
    (hs : ∀ i, i < 16 → bt t i = true → bk_Rch rd c i) (hg : ∀ i j, i < 16 → j < 16 → bt s j = true → rd i j = true → bt t i = true)
    (hl : bk_Rb rd s → ∀ i, i < 16 → bt t i = true → bt s i = true) : bk_RI rd c (r + 1) t := by
  obtain ⟨_, h1, h2, h3⟩ := h
  refine ⟨ht, fun i hi hr => hm i hi (h1 i hi hr), hs, ?_⟩
  by_cases z : bk_Rb rd s
  · refine Or.inl fun i j hi hj hb hr => hm i hi (z i j hi hj (hl z j hj hb) hr)
  · have e : ∃ i j, i < 16 ∧ j < 16 ∧ bt s j = true ∧ rd i j = true ∧ bt s i = false := by
      apply Classical.byContradiction
      intro w
      apply z
      intro i j hi hj hb hr
      exact bk_nf (fun q => w ⟨i, j, hi, hj, hb, hr, q⟩)
    obtain ⟨i, j, hi, hj, hb, hr, hk⟩ := e
    have := bk_cn_lt hk (hg i j hi hj hb hr) 16 hi hm
    rcases h3 with h3 | h3
    · exact absurd h3 z
    · exact Or.inr (by omega)
theorem bk_RI_e {rd : Nat → Nat → Bool} {c : Nat} {s : Int32} (h : bk_RI rd c 16 s) : ∀ i, i < 16 → (bt s i = true ↔ bk_Rch rd c i) := by
  obtain ⟨_, h1, h2, h3⟩ := h
  have z : bk_Rb rd s := by
    rcases h3 with h | h
    · exact h
    · exact fun i j hi _ _ _ => bk_cn_full 16 h i hi
  intro i hi
  refine ⟨h2 i hi, fun w => ?_⟩
  have k : i < 16 → bt s i = true := w (fun i => i < 16 → bt s i = true) (fun i _ hr hi => h1 i hi hr) (fun i j h5 h6 hw hr _ => z i j h5 h6 (hw h6) hr)
  exact k hi
end
section
/-! what an operation makes of the values that it reads -/
def bk_sum (p : Nat → Bool) (v : Nat → Int32) : Nat → Int32
  | 0 => 0
  | n + 1 => if p n = true then bk_sum p v n + v n else bk_sum p v n
theorem bk_sumt {p : Nat → Bool} {v : Nat → Int32} {n : Nat} (h : p n = true) : bk_sum p v (n + 1) = bk_sum p v n + v n := if_pos h
theorem bk_sumf {p : Nat → Bool} {v : Nat → Int32} {n : Nat} (h : p n = false) : bk_sum p v (n + 1) = bk_sum p v n := if_neg (bk_ft h)
theorem bk_sum_cg {p : Nat → Bool} {v w : Nat → Int32} : ∀ n, (∀ j, j < n → p j = true → v j = w j) → bk_sum p v n = bk_sum p w n := by
  intro n
  induction n with
  | zero => intro _; rfl
  | succ n ih =>
    intro h
    cases hp : p n
    · rw [bk_sumf hp, bk_sumf hp, ih (fun j hj => h j (by omega))]
    · rw [bk_sumt hp, bk_sumt hp, ih (fun j hj => h j (by omega)), h n (by omega) hp]
/-- start -/
def bk_st (o v : Int32) : Int32 := if o = 3 then (if v ≤ 0 then 0 else 1) else v
theorem bk_st0 (v : Int32) : bk_st 0 v = v := if_neg (by decide)
theorem bk_st3 (v : Int32) : bk_st 3 v = (if v ≤ 0 then 0 else 1) := if_pos rfl
/-- merge -/
def bk_mg (o r v : Int32) : Int32 := if o = 0 then r + v else if o = 3 then (if v ≤ 0 then r else r + 1) else if o = 1 then (if v ≤ r then r else v) else (if r ≤ v then r else v)
theorem bk_mgs {o r v : Int32} (h : o = 0 ∨ o = 3) : bk_mg o r v = r + bk_st o v := by
  rcases h with h | h
  · subst h; rw [bk_st0]; exact if_pos rfl
  · subst h
    rw [bk_st3]
    unfold bk_mg
    rw [if_neg (by decide), if_pos rfl]
    by_cases z : v ≤ 0
    · rw [if_pos z, if_pos z, Int32.add_zero]
    · rw [if_neg z, if_neg z]
/-- the order of an operation -/
def bk_le (o a b : Int32) : Prop := (o = 1 ∧ a ≤ b) ∨ (¬ o = 1 ∧ b ≤ a)
theorem bk_le_r (o a : Int32) : bk_le o a a := by
  by_cases h : o = 1
  · exact Or.inl ⟨h, Int32.le_refl a⟩
  · exact Or.inr ⟨h, Int32.le_refl a⟩
theorem bk_le_t {o a b c : Int32} (h : bk_le o a b) (k : bk_le o b c) : bk_le o a c := by
  rcases h with ⟨h, x⟩ | ⟨h, x⟩ <;> rcases k with ⟨k, y⟩ | ⟨k, y⟩
  · exact Or.inl ⟨h, Int32.le_trans x y⟩
  · exact absurd h k
  · exact absurd k h
  · exact Or.inr ⟨h, Int32.le_trans y x⟩
theorem bk_le_a {o a b : Int32} (h : bk_le o a b) (k : bk_le o b a) : a = b := by
  rcases h with ⟨h, x⟩ | ⟨h, x⟩ <;> rcases k with ⟨k, y⟩ | ⟨k, y⟩
  · exact Int32.le_antisymm x y
  · exact absurd h k
  · exact absurd k h
  · exact Int32.le_antisymm y x
theorem bk_le_n {a b : Int32} (h : ¬ a ≤ b) : b ≤ a := by
  rw [Int32.le_iff_toInt_le] at h ⊢
  omega
theorem bk_mgx {o : Int32} (h : o = 1 ∨ o = 2) (r v : Int32) : (bk_le o v r ∧ bk_mg o r v = r) ∨ (bk_le o r v ∧ bk_mg o r v = v) := by
  have h0 : ¬ o = 0 := by rcases h with h | h <;> (subst h; decide)
  have h3 : ¬ o = 3 := by rcases h with h | h <;> (subst h; decide)
  unfold bk_mg
  rw [if_neg h0, if_neg h3]
  by_cases h1 : o = 1
  · rw [if_pos h1]
    by_cases z : v ≤ r
    · rw [if_pos z]; exact Or.inl ⟨Or.inl ⟨h1, z⟩, rfl⟩
    · rw [if_neg z]; exact Or.inr ⟨Or.inl ⟨h1, bk_le_n z⟩, rfl⟩
  · rw [if_neg h1]
    by_cases z : r ≤ v
    · rw [if_pos z]; exact Or.inl ⟨Or.inr ⟨h1, z⟩, rfl⟩
    · rw [if_neg z]; exact Or.inr ⟨Or.inr ⟨h1, bk_le_n z⟩, rfl⟩
/-- m is one of the values, and none of the first n goes beyond it -/
def bk_Bx (o : Int32) (p : Nat → Bool) (v : Nat → Int32) (n : Nat) (m : Int32) : Prop := (∃ j, j < 16 ∧ p j = true ∧ v j = m) ∧ ∀ j, j < n → p j = true → bk_le o (v j) m
theorem bk_Bx_u {o : Int32} {p : Nat → Bool} {v : Nat → Int32} {m m' : Int32} (h : bk_Bx o p v 16 m) (k : bk_Bx o p v 16 m') : m = m' := by
  obtain ⟨⟨j, hj, pj, ej⟩, h⟩ := h
  obtain ⟨⟨i, hi, pi, ei⟩, k⟩ := k
  have a := k j hj pj
  have b := h i hi pi
  rw [ej] at a
  rw [ei] at b
  exact bk_le_a a b
theorem bk_Bx_cg {o : Int32} {p : Nat → Bool} {v w : Nat → Int32} {m : Int32} (e : ∀ j, j < 16 → p j = true → v j = w j) (h : bk_Bx o p v 16 m) : bk_Bx o p w 16 m := by
  obtain ⟨⟨j, hj, pj, ej⟩, h⟩ := h
  refine ⟨⟨j, hj, pj, by rw [← e j hj pj]; exact ej⟩, fun i hi pi => ?_⟩
  rw [← e i hi pi]
  exact h i hi pi
theorem bk_Bx_f {o : Int32} {p : Nat → Bool} {v : Nat → Int32} {n : Nat} {m : Int32} (hp : p n = false) (h : bk_Bx o p v n m) : bk_Bx o p v (n + 1) m := by
  refine ⟨h.1, fun j hj pj => ?_⟩
  by_cases z : j = n
  · subst z; rw [hp] at pj; exact absurd pj (by decide)
  · exact h.2 j (by omega) pj
theorem bk_Bx_t {o : Int32} (ho : o = 1 ∨ o = 2) {p : Nat → Bool} {v : Nat → Int32} {n : Nat} (hn : n < 16) {m : Int32} (hp : p n = true) (h : bk_Bx o p v n m) : bk_Bx o p v (n + 1) (bk_mg o m (v n)) := by
  rcases bk_mgx ho m (v n) with ⟨a, e⟩ | ⟨a, e⟩ <;> rw [e]
  · refine ⟨h.1, fun j hj pj => ?_⟩
    by_cases z : j = n
    · subst z; exact a
    · exact h.2 j (by omega) pj
  · refine ⟨⟨n, hn, hp, rfl⟩, fun j hj pj => ?_⟩
    by_cases z : j = n
    · subst z; exact bk_le_r _ _
    · exact bk_le_t (h.2 j (by omega) pj) a
/-- x is what a cell with operation o, offset n, reading p, holds over the values v -/
def bk_Ev (o : Int32) (p : Nat → Bool) (n : Int32) (v : Nat → Int32) (x : Int32) : Prop :=
  (o = -1 ∧ x = n) ∨ ((o = 0 ∨ o = 3) ∧ x = n + bk_sum p (fun j => bk_st o (v j)) 16) ∨ ((o = 1 ∨ o = 2) ∧ ∃ m, x = n + m ∧ bk_Bx o p v 16 m)
theorem bk_Ev_cg {o : Int32} {p : Nat → Bool} {n : Int32} {v w : Nat → Int32} {x : Int32} (e : ∀ j, j < 16 → p j = true → v j = w j) (h : bk_Ev o p n v x) : bk_Ev o p n w x := by
  rcases h with h | ⟨h, hx⟩ | ⟨h, m, hx, hm⟩
  · exact Or.inl h
  · refine Or.inr (Or.inl ⟨h, ?_⟩)
    rw [hx, bk_sum_cg (v := fun j => bk_st o (v j)) (w := fun j => bk_st o (w j)) 16 (fun j hj pj => by show bk_st o (v j) = bk_st o (w j); rw [e j hj pj])]
  · exact Or.inr (Or.inr ⟨h, m, hx, bk_Bx_cg e hm⟩)
theorem bk_Ev_u {o : Int32} {p : Nat → Bool} {n : Int32} {v : Nat → Int32} {x y : Int32} (h : bk_Ev o p n v x) (k : bk_Ev o p n v y) : x = y := by
  rcases h with ⟨h, hx⟩ | ⟨h, hx⟩ | ⟨h, m, hx, hm⟩ <;> rcases k with ⟨k, ky⟩ | ⟨k, ky⟩ | ⟨k, m', ky, km⟩
  · rw [hx, ky]
  · subst h; exact absurd k (by decide)
  · subst h; exact absurd k (by decide)
  · subst k; exact absurd h (by decide)
  · rw [hx, ky]
  · rcases h with h | h <;> (subst h; exact absurd k (by decide))
  · subst k; exact absurd h (by decide)
  · rcases h with h | h <;> (subst h; exact absurd k (by decide))
  · rw [hx, ky, bk_Bx_u hm km]
/-- the sheet worked out: kn are the sound cells, v the values -/
def bk_Sol (op : Nat → Int32) (rd : Nat → Nat → Bool) (num : Nat → Int32) (kn : Nat → Bool) (v : Nat → Int32) : Prop :=
  (∀ i, i < 16 → (kn i = true ↔ bk_Snd rd i)) ∧ (∀ i, i < 16 → kn i = true → bk_Ev (op i) (rd i) (num i) v (v i)) ∧ (∀ i, i < 16 → kn i = false → v i = 0)
theorem bk_Sol_k {op : Nat → Int32} {rd : Nat → Nat → Bool} {num : Nat → Int32} {kn kn' : Nat → Bool} {v v' : Nat → Int32} (h : bk_Sol op rd num kn v) (h' : bk_Sol op rd num kn' v') {i : Nat} (hi : i < 16) : kn i = kn' i := by
  have a := h.1 i hi
  have b := h'.1 i hi
  cases x : kn i <;> cases y : kn' i
  · rfl
  · exact absurd (a.mpr (b.mp y)) (bk_ft x)
  · exact absurd (b.mpr (a.mp x)) (bk_ft y)
  · rfl
theorem bk_Sol_v {op : Nat → Int32} {rd : Nat → Nat → Bool} {num : Nat → Int32} {kn kn' : Nat → Bool} {v v' : Nat → Int32} (h : bk_Sol op rd num kn v) (h' : bk_Sol op rd num kn' v') {i : Nat} (hi : i < 16) : v i = v' i := by
  have e := bk_Sol_k h h' hi
  cases x : kn i
  · rw [h.2.2 i hi x, h'.2.2 i hi (by rw [← e]; exact x)]
  · have s : bk_Snd rd i := (h.1 i hi).mp x
    have k : bk_Snd rd i ∧ (i < 16 → v i = v' i) := by
      refine s (fun j => bk_Snd rd j ∧ (j < 16 → v j = v' j)) ?_
      intro j hj hl
      have sj : bk_Snd rd j := bk_Snd_cl rd j hj (fun l h1 h2 => (hl l h1 h2).1)
      refine ⟨sj, fun _ => ?_⟩
      have a := h.2.1 j hj ((h.1 j hj).mpr sj)
      have b := h'.2.1 j hj ((h'.1 j hj).mpr sj)
      exact bk_Ev_u (bk_Ev_cg (fun l h1 h2 => (hl l h1 h2).2 h1) a) b
    exact k.2 hi
/-! X's scan, difference, extreme, as functions -/
def bk_scan (o : Int32) (p : Nat → Bool) (v : Nat → Int32) : Nat → Int32 × Int32
  | 0 => (0, 1)
  | n + 1 => if p n = true then (if (bk_scan o p v n).2 = 0 then bk_mg o (bk_scan o p v n).1 (v n) else bk_st o (v n), 0) else bk_scan o p v n
def bk_Ac (o : Int32) (p : Nat → Bool) (v : Nat → Int32) (n : Nat) (r : Int32) : Prop :=
  ((o = 0 ∨ o = 3) → r = bk_sum p (fun j => bk_st o (v j)) n) ∧ ((o = 1 ∨ o = 2) → bk_Bx o p v n r)
theorem bk_Ac_f {o : Int32} {p : Nat → Bool} {v : Nat → Int32} {n : Nat} {r : Int32} (hp : p n = false) (h : bk_Ac o p v n r) : bk_Ac o p v (n + 1) r :=
  ⟨fun z => by rw [bk_sumf hp]; exact h.1 z, fun z => bk_Bx_f hp (h.2 z)⟩
theorem bk_Ac_t {o : Int32} {p : Nat → Bool} {v : Nat → Int32} {n : Nat} {r : Int32} (hn : n < 16) (hp : p n = true) (h : bk_Ac o p v n r) : bk_Ac o p v (n + 1) (bk_mg o r (v n)) :=
  ⟨fun z => by rw [bk_sumt hp, bk_mgs z, h.1 z], fun z => bk_Bx_t z hn hp (h.2 z)⟩
theorem bk_sum_e {p : Nat → Bool} {v : Nat → Int32} : ∀ n, (∀ j, j < n → p j = false) → bk_sum p v n = 0 := by
  intro n
  induction n with
  | zero => intro _; rfl
  | succ n ih => intro h; rw [bk_sumf (h n (by omega)), ih (fun j hj => h j (by omega))]
theorem bk_Ac_s {o : Int32} {p : Nat → Bool} {v : Nat → Int32} {n : Nat} (hn : n < 16) (hp : p n = true) (h : ∀ j, j < n → p j = false) : bk_Ac o p v (n + 1) (bk_st o (v n)) := by
  refine ⟨fun _ => ?_, fun z => ?_⟩
  · rw [bk_sumt hp, bk_sum_e n h, Int32.zero_add]
  · have e : bk_st o (v n) = v n := if_neg (by rcases z with z | z <;> (subst z; decide))
    rw [e]
    refine ⟨⟨n, hn, hp, rfl⟩, fun j hj pj => ?_⟩
    by_cases w : j = n
    · subst w; exact bk_le_r _ _
    · rw [h j (by omega)] at pj
      exact absurd pj (by decide)
theorem bk_scan_i (o : Int32) (p : Nat → Bool) (v : Nat → Int32) : ∀ n, n ≤ 16 → ((bk_scan o p v n = (0, 1) ∧ ∀ j, j < n → p j = false) ∨ ((bk_scan o p v n).2 = 0 ∧ bk_Ac o p v n (bk_scan o p v n).1)) := by
  intro n
  induction n with
  | zero => intro _; exact Or.inl ⟨rfl, fun j hj => by omega⟩
  | succ n ih =>
    intro hn
    have ih := ih (by omega)
    cases hp : p n
    · have e : bk_scan o p v (n + 1) = bk_scan o p v n := if_neg (bk_ft hp)
      rw [e]
      rcases ih with ⟨a, b⟩ | ⟨a, b⟩
      · refine Or.inl ⟨a, fun j hj => ?_⟩
        by_cases w : j = n
        · subst w; exact hp
        · exact b j (by omega)
      · exact Or.inr ⟨a, bk_Ac_f hp b⟩
    · have e : bk_scan o p v (n + 1) = (if (bk_scan o p v n).2 = 0 then bk_mg o (bk_scan o p v n).1 (v n) else bk_st o (v n), 0) := if_pos hp
      rw [e]
      refine Or.inr ⟨rfl, ?_⟩
      rcases ih with ⟨a, b⟩ | ⟨a, b⟩
      · rw [a]
        show bk_Ac o p v (n + 1) (if (1 : Int32) = 0 then bk_mg o 0 (v n) else bk_st o (v n))
        rw [if_neg (by decide)]
        exact bk_Ac_s (by omega) hp b
      · show bk_Ac o p v (n + 1) (if (bk_scan o p v n).2 = 0 then _ else bk_st o (v n))
        rw [if_pos a]
        exact bk_Ac_t (by omega) hp b
/-- o is an operation that reads -/
def bk_O4 (o : Int32) : Prop := o = 0 ∨ o = 1 ∨ o = 2 ∨ o = 3
theorem bk_Ac_Ev {o : Int32} {p : Nat → Bool} {n : Int32} {v : Nat → Int32} {r : Int32} (ho : bk_O4 o) (h : bk_Ac o p v 16 r) : bk_Ev o p n v (r + n) := by
  rw [Int32.add_comm]
  rcases ho with z | z | z | z
  · exact Or.inr (Or.inl ⟨Or.inl z, by rw [h.1 (Or.inl z)]⟩)
  · exact Or.inr (Or.inr ⟨Or.inl z, r, rfl, h.2 (Or.inl z)⟩)
  · exact Or.inr (Or.inr ⟨Or.inr z, r, rfl, h.2 (Or.inr z)⟩)
  · exact Or.inr (Or.inl ⟨Or.inr z, by rw [h.1 (Or.inr z)]⟩)
theorem bk_scan_Ac {o : Int32} {p : Nat → Bool} {v : Nat → Int32} (hp : ∃ j, j < 16 ∧ p j = true) : bk_Ac o p v 16 (bk_scan o p v 16).1 := by
  obtain ⟨j, hj, pj⟩ := hp
  rcases bk_scan_i o p v 16 (by omega) with ⟨_, b⟩ | ⟨_, b⟩
  · rw [b j hj] at pj; exact absurd pj (by decide)
  · exact b
def bk_dif (o : Int32) (p : Nat → Bool) (v w : Nat → Int32) : Nat → Int32
  | 0 => 0
  | n + 1 => if p n = true ∧ ¬ v n = w n then bk_dif o p v w n + (bk_st o (v n) - bk_st o (w n)) else bk_dif o p v w n
theorem bk_ring (a b c d : Int32) : a + b + (c + (d - b)) = a + c + d := by grind
theorem bk_ring2 (a b c : Int32) : a + b + c = a + (b + c) := Int32.add_assoc a b c
theorem bk_dif_s (o : Int32) (p : Nat → Bool) (v w : Nat → Int32) : ∀ n, bk_sum p (fun j => bk_st o (w j)) n + bk_dif o p v w n = bk_sum p (fun j => bk_st o (v j)) n := by
  intro n
  induction n with
  | zero => exact Int32.add_zero 0
  | succ n ih =>
    cases hp : p n
    · rw [bk_sumf hp, bk_sumf hp, show bk_dif o p v w (n + 1) = bk_dif o p v w n from if_neg (fun z => bk_ft hp z.1)]
      exact ih
    · rw [bk_sumt hp, bk_sumt hp]
      by_cases z : v n = w n
      · rw [show bk_dif o p v w (n + 1) = bk_dif o p v w n from if_neg (fun y => y.2 z), z, ← ih]
        show _ + bk_st o (w n) + _ = _ + _ + bk_st o (w n)
        rw [Int32.add_assoc, Int32.add_assoc, Int32.add_comm (bk_st o (w n))]
      · rw [show bk_dif o p v w (n + 1) = bk_dif o p v w n + (bk_st o (v n) - bk_st o (w n)) from if_pos ⟨hp, z⟩]
        show _ + bk_st o (w n) + _ = _ + bk_st o (v n)
        rw [bk_ring, ih]
theorem bk_dif_Ev {o : Int32} {p : Nat → Bool} {n : Int32} {v w : Nat → Int32} {x : Int32} (ho : o = 0 ∨ o = 3) (h : bk_Ev o p n w x) : bk_Ev o p n v (x + bk_dif o p v w 16) := by
  refine Or.inr (Or.inl ⟨ho, ?_⟩)
  have e : x = n + bk_sum p (fun j => bk_st o (w j)) 16 := by
    rcases h with ⟨h, _⟩ | ⟨_, hx⟩ | ⟨h, _⟩
    · subst h; exact absurd ho (by decide)
    · exact hx
    · rcases h with h | h <;> (subst h; exact absurd ho (by decide))
  rw [e, bk_ring2, bk_dif_s]
def bk_ext (o old : Int32) (p : Nat → Bool) (v w : Nat → Int32) : Nat → Int32 × Int32
  | 0 => (old, 0)
  | n + 1 => if p n = true ∧ ¬ v n = w n then (bk_mg o (bk_ext o old p v w n).1 (v n), (bk_ext o old p v w n).2 ||| (if w n = old then 1 else 0)) else bk_ext o old p v w n
def bk_XI (o old : Int32) (p : Nat → Bool) (v w : Nat → Int32) (n : Nat) (b l : Int32) : Prop :=
  bk_le o old b ∧ (b = old ∨ ∃ j, j < 16 ∧ p j = true ∧ v j = b) ∧ (∀ j, j < n → p j = true → ¬ v j = w j → bk_le o (v j) b) ∧ (l = 0 ∨ l = 1) ∧ (l = 0 → ∀ j, j < n → p j = true → ¬ v j = w j → ¬ w j = old)
theorem bk_XI_f {o old : Int32} {p : Nat → Bool} {v w : Nat → Int32} {n : Nat} {b l : Int32} (hf : ¬ (p n = true ∧ ¬ v n = w n)) (h : bk_XI o old p v w n b l) : bk_XI o old p v w (n + 1) b l := by
  obtain ⟨h1, h2, h3, h4, h5⟩ := h
  refine ⟨h1, h2, fun j hj pj vj => ?_, h4, fun z j hj pj vj => ?_⟩
  · by_cases y : j = n
    · subst y; exact absurd ⟨pj, vj⟩ hf
    · exact h3 j (by omega) pj vj
  · by_cases y : j = n
    · subst y; exact absurd ⟨pj, vj⟩ hf
    · exact h5 z j (by omega) pj vj
theorem bk_XI_t {o old : Int32} (ho : o = 1 ∨ o = 2) {p : Nat → Bool} {v w : Nat → Int32} {n : Nat} (hn : n < 16) {b l : Int32} (hp : p n = true) (h : bk_XI o old p v w n b l) :
    bk_XI o old p v w (n + 1) (bk_mg o b (v n)) (l ||| (if w n = old then 1 else 0)) := by
  obtain ⟨h1, h2, h3, h4, h5⟩ := h
  have hl : (l ||| (if w n = old then (1 : Int32) else 0) = 0 ∨ l ||| (if w n = old then (1 : Int32) else 0) = 1) := by
    rcases h4 with h4 | h4 <;> subst h4 <;> by_cases y : w n = old
    · rw [if_pos y]; decide
    · rw [if_neg y]; decide
    · rw [if_pos y]; decide
    · rw [if_neg y]; decide
  have hz : l ||| (if w n = old then (1 : Int32) else 0) = 0 → l = 0 ∧ ¬ w n = old := by
    intro z
    rcases h4 with h4 | h4 <;> subst h4 <;> by_cases y : w n = old
    · rw [if_pos y] at z; exact absurd z (by decide)
    · exact ⟨rfl, y⟩
    · rw [if_pos y] at z; exact absurd z (by decide)
    · rw [if_neg y] at z; exact absurd z (by decide)
  have h6 : l ||| (if w n = old then (1 : Int32) else 0) = 0 → ∀ j, j < n + 1 → p j = true → ¬ v j = w j → ¬ w j = old := by
    intro z j hj pj vj
    by_cases y : j = n
    · subst y; exact (hz z).2
    · exact h5 (hz z).1 j (by omega) pj vj
  rcases bk_mgx ho b (v n) with ⟨a, e⟩ | ⟨a, e⟩ <;> rw [e]
  · refine ⟨h1, h2, fun j hj pj vj => ?_, hl, h6⟩
    by_cases y : j = n
    · subst y; exact a
    · exact h3 j (by omega) pj vj
  · refine ⟨bk_le_t h1 a, Or.inr ⟨n, hn, hp, rfl⟩, fun j hj pj vj => ?_, hl, h6⟩
    by_cases y : j = n
    · subst y; exact bk_le_r _ _
    · exact bk_le_t (h3 j (by omega) pj vj) a
theorem bk_ext_i {o old : Int32} (ho : o = 1 ∨ o = 2) (p : Nat → Bool) (v w : Nat → Int32) : ∀ n, n ≤ 16 → bk_XI o old p v w n (bk_ext o old p v w n).1 (bk_ext o old p v w n).2 := by
  intro n
  induction n with
  | zero => intro _; exact ⟨bk_le_r _ _, Or.inl rfl, fun j hj => by omega, Or.inl rfl, fun _ j hj => by omega⟩
  | succ n ih =>
    intro hn
    have ih := ih (by omega)
    by_cases z : p n = true ∧ ¬ v n = w n
    · rw [show bk_ext o old p v w (n + 1) = (bk_mg o (bk_ext o old p v w n).1 (v n), (bk_ext o old p v w n).2 ||| (if w n = old then 1 else 0)) from if_pos z]
      exact bk_XI_t ho (by omega) z.1 ih
    · rw [show bk_ext o old p v w (n + 1) = bk_ext o old p v w n from if_neg z]
      exact bk_XI_f z ih
theorem bk_ext_Bx {o old : Int32} {p : Nat → Bool} {v w : Nat → Int32} {b l : Int32} (h : bk_XI o old p v w 16 b l) (k : bk_Bx o p w 16 old) (hb : ¬ b = old ∨ l = 0) : bk_Bx o p v 16 b := by
  obtain ⟨h1, h2, h3, h4, h5⟩ := h
  obtain ⟨⟨i, hi, pi, ei⟩, k⟩ := k
  have all : ∀ j, j < 16 → p j = true → bk_le o (v j) b := by
    intro j hj pj
    by_cases y : v j = w j
    · rw [y]; exact bk_le_t (k j hj pj) h1
    · exact h3 j hj pj y
  refine ⟨?_, all⟩
  by_cases z : b = old
  · have l0 : l = 0 := by
      rcases hb with hb | hb
      · exact absurd z hb
      · exact hb
    by_cases y : v i = w i
    · exact ⟨i, hi, pi, by rw [y, ei, z]⟩
    · exact absurd ei (h5 l0 i hi pi y)
  · rcases h2 with h2 | h2
    · exact absurd h2 z
    · exact h2
end
section
/-! X's walks: small ones -/
variable {f_brokenSet f_touchedSet f_oldBroken f_ordered f_pastEnd f_pastCount : Int32} {a_operation a_reads a_number a_values a_oldValues a_order a_pastCell a_pastOperation a_pastReads a_pastNumber : Nat → Int32}
theorem bk_xC0 {post : Int32 → Prop} {x : Int32} (h : x < 0 ∨ (¬ x < 0 ∧ 16 ≤ x)) (hp : post 0) : wpX_isCell post x := by
  rcases h with h | ⟨h, k⟩
  · exact br_t h hp
  · exact br_f h (br_t k hp)
theorem bk_xC1 {post : Int32 → Prop} {c : Nat} (hc : c < 16) (hp : post 1) : wpX_isCell post (nI c) := br_f (nI_pos (by omega)) (br_f (bk_n16 hc) hp)
/-! the rectangle -/
def bk_inR (a b i : Nat) : Bool := decide (min (a / 4) (b / 4) ≤ i / 4 ∧ i / 4 ≤ max (a / 4) (b / 4) ∧ min (a % 4) (b % 4) ≤ i % 4 ∧ i % 4 ≤ max (a % 4) (b % 4))
def bk_rect (a b : Nat) : Int32 := bk_mk (bk_inR a b) 16
theorem bk_div4 {a : Nat} (h : a < 16) : nI a / 4 = nI (a / 4) := pk_div (d := 4) (by omega) (by omega) (by omega)
theorem bk_rem4 {a : Nat} (h : a < 16) : nI a - nI a / 4 * 4 = nI (a % 4) := pk_rem (d := 4) (by omega) (by omega) (by omega)
theorem bk_4rc (r c : Nat) : (4 : Int32) * nI r + nI c = nI (4 * r + c) := by
  show nI 4 * nI r + nI c = _
  rw [pk_mul, nI_add]
theorem bk_xr94 {post : Int32 → Prop} {J84 : Int32 → Int32 → Prop} {x3 x4 : Int32} {R r : Nat} (hR : R < 4) (hr : r < 4) : ∀ (d c : Nat) (x6 : Int32), c + d = R + 1 →
    (∀ y, (∀ j, bt y j = (bt x6 j || decide (j / 4 = r ∧ c ≤ j % 4 ∧ j % 4 ≤ R))) → J84 y (nI (r + 1))) → wX_rectangle_94 post J84 x3 x4 (nI R) (nI r) (d + 1) x6 (nI c) := by
  intro d
  induction d with
  | zero =>
    intro c x6 h k
    refine br_t (nI_lt (by omega) (by omega)) (nm_r (nI_1 r) (k x6 fun j => ?_))
    rw [decide_eq_false (by omega), Bool.or_false]
  | succ d ih =>
    intro c x6 h k
    refine br_f (nI_nlt (by omega) (by omega)) (nm_e (nm_r (nI_1 c) (ih (c + 1) _ (by omega) fun y hy => k y fun j => ?_)))
    rw [hy j, bk_4rc, bk_set _ _ (by omega), Bool.or_assoc, ← Bool.decide_or]
    congr 1
    exact decide_eq_decide.mpr (by omega)
theorem bk_xr84 {post : Int32 → Prop} {L R bot : Nat} (hL : L ≤ R) (hR : R < 4) (hb : bot < 4) : ∀ (d r : Nat) (x6 : Int32), r + d = bot + 1 →
    (∀ y, (∀ j, bt y j = (bt x6 j || decide (r ≤ j / 4 ∧ j / 4 ≤ bot ∧ L ≤ j % 4 ∧ j % 4 ≤ R))) → post y) → wX_rectangle_84 post (nI bot) (nI L) (nI R) (d + 1) x6 (nI r) := by
  intro d
  induction d with
  | zero =>
    intro r x6 h k
    refine br_t (nI_lt (by omega) (by omega)) (k x6 fun j => ?_)
    rw [decide_eq_false (by omega), Bool.or_false]
  | succ d ih =>
    intro r x6 h k
    refine br_f (nI_nlt (by omega) (by omega)) ⟨R + 1 - L + 1, bk_xr94 hR (by omega) (R + 1 - L) L x6 (by omega) fun y hy => ih (r + 1) y (by omega) fun z hz => k z fun j => ?_⟩
    rw [hz j, hy j, Bool.or_assoc, ← Bool.decide_or]
    congr 1
    exact decide_eq_decide.mpr (by omega)
theorem bk_xrk {post : Int32 → Prop} {a b : Nat} (ha : a < 16) (hb : b < 16) (hp : post (bk_rect a b)) {T B L R : Nat} (eT : T = min (a / 4) (b / 4)) (eB : B = max (a / 4) (b / 4)) (eL : L = min (a % 4) (b % 4)) (eR : R = max (a % 4) (b % 4)) :
    ∃ n84, wX_rectangle_84 post (nI B) (nI L) (nI R) n84 0 (nI T) := by
  refine ⟨B + 1 - T + 1, bk_xr84 (by omega) (by omega) (by omega) (B + 1 - T) T 0 (by omega) fun y hy => ?_⟩
  have e : y = bk_rect a b := by
    refine bk_eqmk _ (fun j hj => ?_) (fun j hj => ?_)
    · rw [hy j, b_0, decide_eq_false (by omega)]; rfl
    · rw [hy j, b_0, Bool.false_or, eT, eB, eL, eR]; rfl
  rw [e]
  exact hp
theorem bk_n4 : ¬ (4 : Int32) = 0 := by decide
theorem bk_xr37 {post : Int32 → Prop} {a b : Nat} (ha : a < 16) (hb : b < 16) (hp : post (bk_rect a b)) {T B : Nat} (eT : T = min (a / 4) (b / 4)) (eB : B = max (a / 4) (b / 4)) : wX_rectangle_37 post (nI a) (nI b) (nI T) (nI B) := by
  unfold wX_rectangle_37 wX_rectangle_56
  rw [bk_rem4 ha, bk_rem4 hb]
  refine ⟨bk_n4, bk_n4, pk_le (b % 4) (a % 4) (fun h => ⟨bk_n4, bk_n4, bk_n4, pk_le (b % 4) (a % 4) (fun _ => ⟨bk_n4, nm_e (bk_xrk ha hb hp eT eB ?_ ?_)⟩) (fun z => ?_)⟩) (fun h => ⟨bk_n4, bk_n4, bk_n4, pk_le (b % 4) (a % 4) (fun z => ?_) (fun _ => ⟨bk_n4, nm_e (bk_xrk ha hb hp eT eB ?_ ?_)⟩)⟩)⟩ <;> omega
theorem bk_xrect {post : Int32 → Prop} {a b : Nat} (ha : a < 16) (hb : b < 16) (hp : post (bk_rect a b)) : wpX_rectangle post (nI a) (nI b) := by
  unfold wpX_rectangle wX_rectangle_18
  rw [bk_div4 ha, bk_div4 hb]
  refine ⟨bk_n4, bk_n4, pk_le (b / 4) (a / 4) (fun h => ⟨bk_n4, bk_n4, bk_n4, pk_le (b / 4) (a / 4) (fun _ => ⟨bk_n4, bk_xr37 ha hb hp ?_ ?_⟩) (fun z => ?_)⟩) (fun h => ⟨bk_n4, bk_n4, bk_n4, pk_le (b / 4) (a / 4) (fun z => ?_) (fun _ => ⟨bk_n4, bk_xr37 ha hb hp ?_ ?_⟩)⟩)⟩ <;> omega
/-! remember -/
theorem bk_and7 (n : Nat) (h : n < 2 ^ 32) : nI n &&& 7 = nI (n % 8) := pk_andN h (m := 7) 3 (by decide)
theorem bk_xrem {post : SX → Prop} {e m c : Nat} (he : e < 8) (hm : m ≤ 8) (hc : c < 16) (ho : bk_Op (a_operation c)) (hr : bk_in16 (a_reads c))
    (hp : post (f_brokenSet, f_touchedSet, f_oldBroken, f_ordered, (nI ((e + 1) % 8)), (nI (if m < 8 then m + 1 else 8)), a_operation, a_reads, a_number, a_values, a_oldValues, a_order, (upd a_pastCell e (nI c)), (upd a_pastOperation e (a_operation c)), (upd a_pastReads e (a_reads c)), (upd a_pastNumber e (a_number c)))) :
    wpX_remember post (f_brokenSet, f_touchedSet, f_oldBroken, f_ordered, (nI e), (nI m), a_operation, a_reads, a_number, a_values, a_oldValues, a_order, a_pastCell, a_pastOperation, a_pastReads, a_pastNumber) (nI c) := by
  unfold wpX_remember
  dsimp only
  rw [nI_clamp (show e < 2 ^ 31 by omega), nI_clamp (show c < 2 ^ 31 by omega), bk_nb c hc, bk_ob ho, bk_char hr, nI_1 e, bk_and7 (e + 1) (by omega)]
  refine ⟨bk_i8 he, nm_e ⟨bk_i16 hc, bk_i8 he, nm_e ⟨bk_i16 hc, bk_i8 he, nm_e ⟨bk_i16 hc, bk_i8 he, nm_e (nm_e (pk_le 8 m (fun h => ?_) (fun h => nm_r (nI_1 m) ?_)))⟩⟩⟩⟩
  · have e8 : m = 8 := by omega
    subst e8
    rw [if_neg (by omega)] at hp
    exact hp
  · rw [if_pos h] at hp
    exact hp
/-! readers and reach -/
def bk_rd (a : Nat → Int32) (i j : Nat) : Bool := bt (a i) j
theorem bk_xro {post : Int32 → Prop} {s : Int32} (hp : post (bk_mk (fun i => decide (¬ (a_reads i &&& s) = 0)) 16)) : wpX_readersOf post (f_brokenSet, f_touchedSet, f_oldBroken, f_ordered, f_pastEnd, f_pastCount, a_operation, a_reads, a_number, a_values, a_oldValues, a_order, a_pastCell, a_pastOperation, a_pastReads, a_pastNumber) s := by
  refine loop_0 (fun n i (x : Int32) => wX_readersOf_4 post s f_brokenSet f_touchedSet f_oldBroken f_ordered f_pastEnd f_pastCount a_operation a_reads a_number a_values a_oldValues a_order a_pastCell a_pastOperation a_pastReads a_pastNumber n x (nI i)) (fun i x => x = bk_mk (fun i => decide (¬ (a_reads i &&& s) = 0)) i) 16 0 rfl ?_ ?_
  · intro n x h
    subst h
    exact br_t bk_e16 hp
  · intro n i x hi h k
    refine br_f (bk_n16 hi) ⟨bk_i16 hi, ?_⟩
    rw [bk_cl hi]
    refine br_c (fun z => nm_r (nI_1 i) (k _ ?_)) (fun z => nm_e (nm_r (nI_1 i) (k _ ?_)))
    · rw [h]; exact (bk_mkf (decide_eq_false (fun w => w z))).symm
    · rw [h]; exact (bk_mkt (decide_eq_true z)).symm
theorem bk_rob {a : Nat → Int32} {s : Int32} (hR : ∀ i, i < 16 → bk_in16 (a i)) {i : Nat} (hi : i < 16) : bt (bk_mk (fun i => decide (¬ (a i &&& s) = 0)) 16) i = true ↔ ∃ j, j < 16 ∧ bk_rd a i j = true ∧ bt s j = true := by
  rw [bk_mkl _ hi]
  show decide (¬ (a i &&& s) = 0) = true ↔ _
  rw [decide_eq_true_iff, bk_meet (hR i hi)]
  rfl
theorem bk_rob1 {a : Nat → Int32} (hR : ∀ i, i < 16 → bk_in16 (a i)) {c i : Nat} (hc : c < 16) (hi : i < 16) : bt (bk_mk (fun i => decide (¬ (a i &&& ((1 : Int32) <<< (nI c &&& 31))) = 0)) 16) i = bk_rd a i c := by
  have h := bk_rob (s := (1 : Int32) <<< (nI c &&& 31)) hR hi
  have g : (∃ j, j < 16 ∧ bk_rd a i j = true ∧ bt ((1 : Int32) <<< (nI c &&& 31)) j = true) ↔ bk_rd a i c = true := by
    constructor
    · intro ⟨j, _, h1, h2⟩
      rw [bk_one c (by omega), decide_eq_true_iff] at h2
      rw [← h2]; exact h1
    · intro h1
      exact ⟨c, hc, h1, by rw [bk_one c (by omega)]; exact decide_eq_true rfl⟩
  rw [g] at h
  cases x : bk_rd a i c
  · exact bk_nt (fun w => bk_ft x (h.mp w))
  · exact h.mpr x
theorem bk_xreach {post : Int32 → Prop} {c : Nat} (hc : c < 16) (hR : ∀ i, i < 16 → bk_in16 (a_reads i)) (hp : ∀ r, bk_in16 r → (∀ i, i < 16 → (bt r i = true ↔ bk_Rch (bk_rd a_reads) c i)) → post r) : wpX_reach post (f_brokenSet, f_touchedSet, f_oldBroken, f_ordered, f_pastEnd, f_pastCount, a_operation, a_reads, a_number, a_values, a_oldValues, a_order, a_pastCell, a_pastOperation, a_pastReads, a_pastNumber) (nI c) := by
  unfold wpX_reach
  refine bk_xro ?_
  refine loop_0 (fun n r (x : Int32) => wX_reach_10 post f_brokenSet f_touchedSet f_oldBroken f_ordered f_pastEnd f_pastCount a_operation a_reads a_number a_values a_oldValues a_order a_pastCell a_pastOperation a_pastReads a_pastNumber n x (nI r)) (fun r x => bk_RI (bk_rd a_reads) c r x) 16 _ ?_ ?_ ?_
  · refine ⟨bk_mk16 _, fun i hi h => ?_, fun i hi h => ?_, Or.inr (Nat.zero_le _)⟩
    · rw [bk_rob1 hR hc hi]; exact h
    · rw [bk_rob1 hR hc hi] at h; exact bk_Rch_1 hi h
  · intro n x h
    exact br_t bk_e16 (hp x h.1 (bk_RI_e h))
  · intro n r x hr h k
    refine br_f (bk_n16 hr) (bk_xro (nm_e (nm_r (nI_1 r) (k _ ?_))))
    refine bk_RI_s h (bk_inor h.1 (bk_mk16 _)) (fun i hi hb => ?_) (fun i hi hb => ?_) (fun i j hi hj hb hr => ?_) (fun hc i hi hb => ?_)
    · rw [b_or, hb]; rfl
    · rw [b_or, Bool.or_eq_true, bk_rob hR hi] at hb
      rcases hb with hb | ⟨j, hj, h1, h2⟩
      · exact h.2.2.1 i hi hb
      · exact bk_Rch_s hi hj (h.2.2.1 j hj h2) h1
    · rw [b_or, Bool.or_eq_true, bk_rob hR hi]
      exact Or.inr ⟨j, hj, hr, hb⟩
    · rw [b_or, Bool.or_eq_true, bk_rob hR hi] at hb
      rcases hb with hb | ⟨j, hj, h1, h2⟩
      · exact hb
      · exact hc i j hi hj h2 h1
end
section
/-! X's sort -/
variable {f_brokenSet f_touchedSet f_oldBroken f_ordered f_pastEnd f_pastCount : Int32} {a_operation a_reads a_number a_values a_oldValues a_order a_pastCell a_pastOperation a_pastReads a_pastNumber : Nat → Int32}
def bk_Ord (rd : Nat → Nat → Bool) (fine : Int32) (ord : Nat → Int32) (m : Nat) : Prop :=
  ∃ o : Nat → Nat, (∀ t, t < m → ord t = nI (o t) ∧ o t < 16 ∧ (∀ t', t' < t → ¬ o t' = o t) ∧ (∀ l, l < 16 → rd (o t) l = true → ∃ t', t' < t ∧ o t' = l)) ∧ (∀ i, i < 16 → (bt fine i = true ↔ ∃ t, t < m ∧ o t = i))
def bk_SB (rd : Nat → Nat → Bool) (s : Int32 × Int32 × (Nat → Int32)) : Prop :=
  bk_in16 s.1 ∧ s.2.1 = nI (bk_cn (bt s.1) 16) ∧ bk_Ord rd s.1 s.2.2 (bk_cn (bt s.1) 16) ∧ (∀ j, j < 16 → bt s.1 j = true → bk_Snd rd j)
theorem bk_SB_c {x : Int32} {i : Nat} (hi : i < 16) (hz : bt x i = false) : bk_cn (bt x) 16 < 16 ∧ bk_cn (bt (x ||| ((1 : Int32) <<< (nI i &&& 31)))) 16 = bk_cn (bt x) 16 + 1 := by
  refine ⟨?_, ?_⟩
  · rcases Nat.lt_or_ge (bk_cn (bt x) 16) 16 with h | h
    · exact h
    · exact absurd (bk_cn_full 16 h i hi) (bk_ft hz)
  · refine bk_cn_add (i := i) hz ?_ 16 hi (fun j hj hn => ?_)
    · rw [bk_set _ _ (by omega), decide_eq_true rfl, Bool.or_true]
    · rw [bk_set _ _ (by omega), decide_eq_false hn, Bool.or_false]
theorem bk_SB_s {rd : Nat → Nat → Bool} {x fo : Int32} {od : Nat → Int32} {i : Nat} (h : bk_SB rd (x, fo, od)) (hi : i < 16) (hz : bt x i = false) (hl : ∀ l, l < 16 → rd i l = true → bt x l = true) :
    bk_SB rd (x ||| ((1 : Int32) <<< (nI i &&& 31)), nI (bk_cn (bt x) 16 + 1), upd od (bk_cn (bt x) 16) (nI i)) := by
  obtain ⟨h1, h2, ⟨o, h3, h4⟩, h5⟩ := h
  obtain ⟨c1, c2⟩ := bk_SB_c hi hz
  dsimp only at h1 h2 h3 h4 h5
  refine ⟨bk_inset h1 hi, by rw [c2], ?_, fun j hj hb => ?_⟩
  · rw [show bk_cn (bt (x ||| ((1 : Int32) <<< (nI i &&& 31)), nI (bk_cn (bt x) 16 + 1), upd od (bk_cn (bt x) 16) (nI i)).1) 16 = bk_cn (bt x) 16 + 1 from c2]
    show bk_Ord rd (x ||| ((1 : Int32) <<< (nI i &&& 31))) (upd od (bk_cn (bt x) 16) (nI i)) (bk_cn (bt x) 16 + 1)
    generalize bk_cn (bt x) 16 = m at *
    have ni : ∀ t, t < m → ¬ o t = i := by
      intro t ht e
      exact bk_ft hz ((h4 i hi).mpr ⟨t, ht, e⟩)
    refine ⟨fun t => if t = m then i else o t, fun t ht => ?_, fun j hj => ?_⟩
    · by_cases w : t = m
      · subst w
        refine ⟨?_, ?_, fun t' h' => ?_, fun l h6 h7 => ?_⟩
        · dsimp only; rw [if_pos rfl, pk_us]
        · dsimp only; rw [if_pos rfl]; exact hi
        · dsimp only; rw [if_pos rfl, if_neg (by omega)]; exact ni t' h'
        · dsimp only at h7
          rw [if_pos rfl] at h7
          obtain ⟨t', h8, h9⟩ := (h4 l h6).mp (hl l h6 h7)
          exact ⟨t', h8, by dsimp only; rw [if_neg (by omega)]; exact h9⟩
      · obtain ⟨a, b, c, d⟩ := h3 t (by omega)
        refine ⟨?_, ?_, fun t' h' => ?_, fun l h6 h7 => ?_⟩
        · dsimp only; rw [if_neg w, pk_un w]; exact a
        · dsimp only; rw [if_neg w]; exact b
        · dsimp only; rw [if_neg w, if_neg (by omega)]; exact c t' h'
        · dsimp only at h7
          rw [if_neg w] at h7
          obtain ⟨t', h8, h9⟩ := d l h6 h7
          exact ⟨t', h8, by dsimp only; rw [if_neg (by omega)]; exact h9⟩
    · rw [bk_set _ _ (by omega), Bool.or_eq_true, decide_eq_true_iff, h4 j hj]
      constructor
      · intro w
        rcases w with ⟨t, h6, h7⟩ | w
        · exact ⟨t, by omega, by dsimp only; rw [if_neg (by omega)]; exact h7⟩
        · exact ⟨m, by omega, by dsimp only; rw [if_pos rfl]; exact w.symm⟩
      · intro ⟨t, h6, h7⟩
        dsimp only at h7
        by_cases w : t = m
        · rw [if_pos w] at h7; exact Or.inr h7.symm
        · rw [if_neg w] at h7; exact Or.inl ⟨t, by omega, h7⟩
  · dsimp only at hb
    rw [bk_set _ _ (by omega), Bool.or_eq_true, decide_eq_true_iff] at hb
    rcases hb with hb | hb
    · exact h5 j hj hb
    · subst hb
      exact bk_Snd_cl rd j hj (fun l h6 h7 => h5 l h6 (hl l h6 h7))
/-- within a round that began with x0, at the turn of cell i -/
def bk_ST (rd : Nat → Nat → Bool) (x0 : Int32) (i : Nat) (s : Int32 × Int32 × (Nat → Int32)) : Prop :=
  bk_SB rd s ∧ (∀ j, j < 16 → bt x0 j = true → bt s.1 j = true) ∧ (∀ j, j < 16 → i ≤ j → bt s.1 j = bt x0 j) ∧ (∀ j, j < i → (∀ l, l < 16 → rd j l = true → bt x0 l = true) → bt s.1 j = true)
theorem bk_ST_k {rd : Nat → Nat → Bool} {x0 : Int32} {i : Nat} {s : Int32 × Int32 × (Nat → Int32)} (h : bk_ST rd x0 i s) (hi : i < 16) (hc : bt s.1 i = true ∨ ¬ ∀ l, l < 16 → rd i l = true → bt s.1 l = true) : bk_ST rd x0 (i + 1) s := by
  obtain ⟨h1, h2, h3, h4⟩ := h
  refine ⟨h1, h2, fun j hj hl => h3 j hj (by omega), fun j hj hl => ?_⟩
  by_cases w : j = i
  · subst w
    rcases hc with hc | hc
    · exact hc
    · exact absurd (fun l h5 h6 => h2 l h5 (hl l h5 h6)) hc
  · exact h4 j (by omega) hl
theorem bk_ST_a {rd : Nat → Nat → Bool} {x0 x fo : Int32} {od : Nat → Int32} {i : Nat} (h : bk_ST rd x0 i (x, fo, od)) (hi : i < 16) (hz : bt x i = false) (hl : ∀ l, l < 16 → rd i l = true → bt x l = true) :
    bk_ST rd x0 (i + 1) (x ||| ((1 : Int32) <<< (nI i &&& 31)), nI (bk_cn (bt x) 16 + 1), upd od (bk_cn (bt x) 16) (nI i)) := by
  obtain ⟨h1, h2, h3, h4⟩ := h
  dsimp only at h1 h2 h3 h4
  refine ⟨bk_SB_s h1 hi hz hl, fun j hj hb => ?_, fun j hj hb => ?_, fun j hj hb => ?_⟩
  · dsimp only; rw [bk_set _ _ (by omega), h2 j hj hb]; rfl
  · dsimp only; rw [bk_set _ _ (by omega), h3 j hj (by omega), decide_eq_false (by omega), Bool.or_false]
  · dsimp only
    rw [bk_set _ _ (by omega)]
    by_cases w : j = i
    · rw [decide_eq_true w, Bool.or_true]
    · rw [h4 j (by omega) hb]; rfl
theorem bk_xs17 {post : SX → Prop} {J9 : Int32 → Int32 → Int32 → (Nat → Int32) → (Nat → Int32) → (Nat → Int32) → (Nat → Int32) → (Nat → Int32) → (Nat → Int32) → (Nat → Int32) → (Nat → Int32) → (Nat → Int32) → (Nat → Int32) → Prop} {r : Nat} {x fo : Int32} {od : Nat → Int32}
    (hR : ∀ i, i < 16 → bk_in16 (a_reads i)) (h0 : bk_SB (bk_rd a_reads) (x, fo, od))
    (hJ : ∀ s : Int32 × Int32 × (Nat → Int32), bk_ST (bk_rd a_reads) x 16 s → J9 s.1 (nI (r + 1)) s.2.1 a_operation a_reads a_number a_values a_oldValues s.2.2 a_pastCell a_pastOperation a_pastReads a_pastNumber) :
    ∃ n, wX_sort_17 post J9 (nI r) f_brokenSet f_touchedSet f_oldBroken f_pastEnd f_pastCount n x 0 fo a_operation a_reads a_number a_values a_oldValues od a_pastCell a_pastOperation a_pastReads a_pastNumber := by
  refine loop_0 (fun n i (s : Int32 × Int32 × (Nat → Int32)) => wX_sort_17 post J9 (nI r) f_brokenSet f_touchedSet f_oldBroken f_pastEnd f_pastCount n s.1 (nI i) s.2.1 a_operation a_reads a_number a_values a_oldValues s.2.2 a_pastCell a_pastOperation a_pastReads a_pastNumber) (fun i s => bk_ST (bk_rd a_reads) x i s) 16 (x, fo, od) ?_ ?_ ?_
  · exact ⟨h0, fun j _ h => h, fun j _ _ => rfl, fun j hj => by omega⟩
  · intro n s h
    exact br_t bk_e16 (nm_r (nI_1 r) (hJ s h))
  · intro n i s hi h k
    obtain ⟨x1, f1, d1⟩ := s
    have hf : f1 = nI (bk_cn (bt x1) 16) := h.1.2.1
    subst hf
    refine br_f (bk_n16 hi) (bk_br x1 i (by omega) (fun hz => ?_) (fun hz => ?_))
    · unfold wX_sort_36
      rw [bk_cl hi]
      refine br_f (by decide) ⟨bk_i16 hi, br_c (fun h1 => ?_) (fun h1 => ?_)⟩
      · have hl := (bk_sub (hR i hi)).mp h1
        have hc := bk_SB_c hi hz
        rw [bk_nb i hi, nI_clamp (show bk_cn (bt x1) 16 < 2 ^ 31 by omega)]
        exact nm_e ⟨bk_i16 hc.1, nm_e (nm_r (nI_1 _) (nm_r (nI_1 i) (k (x1 ||| ((1 : Int32) <<< (nI i &&& 31)), nI (bk_cn (bt x1) 16 + 1), upd d1 (bk_cn (bt x1) 16) (nI i)) (bk_ST_a h hi hz hl))))⟩
      · exact nm_r (nI_1 i) (k (x1, nI (bk_cn (bt x1) 16), d1) (bk_ST_k h hi (Or.inr (fun w => h1 ((bk_sub (hR i hi)).mpr w)))))
    · unfold wX_sort_36
      exact br_t rfl (nm_r (nI_1 i) (k (x1, nI (bk_cn (bt x1) 16), d1) (bk_ST_k h hi (Or.inl hz))))
theorem bk_xsort {post : SX → Prop} (hR : ∀ i, i < 16 → bk_in16 (a_reads i))
    (hp : ∀ (fine : Int32) (ord : Nat → Int32) (m : Nat), m ≤ 16 → bk_in16 fine → (∀ j, j < 16 → (bt fine j = true ↔ bk_Snd (bk_rd a_reads) j)) → bk_Ord (bk_rd a_reads) fine ord m → post ((65535 &&& (fine ^^^ (-1))), f_touchedSet, f_oldBroken, (nI m), f_pastEnd, f_pastCount, a_operation, a_reads, a_number, a_values, a_oldValues, ord, a_pastCell, a_pastOperation, a_pastReads, a_pastNumber)) :
    wpX_sort post (f_brokenSet, f_touchedSet, f_oldBroken, f_ordered, f_pastEnd, f_pastCount, a_operation, a_reads, a_number, a_values, a_oldValues, a_order, a_pastCell, a_pastOperation, a_pastReads, a_pastNumber) := by
  unfold wpX_sort
  refine loop_0 (fun n r (s : Int32 × Int32 × (Nat → Int32)) => wX_sort_9 post f_brokenSet f_touchedSet f_oldBroken f_pastEnd f_pastCount n s.1 (nI r) s.2.1 a_operation a_reads a_number a_values a_oldValues s.2.2 a_pastCell a_pastOperation a_pastReads a_pastNumber) (fun r s => bk_SB (bk_rd a_reads) s ∧ (bk_Cb (bk_rd a_reads) (bt s.1) ∨ r ≤ bk_cn (bt s.1) 16)) 16 (0, 0, a_order) ?_ ?_ ?_
  · have e : bk_cn (bt 0) 16 = 0 := by decide +kernel
    refine ⟨⟨bk_in0, ?_, ⟨fun _ => 0, fun t ht => ?_, fun i hi => ?_⟩, fun j _ hb => ?_⟩, Or.inr (Nat.zero_le _)⟩
    · show (0 : Int32) = nI (bk_cn (bt 0) 16)
      rw [e]; rfl
    · have ht' : t < bk_cn (bt 0) 16 := ht
      omega
    · refine ⟨fun h => ?_, fun ⟨t, ht, _⟩ => ?_⟩
      · have h' : bt 0 i = true := h
        rw [b_0] at h'
        exact absurd h' (by decide)
      · have ht' : t < bk_cn (bt 0) 16 := ht
        omega
    · have h' : bt 0 j = true := hb
      rw [b_0] at h'
      exact absurd h' (by decide)
  · intro n s ⟨h, hc⟩
    obtain ⟨x1, f1, d1⟩ := s
    obtain ⟨h1, h2, h3, h4⟩ := h
    dsimp only at h1 h2 h3 h4 hc
    subst h2
    exact br_t bk_e16 (nm_e (hp x1 d1 _ (bk_cn_le _ 16) h1 (bk_rend hc h4) h3))
  · intro n r s hr ⟨h, hc⟩ k
    obtain ⟨x1, f1, d1⟩ := s
    refine br_f (bk_n16 hr) (bk_xs17 hR h (fun s hs => k s ?_))
    exact ⟨hs.1, bk_rnd hc hs.2.1 hs.1.2.2.2 hs.2.2.2⟩
end
section
/-! X's scan, difference, extreme, update -/
variable {f_brokenSet f_touchedSet f_oldBroken f_ordered f_pastEnd f_pastCount : Int32} {a_operation a_reads a_number a_values a_oldValues a_order a_pastCell a_pastOperation a_pastReads a_pastNumber : Nat → Int32}
theorem bk_xst {post : Int32 → Prop} {o v : Int32} (hp : post (bk_st o v)) : wpX_start post o v := by
  unfold bk_st at hp
  refine br_c (fun h => br_c (fun k => ?_) (fun k => ?_)) (fun h => ?_)
  · rw [if_pos h, if_pos k] at hp; exact hp
  · rw [if_pos h, if_neg k] at hp; exact hp
  · rw [if_neg h] at hp; exact hp
theorem bk_xmg {post : Int32 → Prop} {o r v : Int32} (hp : post (bk_mg o r v)) : wpX_merge post o r v := by
  unfold bk_mg at hp
  refine br_c (fun h => ?_) (fun h => br_c (fun k => br_c (fun l => ?_) (fun l => ?_)) (fun k => br_c (fun l => br_c (fun z => br_t rfl ?_) (fun z => br_f (by decide) ?_)) (fun l => br_c (fun z => br_t rfl ?_) (fun z => br_f (by decide) ?_))))
  · rw [if_pos h] at hp; exact hp
  · rw [if_neg h, if_pos k, if_pos l] at hp; exact hp
  · rw [if_neg h, if_pos k, if_neg l] at hp; exact hp
  · rw [if_neg h, if_neg k, if_pos l, if_pos z] at hp; exact hp
  · rw [if_neg h, if_neg k, if_pos l, if_neg z] at hp; exact hp
  · rw [if_neg h, if_neg k, if_neg l, if_pos z] at hp; exact hp
  · rw [if_neg h, if_neg k, if_neg l, if_neg z] at hp; exact hp
theorem bk_scan_t0 {o : Int32} {p : Nat → Bool} {v : Nat → Int32} {n : Nat} (hp : p n = true) (h : (bk_scan o p v n).2 = 0) : bk_scan o p v (n + 1) = (bk_mg o (bk_scan o p v n).1 (v n), 0) := by
  rw [show bk_scan o p v (n + 1) = (if (bk_scan o p v n).2 = 0 then bk_mg o (bk_scan o p v n).1 (v n) else bk_st o (v n), 0) from if_pos hp, if_pos h]
theorem bk_scan_t1 {o : Int32} {p : Nat → Bool} {v : Nat → Int32} {n : Nat} (hp : p n = true) (h : ¬ (bk_scan o p v n).2 = 0) : bk_scan o p v (n + 1) = (bk_st o (v n), 0) := by
  rw [show bk_scan o p v (n + 1) = (if (bk_scan o p v n).2 = 0 then bk_mg o (bk_scan o p v n).1 (v n) else bk_st o (v n), 0) from if_pos hp, if_neg h]
theorem bk_xscan {post : Int32 → Prop} {i : Nat} (hi : i < 16) (hp : post (bk_scan (a_operation i) (bt (a_reads i)) a_values 16).1) : wpX_scan post (f_brokenSet, f_touchedSet, f_oldBroken, f_ordered, f_pastEnd, f_pastCount, a_operation, a_reads, a_number, a_values, a_oldValues, a_order, a_pastCell, a_pastOperation, a_pastReads, a_pastNumber) (nI i) := by
  unfold wpX_scan
  refine loop_0 (fun n j (s : Int32 × Int32) => wX_scan_7 post (nI i) f_brokenSet f_touchedSet f_oldBroken f_ordered f_pastEnd f_pastCount a_operation a_reads a_number a_values a_oldValues a_order a_pastCell a_pastOperation a_pastReads a_pastNumber n s.1 s.2 (nI j)) (fun j s => s = bk_scan (a_operation i) (bt (a_reads i)) a_values j) 16 (0, 1) rfl ?_ ?_
  · intro n s h
    subst h
    exact br_t bk_e16 hp
  · intro n j s hj h k
    refine br_f (bk_n16 hj) ⟨bk_i16 hi, ?_⟩
    rw [bk_cl hi, bk_cl hj]
    refine bk_br (a_reads i) j (by omega) (fun hz => nm_r (nI_1 j) (k s ?_)) (fun hz => br_c (fun h0 => ⟨bk_i16 hi, bk_i16 hj, bk_xmg (nm_r (nI_1 j) (k (bk_mg (a_operation i) s.1 (a_values j), 0) ?_))⟩) (fun h0 => ⟨bk_i16 hi, bk_i16 hj, bk_xst (nm_r (nI_1 j) (k (bk_st (a_operation i) (a_values j), 0) ?_))⟩))
    · rw [h]; exact (if_neg (bk_ft hz)).symm
    · subst h; exact (bk_scan_t0 hz h0).symm
    · subst h; exact (bk_scan_t1 hz h0).symm
theorem bk_xdif {post : Int32 → Prop} {i : Nat} (hi : i < 16) (hp : post (bk_dif (a_operation i) (bt (a_reads i)) a_values a_oldValues 16)) : wpX_difference post (f_brokenSet, f_touchedSet, f_oldBroken, f_ordered, f_pastEnd, f_pastCount, a_operation, a_reads, a_number, a_values, a_oldValues, a_order, a_pastCell, a_pastOperation, a_pastReads, a_pastNumber) (nI i) := by
  unfold wpX_difference
  refine loop_0 (fun n j (s : Int32) => wX_difference_4 post (nI i) f_brokenSet f_touchedSet f_oldBroken f_ordered f_pastEnd f_pastCount a_operation a_reads a_number a_values a_oldValues a_order a_pastCell a_pastOperation a_pastReads a_pastNumber n s (nI j)) (fun j s => s = bk_dif (a_operation i) (bt (a_reads i)) a_values a_oldValues j) 16 0 rfl ?_ ?_
  · intro n s h
    subst h
    exact br_t bk_e16 hp
  · intro n j s hj h k
    refine br_f (bk_n16 hj) ⟨bk_i16 hi, ?_⟩
    rw [bk_cl hi, bk_cl hj]
    refine bk_br (a_reads i) j (by omega) (fun hz => nm_r (nI_1 j) (k s ?_)) (fun hz => ⟨bk_i16 hj, bk_i16 hj, br_c (fun h0 => nm_r (nI_1 j) (k s ?_)) (fun h0 => ⟨bk_i16 hi, bk_i16 hj, bk_xst ⟨bk_i16 hi, bk_i16 hj, bk_xst (nm_e (nm_r (nI_1 j) (k _ ?_)))⟩⟩)⟩)
    · rw [h]; exact (if_neg (fun w => bk_ft hz w.1)).symm
    · rw [h]; exact (if_neg (fun w => w.2 h0)).symm
    · rw [h]; exact (if_pos ⟨hz, h0⟩).symm
theorem bk_xext {post : Int32 → Prop} {i : Nat} (hi : i < 16) (ho : a_operation i = 1 ∨ a_operation i = 2) (hold : bk_Bx (a_operation i) (bt (a_reads i)) a_oldValues 16 (a_oldValues i - a_number i))
    (hp : ∀ r, bk_Bx (a_operation i) (bt (a_reads i)) a_values 16 r → post r) : wpX_extreme post (f_brokenSet, f_touchedSet, f_oldBroken, f_ordered, f_pastEnd, f_pastCount, a_operation, a_reads, a_number, a_values, a_oldValues, a_order, a_pastCell, a_pastOperation, a_pastReads, a_pastNumber) (nI i) := by
  unfold wpX_extreme
  dsimp only
  rw [bk_cl hi]
  generalize ho' : a_oldValues i - a_number i = old at hold
  refine ⟨bk_i16 hi, bk_i16 hi, nm_e ?_⟩
  refine loop_0 (fun n j (s : Int32 × Int32) => wX_extreme_22 post (nI i) old f_brokenSet f_touchedSet f_oldBroken f_ordered f_pastEnd f_pastCount a_operation a_reads a_number a_values a_oldValues a_order a_pastCell a_pastOperation a_pastReads a_pastNumber n s.1 s.2 (nI j)) (fun j s => s = bk_ext (a_operation i) old (bt (a_reads i)) a_values a_oldValues j) 16 (old, 0) rfl ?_ ?_
  · intro n s h
    subst h
    have hx := bk_ext_i (old := old) ho (bt (a_reads i)) a_values a_oldValues 16 (by omega)
    have hne : ∃ j, j < 16 ∧ bt (a_reads i) j = true := by
      obtain ⟨⟨j, hj, pj, _⟩, _⟩ := hold
      exact ⟨j, hj, pj⟩
    refine br_t bk_e16 (br_c (fun h0 => ?_) (fun h0 => ?_))
    · unfold wX_extreme_115
      refine br_c (fun h1 => hp _ (bk_ext_Bx hx hold (Or.inr h1))) (fun h1 => br_t rfl ?_)
      exact bk_xscan hi (hp _ ((bk_scan_Ac hne).2 ho))
    · unfold wX_extreme_115
      exact br_c (fun h1 => hp _ (bk_ext_Bx hx hold (Or.inl h0))) (fun h1 => br_f (by decide) (hp _ (bk_ext_Bx hx hold (Or.inl h0))))
  · intro n j s hj h k
    refine br_f (bk_n16 hj) ⟨bk_i16 hi, ?_⟩
    rw [bk_cl hi, bk_cl hj]
    refine bk_br (a_reads i) j (by omega) (fun hz => nm_r (nI_1 j) (k s ?_)) (fun hz => ⟨bk_i16 hj, bk_i16 hj, br_c (fun h0 => nm_r (nI_1 j) (k s ?_)) (fun h0 => ⟨bk_i16 hj, br_c (fun h1 => ?_) (fun h1 => ?_)⟩)⟩)
    · rw [h]; exact (if_neg (fun w => bk_ft hz w.1)).symm
    · rw [h]; exact (if_neg (fun w => w.2 h0)).symm
    · unfold wX_extreme_78
      rw [bk_cl hi, bk_cl hj]
      refine nm_e ⟨bk_i16 hi, bk_i16 hj, bk_xmg (nm_r (nI_1 j) (k (bk_mg (a_operation i) s.1 (a_values j), s.2 ||| 1) ?_))⟩
      rw [h]
      refine Eq.trans ?_ (if_pos ⟨hz, h0⟩).symm
      rw [if_pos h1]
    · unfold wX_extreme_78
      rw [bk_cl hi, bk_cl hj]
      refine nm_e ⟨bk_i16 hi, bk_i16 hj, bk_xmg (nm_r (nI_1 j) (k (bk_mg (a_operation i) s.1 (a_values j), s.2 ||| 0) ?_))⟩
      rw [h]
      refine Eq.trans ?_ (if_pos ⟨hz, h0⟩).symm
      rw [if_neg h1]
/-- the state behind an update of cell i to x -/
theorem bk_xu136 {post : SX → Prop} {i : Nat} {x : Int32} (hi : i < 16) (hp : post (f_brokenSet, (if x = a_oldValues i then f_touchedSet else f_touchedSet ||| ((1 : Int32) <<< (nI i &&& 31))), f_oldBroken, f_ordered, f_pastEnd, f_pastCount, a_operation, a_reads, a_number, (upd a_values i x), a_oldValues, a_order, a_pastCell, a_pastOperation, a_pastReads, a_pastNumber)) :
    wX_update_136 post (nI i) f_brokenSet f_touchedSet f_oldBroken f_ordered f_pastEnd f_pastCount a_operation a_reads a_number (upd a_values i x) a_oldValues a_order a_pastCell a_pastOperation a_pastReads a_pastNumber := by
  unfold wX_update_136
  rw [bk_cl hi, pk_us]
  refine ⟨bk_i16 hi, bk_i16 hi, br_c (fun h => ?_) (fun h => nm_e ?_)⟩
  · rw [if_pos h] at hp; exact hp
  · rw [if_neg h] at hp; exact hp
theorem bk_xu57 {post : SX → Prop} {i : Nat} (hi : i < 16) (ho : bk_O4 (a_operation i)) (hne : ∃ j, j < 16 ∧ bt (a_reads i) j = true)
    (hp : ∀ x, bk_Ev (a_operation i) (bt (a_reads i)) (a_number i) a_values x → post (f_brokenSet, (if x = a_oldValues i then f_touchedSet else f_touchedSet ||| ((1 : Int32) <<< (nI i &&& 31))), f_oldBroken, f_ordered, f_pastEnd, f_pastCount, a_operation, a_reads, a_number, (upd a_values i x), a_oldValues, a_order, a_pastCell, a_pastOperation, a_pastReads, a_pastNumber)) :
    wX_update_57 post (nI i) f_brokenSet f_touchedSet f_oldBroken f_ordered f_pastEnd f_pastCount a_operation a_reads a_number a_values a_oldValues a_order a_pastCell a_pastOperation a_pastReads a_pastNumber := by
  unfold wX_update_57
  refine bk_xscan hi ⟨bk_i16 hi, bk_i16 hi, ?_⟩
  rw [bk_cl hi]
  exact nm_e (bk_xu136 hi (hp _ (bk_Ac_Ev ho (bk_scan_Ac hne))))
theorem bk_xu97 {post : SX → Prop} {i : Nat} (hi : i < 16) (ho : a_operation i = 0 ∨ a_operation i = 3) (hold : bk_Ev (a_operation i) (bt (a_reads i)) (a_number i) a_oldValues (a_oldValues i))
    (hp : ∀ x, bk_Ev (a_operation i) (bt (a_reads i)) (a_number i) a_values x → post (f_brokenSet, (if x = a_oldValues i then f_touchedSet else f_touchedSet ||| ((1 : Int32) <<< (nI i &&& 31))), f_oldBroken, f_ordered, f_pastEnd, f_pastCount, a_operation, a_reads, a_number, (upd a_values i x), a_oldValues, a_order, a_pastCell, a_pastOperation, a_pastReads, a_pastNumber)) :
    wX_update_97 post (nI i) f_brokenSet f_touchedSet f_oldBroken f_ordered f_pastEnd f_pastCount a_operation a_reads a_number a_values a_oldValues a_order a_pastCell a_pastOperation a_pastReads a_pastNumber := by
  unfold wX_update_97
  refine ⟨bk_i16 hi, bk_xdif hi ⟨bk_i16 hi, ?_⟩⟩
  rw [bk_cl hi]
  exact nm_e (bk_xu136 hi (hp _ (bk_dif_Ev ho hold)))
theorem bk_sx (n m : Int32) : n + m - n = m := by grind
theorem bk_O4_ge {o : Int32} (h : bk_O4 o) : 0 ≤ o := by
  rcases h with h | h | h | h <;> (subst h; decide)
theorem bk_m1_ge {o : Int32} (h : o = -1) : ¬ 0 ≤ o := by subst h; decide
theorem bk_xu16 {post : SX → Prop} {i : Nat} {p1 z0 : Int32} (hi : i < 16) (hO : a_operation i = -1 ∨ (bk_O4 (a_operation i) ∧ ∃ j, j < 16 ∧ bt (a_reads i) j = true))
    (hold : p1 = 0 → z0 = 0 → bk_Ev (a_operation i) (bt (a_reads i)) (a_number i) a_oldValues (a_oldValues i))
    (hp : ∀ x, bk_Ev (a_operation i) (bt (a_reads i)) (a_number i) a_values x → post (f_brokenSet, (if x = a_oldValues i then f_touchedSet else f_touchedSet ||| ((1 : Int32) <<< (nI i &&& 31))), f_oldBroken, f_ordered, f_pastEnd, f_pastCount, a_operation, a_reads, a_number, (upd a_values i x), a_oldValues, a_order, a_pastCell, a_pastOperation, a_pastReads, a_pastNumber)) :
    wX_update_16 post (nI i) p1 z0 f_brokenSet f_touchedSet f_oldBroken f_ordered f_pastEnd f_pastCount a_operation a_reads a_number a_values a_oldValues a_order a_pastCell a_pastOperation a_pastReads a_pastNumber := by
  unfold wX_update_16
  rw [bk_cl hi]
  refine ⟨bk_i16 hi, ?_⟩
  rcases hO with hO | ⟨hO, hne⟩
  · exact br_f (bk_m1_ge hO) ⟨bk_i16 hi, bk_i16 hi, nm_e (bk_xu136 hi (hp _ (Or.inl ⟨hO, rfl⟩)))⟩
  · refine br_t (bk_O4_ge hO) (br_c (fun e1 => br_c (fun e2 => ?_) (fun _ => bk_xu57 hi hO hne hp)) (fun _ => bk_xu57 hi hO hne hp))
    have old := hold e1 e2
    have bb : ∀ Q : Int32 → Prop, Q 0 → Q 1 → wpX_brokenBefore Q (f_brokenSet, f_touchedSet, f_oldBroken, f_ordered, f_pastEnd, f_pastCount, a_operation, a_reads, a_number, a_values, a_oldValues, a_order, a_pastCell, a_pastOperation, a_pastReads, a_pastNumber) (nI i) := by
      intro Q q0 q1
      unfold wpX_brokenBefore
      exact ⟨bk_i16 hi, br_c (fun _ => q0) (fun _ => q1)⟩
    refine bb _ (br_t rfl ⟨bk_i16 hi, ?_⟩) (br_f (by decide) (bk_xu57 hi hO hne hp))
    refine br_c (fun h0 => bk_xu97 hi (Or.inl h0) old hp) (fun h0 => ⟨bk_i16 hi, br_c (fun h3 => bk_xu97 hi (Or.inr h3) old hp) (fun h3 => ?_)⟩)
    have h12 : a_operation i = 1 ∨ a_operation i = 2 := by
      rcases hO with z | z | z | z
      · exact absurd z h0
      · exact Or.inl z
      · exact Or.inr z
      · exact absurd z h3
    have hB : bk_Bx (a_operation i) (bt (a_reads i)) a_oldValues 16 (a_oldValues i - a_number i) := by
      rcases old with ⟨z, _⟩ | ⟨z, _⟩ | ⟨_, m, e, hm⟩
      · rw [z] at h12; exact absurd h12 (by decide)
      · rcases z with z | z
        · exact absurd z h0
        · exact absurd z h3
      · rw [e, bk_sx]; exact hm
    refine bk_xext hi h12 hB (fun r hr => ⟨bk_i16 hi, bk_i16 hi, nm_e (bk_xu136 hi (hp _ ?_))⟩)
    exact Or.inr (Or.inr ⟨h12, r, Int32.add_comm _ _, hr⟩)
theorem bk_xupd {post : SX → Prop} {i : Nat} {p1 : Int32} (hi : i < 16) (hO : a_operation i = -1 ∨ (bk_O4 (a_operation i) ∧ ∃ j, j < 16 ∧ bt (a_reads i) j = true))
    (hold : p1 = 0 → bt f_oldBroken i = false → bk_Ev (a_operation i) (bt (a_reads i)) (a_number i) a_oldValues (a_oldValues i))
    (hp : ∀ x, bk_Ev (a_operation i) (bt (a_reads i)) (a_number i) a_values x → post (f_brokenSet, (if x = a_oldValues i then f_touchedSet else f_touchedSet ||| ((1 : Int32) <<< (nI i &&& 31))), f_oldBroken, f_ordered, f_pastEnd, f_pastCount, a_operation, a_reads, a_number, (upd a_values i x), a_oldValues, a_order, a_pastCell, a_pastOperation, a_pastReads, a_pastNumber)) :
    wpX_update post (f_brokenSet, f_touchedSet, f_oldBroken, f_ordered, f_pastEnd, f_pastCount, a_operation, a_reads, a_number, a_values, a_oldValues, a_order, a_pastCell, a_pastOperation, a_pastReads, a_pastNumber) (nI i) p1 := by
  unfold wpX_update
  exact bk_br f_oldBroken i (by omega) (fun h => bk_xu16 hi hO (fun e _ => hold e h) hp) (fun h => bk_xu16 hi hO (fun _ e => absurd e (by decide)) hp)
end
section
/-! X's write -/
variable {f_brokenSet f_touchedSet f_oldBroken f_ordered f_pastEnd f_pastCount : Int32} {a_operation a_reads a_number a_values a_oldValues a_order a_pastCell a_pastOperation a_pastReads a_pastNumber : Nat → Int32}
theorem bk_xw139 {post : SX → Prop} (hp : ∀ v : Nat → Int32, (∀ j, j < 16 → v j = if bt f_brokenSet j = true then 0 else a_values j) → post (f_brokenSet, (f_touchedSet ||| (f_oldBroken ^^^ f_brokenSet)), f_oldBroken, f_ordered, f_pastEnd, f_pastCount, a_operation, a_reads, a_number, v, a_oldValues, a_order, a_pastCell, a_pastOperation, a_pastReads, a_pastNumber)) :
    ∃ n, wX_write_139 post f_brokenSet f_touchedSet f_oldBroken f_ordered f_pastEnd f_pastCount n 0 a_operation a_reads a_number a_values a_oldValues a_order a_pastCell a_pastOperation a_pastReads a_pastNumber := by
  refine loop_0 (fun n i (v : Nat → Int32) => wX_write_139 post f_brokenSet f_touchedSet f_oldBroken f_ordered f_pastEnd f_pastCount n (nI i) a_operation a_reads a_number v a_oldValues a_order a_pastCell a_pastOperation a_pastReads a_pastNumber) (fun i v => ∀ j, j < 16 → v j = if j < i ∧ bt f_brokenSet j = true then 0 else a_values j) 16 a_values ?_ ?_ ?_
  · intro j _
    rw [if_neg (fun w => absurd w.1 (by omega))]
  · intro n v h
    refine br_t bk_e16 (nm_e (hp v (fun j hj => ?_)))
    rw [h j hj]
    by_cases w : bt f_brokenSet j = true
    · rw [if_pos ⟨hj, w⟩, if_pos w]
    · rw [if_neg (fun z => w z.2), if_neg w]
  · intro n i v hi h k
    refine br_f (bk_n16 hi) (bk_br f_brokenSet i (by omega) (fun hz => nm_r (nI_1 i) (k v ?_)) (fun hz => ⟨bk_i16 hi, ?_⟩))
    · intro j hj
      rw [h j hj]
      by_cases w : j = i
      · subst w
        rw [if_neg (fun z => bk_ft hz z.2), if_neg (fun z => bk_ft hz z.2)]
      · by_cases y : j < i ∧ bt f_brokenSet j = true
        · rw [if_pos y, if_pos ⟨by omega, y.2⟩]
        · rw [if_neg y, if_neg (fun z => y ⟨by omega, z.2⟩)]
    · rw [bk_cl hi]
      refine nm_e (nm_r (nI_1 i) (k (upd v i 0) ?_))
      intro j hj
      by_cases w : j = i
      · subst w
        rw [pk_us, if_pos ⟨by omega, hz⟩]
      · rw [pk_un w, h j hj]
        by_cases y : j < i ∧ bt f_brokenSet j = true
        · rw [if_pos y, if_pos ⟨by omega, y.2⟩]
        · rw [if_neg y, if_neg (fun z => y ⟨by omega, z.2⟩)]
/-- the values and the touched cells when the first k of the order are up to date -/
def bk_WI (op : Nat → Int32) (rs : Nat → Int32) (num old : Nat → Int32) (aff : Int32) (o : Nat → Nat) (k : Nat) (s : Int32 × (Nat → Int32)) : Prop :=
  (∀ t, t < k → bk_Ev (op (o t)) (bt (rs (o t))) (num (o t)) s.2 (s.2 (o t))) ∧ (∀ j, j < 16 → (bt aff j = false ∨ ∀ t, t < k → ¬ o t = j) → s.2 j = old j) ∧
  bk_in16 s.1 ∧ (∀ j, j < 16 → (bt s.1 j = true ↔ (∃ t, t < k ∧ o t = j) ∧ ¬ s.2 j = old j))
/-- the order -/
def bk_Oo (rs : Nat → Int32) (o : Nat → Nat) (m : Nat) : Prop :=
  ∀ t, t < m → o t < 16 ∧ (∀ t', t' < t → ¬ o t' = o t) ∧ (∀ l, l < 16 → bt (rs (o t)) l = true → ∃ t', t' < t ∧ o t' = l)
theorem bk_WI_u {op rs num old : Nat → Int32} {aff : Int32} {o : Nat → Nat} {m k : Nat} {s : Int32 × (Nat → Int32)} (hO : bk_Oo rs o m) (hk : k < m) (h : bk_WI op rs num old aff o k s)
    (ha : bt aff (o k) = false) (he : bk_Ev (op (o k)) (bt (rs (o k))) (num (o k)) old (old (o k))) (hr : ∀ j, j < 16 → bt (rs (o k)) j = true → bt aff j = false) : bk_WI op rs num old aff o (k + 1) s := by
  obtain ⟨h1, h2, h3, h4⟩ := h
  have e : s.2 (o k) = old (o k) := h2 (o k) (hO k hk).1 (Or.inl ha)
  refine ⟨fun t ht => ?_, fun j hj hh => h2 j hj ?_, h3, fun j hj => ?_⟩
  · by_cases w : t = k
    · subst w
      rw [e]
      exact bk_Ev_cg (fun j hj hb => (h2 j hj (Or.inl (hr j hj hb))).symm) he
    · exact h1 t (by omega)
  · rcases hh with hh | hh
    · exact Or.inl hh
    · exact Or.inr (fun t ht => hh t (by omega))
  · rw [h4 j hj]
    refine ⟨fun ⟨⟨t, ht, et⟩, hn⟩ => ⟨⟨t, by omega, et⟩, hn⟩, fun ⟨⟨t, ht, et⟩, hn⟩ => ⟨⟨t, ?_, et⟩, hn⟩⟩
    by_cases w : t = k
    · subst w
      rw [← et] at hn
      exact absurd e hn
    · omega
theorem bk_WI_a {op rs num old : Nat → Int32} {aff : Int32} {o : Nat → Nat} {m k : Nat} {T x : Int32} {V : Nat → Int32} (hO : bk_Oo rs o m) (hk : k < m) (h : bk_WI op rs num old aff o k (T, V))
    (ha : bt aff (o k) = true) (he : bk_Ev (op (o k)) (bt (rs (o k))) (num (o k)) V x) : bk_WI op rs num old aff o (k + 1) (if x = old (o k) then T else T ||| ((1 : Int32) <<< (nI (o k) &&& 31)), upd V (o k) x) := by
  obtain ⟨h1, h2, h3, h4⟩ := h
  dsimp only at h1 h2 h3 h4
  obtain ⟨o1, o2, o3⟩ := hO k hk
  have nr : ∀ t, t ≤ k → ∀ j, j < 16 → bt (rs (o t)) j = true → V j = upd V (o k) x j := by
    intro t ht j hj hb
    obtain ⟨t', h5, h6⟩ := (hO t (by omega)).2.2 j hj hb
    rw [pk_un (fun w => o2 t' (by omega) (by rw [h6]; exact w))]
  refine ⟨fun t ht => ?_, fun j hj hh => ?_, ?_, fun j hj => ?_⟩
  · dsimp only
    by_cases w : t = k
    · subst w
      rw [pk_us]
      exact bk_Ev_cg (nr t (by omega)) he
    · rw [pk_un (o2 t (by omega))]
      exact bk_Ev_cg (nr t (by omega)) (h1 t (by omega))
  · dsimp only
    have w : ¬ j = o k := by
      intro w
      rcases hh with hh | hh
      · rw [w] at hh; exact bk_ft hh ha
      · exact hh k (by omega) w.symm
    rw [pk_un w]
    refine h2 j hj ?_
    rcases hh with hh | hh
    · exact Or.inl hh
    · exact Or.inr (fun t ht => hh t (by omega))
  · dsimp only
    by_cases w : x = old (o k)
    · rw [if_pos w]; exact h3
    · rw [if_neg w]; exact bk_inset h3 o1
  · dsimp only
    by_cases w : j = o k
    · subst w
      rw [pk_us]
      have nT : bt T (o k) = false := bk_nt (fun z => by
        obtain ⟨⟨t, ht, et⟩, _⟩ := (h4 (o k) hj).mp z
        exact o2 t ht et)
      by_cases y : x = old (o k)
      · rw [if_pos y]
        exact ⟨fun z => absurd z (bk_ft nT), fun z => absurd y z.2⟩
      · rw [if_neg y, bk_set _ _ (by omega), decide_eq_true rfl, Bool.or_true]
        exact ⟨fun _ => ⟨⟨k, by omega, rfl⟩, y⟩, fun _ => rfl⟩
    · rw [pk_un w]
      have e : bt (if x = old (o k) then T else T ||| ((1 : Int32) <<< (nI (o k) &&& 31))) j = bt T j := by
        by_cases y : x = old (o k)
        · rw [if_pos y]
        · rw [if_neg y, bk_set _ _ (by omega), decide_eq_false w, Bool.or_false]
      rw [e, h4 j hj]
      refine ⟨fun ⟨⟨t, ht, et⟩, hn⟩ => ⟨⟨t, by omega, et⟩, hn⟩, fun ⟨⟨t, ht, et⟩, hn⟩ => ⟨⟨t, ?_, et⟩, hn⟩⟩
      by_cases q : t = k
      · subst q; exact absurd et.symm w
      · omega
theorem bk_xw85 {post : SX → Prop} {c m : Nat} {aff : Int32} {o : Nat → Nat} (hc : c < 16) (hm : m ≤ 16) (hO : bk_Oo a_reads o m) (hor : ∀ t, t < m → a_order t = nI (o t))
    (hop : ∀ i, i < 16 → a_operation i = -1 ∨ (bk_O4 (a_operation i) ∧ ∃ j, j < 16 ∧ bt (a_reads i) j = true))
    (hold : ∀ i, i < 16 → ¬ i = c → bt f_oldBroken i = false → bk_Ev (a_operation i) (bt (a_reads i)) (a_number i) a_oldValues (a_oldValues i))
    (hun : ∀ t, t < m → bt aff (o t) = false → ¬ o t = c ∧ bt f_oldBroken (o t) = false ∧ ∀ j, j < 16 → bt (a_reads (o t)) j = true → bt aff j = false)
    (hv : ∀ j, j < 16 → a_values j = a_oldValues j)
    (hp : ∀ T V, bk_WI a_operation a_reads a_number a_oldValues aff o m (T, V) → ∃ n, wX_write_139 post f_brokenSet T f_oldBroken (nI m) f_pastEnd f_pastCount n 0 a_operation a_reads a_number V a_oldValues a_order a_pastCell a_pastOperation a_pastReads a_pastNumber) :
    ∃ n, wX_write_85 post (nI c) aff n 0 f_brokenSet 0 f_oldBroken (nI m) f_pastEnd f_pastCount a_operation a_reads a_number a_values a_oldValues a_order a_pastCell a_pastOperation a_pastReads a_pastNumber := by
  refine loop_0 (fun n k (s : Int32 × (Nat → Int32)) => wX_write_85 post (nI c) aff n (nI k) f_brokenSet s.1 f_oldBroken (nI m) f_pastEnd f_pastCount a_operation a_reads a_number s.2 a_oldValues a_order a_pastCell a_pastOperation a_pastReads a_pastNumber) (fun k s => bk_WI a_operation a_reads a_number a_oldValues aff o k s) m (0, a_values) ?_ ?_ ?_
  · refine ⟨fun t ht => by omega, fun j hj _ => hv j hj, bk_in0, fun j hj => ⟨fun z => ?_, fun ⟨⟨t, ht, _⟩, _⟩ => by omega⟩⟩
    have z' : bt 0 j = true := z
    rw [b_0] at z'
    exact absurd z' (by decide)
  · intro n s h
    exact br_t (nI_le (by omega) (by omega)) (hp s.1 s.2 h)
  · intro n k s hk h K
    obtain ⟨T, V⟩ := s
    obtain ⟨o1, o2, o3⟩ := hO k hk
    refine br_f (nI_ge hk (by omega)) ⟨vp_in_nI (by omega) (by omega), nm_r (e' := nI (o k)) (by rw [nI_clamp (show k < 2 ^ 31 by omega)]; exact hor k hk) ?_⟩
    refine bk_br aff (o k) (by omega) (fun ha => nm_r (nI_1 k) (K (T, V) ?_)) (fun ha => ?_)
    · obtain ⟨u1, u2, u3⟩ := hun k hk ha
      exact bk_WI_u hO hk h ha (hold _ o1 u1 u2) u3
    · refine pk_eq (o k) c (fun e => ?_) (fun e => ?_)
      · unfold wX_write_127
        exact bk_xupd o1 (hop _ o1) (fun z => absurd z (by decide)) (fun x hx => nm_r (nI_1 k) (K (if x = a_oldValues (o k) then T else T ||| ((1 : Int32) <<< (nI (o k) &&& 31)), upd V (o k) x) (bk_WI_a hO hk h ha hx)))
      · unfold wX_write_127
        exact bk_xupd o1 (hop _ o1) (fun _ hb => hold _ o1 e hb) (fun x hx => nm_r (nI_1 k) (K (if x = a_oldValues (o k) then T else T ||| ((1 : Int32) <<< (nI (o k) &&& 31)), upd V (o k) x) (bk_WI_a hO hk h ha hx)))
/-- a cell's text as X keeps it -/
def bk_Tx (o s : Int32) : Prop := (o = -1 ∧ s = 0) ∨ (bk_O4 o ∧ bk_in16 s ∧ ∃ j, j < 16 ∧ bt s j = true)
theorem bk_Tx_in {o s : Int32} (h : bk_Tx o s) : bk_in16 s := by
  rcases h with ⟨_, h⟩ | ⟨_, h, _⟩
  · rw [h]; exact bk_in0
  · exact h
theorem bk_Tx_op {o s : Int32} (h : bk_Tx o s) : bk_Op o := by
  rcases h with ⟨h, _⟩ | ⟨h, _⟩
  · exact Or.inl h
  · exact Or.inr h
theorem bk_Tx_o {o s : Int32} (h : bk_Tx o s) : o = -1 ∨ (bk_O4 o ∧ ∃ j, j < 16 ∧ bt s j = true) := by
  rcases h with ⟨h, _⟩ | ⟨h, _, k⟩
  · exact Or.inl h
  · exact Or.inr ⟨h, k⟩
/-- the new sheet out of the old -/
def bk_New (op rs num old : Nat → Int32) (b0 : Int32) (c : Nat) (o s n b t : Int32) (v : Nat → Int32) : Prop :=
  bk_in16 b ∧ bk_Sol (upd op c o) (bk_rd (upd rs c s)) (upd num c n) (fun i => !bt b i) v ∧ t = bk_mk (fun i => (bt b0 i ^^ bt b i) || decide (¬ v i = old i)) 16
theorem bk_aff {rs : Nat → Int32} {c : Nat} {s aff : Int32} (hac : bt aff c = true) (hcl : ∀ i j, i < 16 → j < 16 → bt aff j = true → bk_rd rs i j = true → bt aff i = true)
    {i : Nat} (hi : i < 16) (h : bt aff i = false) : ¬ i = c ∧ ∀ j, j < 16 → bt (upd rs c s i) j = true → bt aff j = false := by
  have n : ¬ i = c := by
    intro e; rw [e] at h; exact bk_ft h hac
  refine ⟨n, fun j hj hb => bk_nt (fun z => ?_)⟩
  rw [pk_un n] at hb
  exact bk_ft h (hcl i j hi hj z hb)
theorem bk_affS {rs : Nat → Int32} {c : Nat} {s aff : Int32} (hac : bt aff c = true) (hcl : ∀ i j, i < 16 → j < 16 → bt aff j = true → bk_rd rs i j = true → bt aff i = true)
    {i : Nat} (h : bt aff i = false) (hs : bk_Snd (bk_rd (upd rs c s)) i) : bk_Snd (bk_rd rs) i := by
  have k : bt aff i = false → bk_Snd (bk_rd rs) i := by
    refine hs (fun i => bt aff i = false → bk_Snd (bk_rd rs) i) (fun i hi hl ha => ?_)
    obtain ⟨n, hr⟩ := bk_aff (s := s) hac hcl hi ha
    refine bk_Snd_cl _ i hi (fun l h1 h2 => ?_)
    have h3 : bk_rd (upd rs c s) i l = true := by
      show bt (upd rs c s i) l = true
      rw [pk_un n]; exact h2
    exact hl l h1 h3 (hr l h1 h3)
  exact k h
theorem bk_fin {op rs num old : Nat → Int32} {b0 : Int32} {c : Nat} {o s n fine aff T : Int32} {V v : Nat → Int32} {oo : Nat → Nat} {m : Nat}
    (hsol : bk_Sol op (bk_rd rs) num (fun i => !bt b0 i) old) (hb0 : bk_in16 b0) (hf : ∀ j, j < 16 → (bt fine j = true ↔ bk_Snd (bk_rd (upd rs c s)) j))
    (hoo : ∀ i, i < 16 → (bt fine i = true ↔ ∃ t, t < m ∧ oo t = i)) (hW : bk_WI (upd op c o) (upd rs c s) (upd num c n) old aff oo m (T, V))
    (hv : ∀ j, j < 16 → v j = if bt (65535 &&& (fine ^^^ (-1))) j = true then 0 else V j) :
    bk_New op rs num old b0 c o s n (65535 &&& (fine ^^^ (-1))) (T ||| (b0 ^^^ (65535 &&& (fine ^^^ (-1))))) v := by
  obtain ⟨w1, w2, w3, w4⟩ := hW
  dsimp only at w1 w2 w3 w4
  have hvf : ∀ j, j < 16 → bt fine j = true → v j = V j := by
    intro j hj hb
    rw [hv j hj, bk_cpl fine j hj, hb, if_neg (by decide)]
  have hv0 : ∀ j, j < 16 → bt fine j = false → v j = 0 := by
    intro j hj hb
    rw [hv j hj, bk_cpl fine j hj, hb, if_pos (by decide)]
  have kn : ∀ j, j < 16 → (!bt (65535 &&& (fine ^^^ (-1))) j) = bt fine j := by
    intro j hj
    rw [bk_cpl fine j hj, Bool.not_not]
  refine ⟨bk_cpl16 fine, ⟨fun i hi => ?_, fun i hi hb => ?_, fun i hi hb => ?_⟩, ?_⟩
  · show (!bt (65535 &&& (fine ^^^ (-1))) i) = true ↔ _
    rw [kn i hi]; exact hf i hi
  · have hb' : (!bt (65535 &&& (fine ^^^ (-1))) i) = true := hb
    rw [kn i hi] at hb'
    obtain ⟨t, ht, et⟩ := (hoo i hi).mp hb'
    have e := w1 t ht
    rw [et] at e
    rw [hvf i hi hb']
    refine bk_Ev_cg (fun j hj pj => (hvf j hj ?_).symm) e
    exact (hf j hj).mpr (bk_Snd_inv ((hf i hi).mp hb') j hj pj)
  · have hb' : (!bt (65535 &&& (fine ^^^ (-1))) i) = false := hb
    rw [kn i hi] at hb'
    exact hv0 i hi hb'
  · refine bk_eqmk _ (fun j hj => ?_) (fun j hj => ?_)
    · rw [b_or, b_xor, w3 j hj, hb0 j hj, bk_cpl16 fine j hj]; rfl
    · rw [b_or, b_xor, bk_cpl fine j hj]
      have h4 := w4 j hj
      cases x : bt b0 j <;> cases y : bt fine j
      · simp
      · have hx : (∃ t, t < m ∧ oo t = j) := (hoo j hj).mp y
        rw [hvf j hj y]
        have e : bt T j = decide (¬ V j = old j) := by
          by_cases z : V j = old j
          · rw [decide_eq_false (fun w => w z)]; exact bk_nt (fun w => (h4.mp w).2 z)
          · rw [decide_eq_true z]; exact h4.mpr ⟨hx, z⟩
        rw [e]
        cases decide (¬ V j = old j) <;> rfl
      · have hT : bt T j = false := bk_nt (fun w => by
          have q := (hoo j hj).mpr (h4.mp w).1
          rw [y] at q
          exact absurd q (by decide))
        have ho : old j = 0 := hsol.2.2 j hj (by show (!bt b0 j) = false; rw [x]; rfl)
        rw [hT, hv0 j hj y, ho]
        simp
      · simp
theorem bk_xwrite {post : SX → Prop} {c : Nat} {o s n : Int32} (hc : c < 16) (hT : ∀ i, i < 16 → bk_Tx (a_operation i) (a_reads i)) (hn : bk_Tx o s)
    (hb0 : bk_in16 f_brokenSet) (hsol : bk_Sol a_operation (bk_rd a_reads) a_number (fun i => !bt f_brokenSet i) a_values)
    (hp : ∀ (b t m : Int32) (w ord v : Nat → Int32), bk_New a_operation a_reads a_number a_values f_brokenSet c o s n b t v →
      post (b, t, f_brokenSet, m, f_pastEnd, f_pastCount, (upd a_operation c o), (upd a_reads c s), (upd a_number c n), v, w, ord, a_pastCell, a_pastOperation, a_pastReads, a_pastNumber)) :
    wpX_write post (f_brokenSet, f_touchedSet, f_oldBroken, f_ordered, f_pastEnd, f_pastCount, a_operation, a_reads, a_number, a_values, a_oldValues, a_order, a_pastCell, a_pastOperation, a_pastReads, a_pastNumber) (nI c) o s n := by
  have hR : ∀ i, i < 16 → bk_in16 (a_reads i) := fun i hi => bk_Tx_in (hT i hi)
  have hT' : ∀ i, i < 16 → bk_Tx (upd a_operation c o i) (upd a_reads c s i) := by
    intro i hi
    by_cases w : i = c
    · subst w; rw [pk_us, pk_us]; exact hn
    · rw [pk_un w, pk_un w]; exact hT i hi
  unfold wpX_write
  refine bk_xreach hc hR (fun r hr hrb => nm_e ?_)
  generalize ea : ((1 : Int32) <<< (nI c &&& 31)) ||| r = aff
  have ab : ∀ j, bt aff j = (decide (j = c) || bt r j) := by
    intro j; rw [← ea, b_or, bk_one c (by omega)]
  have hac : bt aff c = true := by rw [ab, decide_eq_true rfl]; rfl
  have hcl : ∀ i j, i < 16 → j < 16 → bt aff j = true → bk_rd a_reads i j = true → bt aff i = true := by
    intro i j hi hj h1 h2
    rw [ab, Bool.or_eq_true, decide_eq_true_iff] at h1
    rw [ab, Bool.or_eq_true]
    refine Or.inr ((hrb i hi).mpr ?_)
    rcases h1 with h1 | h1
    · rw [h1] at h2; exact bk_Rch_1 hi h2
    · exact bk_Rch_s hi hj ((hrb j hj).mp h1) h2
  refine loop_0 (fun n' i (w : Nat → Int32) => wX_write_14 post (nI c) o s n aff f_brokenSet f_touchedSet f_oldBroken f_ordered f_pastEnd f_pastCount n' (nI i) a_operation a_reads a_number a_values w a_order a_pastCell a_pastOperation a_pastReads a_pastNumber) (fun i w => ∀ j, j < i → w j = a_values j) 16 a_oldValues ?_ ?_ ?_
  · intro j hj; omega
  · intro n' w hw
    refine br_t bk_e16 ⟨bk_i16 hc, ?_⟩
    rw [bk_cl hc, bk_ob2 (bk_Tx_op hn), bk_char2 (bk_Tx_in hn)]
    refine nm_e ⟨bk_i16 hc, nm_e ⟨bk_i16 hc, nm_e ?_⟩⟩
    refine bk_xsort (fun i hi => bk_Tx_in (hT' i hi)) (fun fine ord m hm hfi hf hord => ?_)
    obtain ⟨oo, h3, h4⟩ := hord
    refine bk_xw85 (o := oo) hc hm (fun t ht => (h3 t ht).2) (fun t ht => (h3 t ht).1) (fun i hi => bk_Tx_o (hT' i hi)) (fun i hi hne hb => ?_) (fun t ht ha => ?_) (fun j hj => (hw j hj).symm) (fun T V hW => ?_)
    · rw [pk_un hne, pk_un hne, pk_un hne, hw i hi]
      exact bk_Ev_cg (fun j hj _ => (hw j hj).symm) (hsol.2.1 i hi (by show (!bt f_brokenSet i) = true; rw [hb]; rfl))
    · obtain ⟨u1, u2⟩ := bk_aff (s := s) hac hcl (h3 t ht).2.1 ha
      refine ⟨u1, ?_, u2⟩
      have sn : bk_Snd (bk_rd a_reads) (oo t) := bk_affS (s := s) hac hcl ha ((hf _ (h3 t ht).2.1).mp ((h4 _ (h3 t ht).2.1).mpr ⟨t, ht, rfl⟩))
      have kn : (!bt f_brokenSet (oo t)) = true := (hsol.1 _ (h3 t ht).2.1).mpr sn
      cases x : bt f_brokenSet (oo t)
      · rfl
      · rw [x] at kn; exact absurd kn (by decide)
    · refine bk_xw139 (fun v hv => hp _ _ _ _ _ _ (bk_fin (aff := aff) hsol hb0 hf h4 ?_ hv))
      have e : bk_WI (upd a_operation c o) (upd a_reads c s) (upd a_number c n) w aff oo m (T, V) → bk_WI (upd a_operation c o) (upd a_reads c s) (upd a_number c n) a_values aff oo m (T, V) := by
        intro ⟨w1, w2, w3, w4⟩
        exact ⟨w1, fun j hj hh => by rw [w2 j hj hh, hw j hj], w3, fun j hj => by rw [w4 j hj, hw j hj]⟩
      exact e hW
  · intro n' i w hi hw k
    refine br_f (bk_n16 hi) ⟨bk_i16 hi, bk_i16 hi, ?_⟩
    rw [bk_cl hi]
    refine nm_e (nm_r (nI_1 i) (k (upd w i (a_values i)) (fun j hj => ?_)))
    by_cases q : j = i
    · subst q; exact pk_us
    · rw [pk_un q]; exact hw j (by omega)
end
section
/-! Y's walks: small ones -/
variable {f_changes f_differ : Int32} {a_op a_one a_two a_num a_oldCell a_oldOp a_oldOne a_oldTwo a_oldNum a_known a_val a_knownThen a_valThen : Nat → Int32}
/-- one cell's text: Y's operation and corners, X's set -/
def bk_En (o a b s : Int32) : Prop := (o = -1 ∧ s = 0) ∨ (bk_O4 o ∧ ∃ a' b' : Nat, a' < 16 ∧ b' < 16 ∧ a = nI a' ∧ b = nI b' ∧ s = bk_rect a' b')
theorem bk_rect_a {a b : Nat} (ha : a < 16) : bt (bk_rect a b) a = true := by
  unfold bk_rect
  rw [bk_mkl _ ha]
  exact decide_eq_true (by omega)
theorem bk_En_Tx {o a b s : Int32} (h : bk_En o a b s) : bk_Tx o s := by
  rcases h with h | ⟨h, a', b', ha, _, _, _, e⟩
  · exact Or.inl h
  · refine Or.inr ⟨h, ?_, ⟨a', ha, ?_⟩⟩
    · rw [e]; exact bk_mk16 _
    · rw [e]; exact bk_rect_a ha
theorem bk_yC0 {post : Int32 → Prop} {x : Int32} (h : x < 0 ∨ (¬ x < 0 ∧ 16 ≤ x)) (hp : post 0) : wpY_cell post (f_changes, f_differ, a_op, a_one, a_two, a_num, a_oldCell, a_oldOp, a_oldOne, a_oldTwo, a_oldNum, a_known, a_val, a_knownThen, a_valThen) x := by
  rcases h with h | ⟨h, k⟩
  · exact br_t h hp
  · exact br_f h (br_t k hp)
theorem bk_yC1 {post : Int32 → Prop} {c : Nat} (hc : c < 16) (hp : post 1) : wpY_cell post (f_changes, f_differ, a_op, a_one, a_two, a_num, a_oldCell, a_oldOp, a_oldOne, a_oldTwo, a_oldNum, a_known, a_val, a_knownThen, a_valThen) (nI c) := br_f (nI_pos (by omega)) (br_f (bk_n16 hc) hp)
theorem bk_ybt {post : Int32 → Prop} {x p q : Nat} (hx : x < 16) (hp : p < 16) (hq : q < 16) (h1 : (min p q ≤ x ∧ x ≤ max p q) → post 1) (h0 : ¬ (min p q ≤ x ∧ x ≤ max p q) → post 0) : wpY_between post (f_changes, f_differ, a_op, a_one, a_two, a_num, a_oldCell, a_oldOp, a_oldOne, a_oldTwo, a_oldNum, a_known, a_val, a_knownThen, a_valThen) (nI x) (nI p) (nI q) := by
  unfold wpY_between
  exact pk_lt q p (fun a => pk_lt x q (fun b => h0 (by omega)) (fun b => pk_lt p x (fun c => h0 (by omega)) (fun c => h1 (by omega)))) (fun a => pk_lt x p (fun b => h0 (by omega)) (fun b => pk_lt q x (fun c => h0 (by omega)) (fun c => h1 (by omega))))
theorem bk_yin {post : Int32 → Prop} {i a b : Nat} (hi : i < 16) (ha : a < 16) (hb : b < 16) (h1 : bk_inR a b i = true → post 1) (h0 : bk_inR a b i = false → post 0) : wpY_in post (f_changes, f_differ, a_op, a_one, a_two, a_num, a_oldCell, a_oldOp, a_oldOne, a_oldTwo, a_oldNum, a_known, a_val, a_knownThen, a_valThen) (nI i) (nI a) (nI b) := by
  unfold wpY_in
  dsimp only
  rw [bk_rem4 hi, bk_rem4 ha, bk_rem4 hb, bk_div4 hi, bk_div4 ha, bk_div4 hb]
  refine ⟨bk_n4, bk_n4, bk_n4, bk_ybt (by omega) (by omega) (by omega) (fun z => br_f (by decide) ⟨bk_n4, bk_n4, bk_n4, bk_ybt (by omega) (by omega) (by omega) (fun y => br_f (by decide) (h1 ?_)) (fun y => br_t rfl (h0 ?_))⟩) (fun z => br_t rfl (h0 ?_))⟩
  · exact decide_eq_true (by omega)
  · exact decide_eq_false (by omega)
  · exact decide_eq_false (by omega)
theorem bk_yrd {post : Int32 → Prop} {rs : Nat → Int32} {f i : Nat} (hf : f < 16) (hi : i < 16) (hE : bk_En (a_op f) (a_one f) (a_two f) (rs f)) (h1 : bk_rd rs f i = true → post 1) (h0 : bk_rd rs f i = false → post 0) : wpY_reads post (f_changes, f_differ, a_op, a_one, a_two, a_num, a_oldCell, a_oldOp, a_oldOne, a_oldTwo, a_oldNum, a_known, a_val, a_knownThen, a_valThen) (nI f) (nI i) := by
  unfold wpY_reads
  dsimp only
  rw [bk_cl hf]
  refine ⟨bk_i16 hf, ?_⟩
  rcases hE with ⟨e, es⟩ | ⟨ho, a, b, ha, hb, ea, eb, es⟩
  · exact br_t (by rw [e]; decide) (h0 (by unfold bk_rd; rw [es]; exact b_0 i))
  · refine br_f (Int32.not_lt.mpr (bk_O4_ge ho)) ⟨bk_i16 hf, bk_i16 hf, ?_⟩
    rw [ea, eb]
    refine bk_yin hi ha hb (fun z => br_f (by decide) (h1 ?_)) (fun z => br_t rfl (h0 ?_))
    · unfold bk_rd; rw [es]; unfold bk_rect; rw [bk_mkl _ hi]; exact z
    · unfold bk_rd; rw [es]; unfold bk_rect; rw [bk_mkl _ hi]; exact z
theorem bk_yak {post : Int32 → Prop} {rs : Nat → Int32} {f : Nat} (hf : f < 16) (hE : ∀ f, f < 16 → bk_En (a_op f) (a_one f) (a_two f) (rs f))
    (h1 : (∀ l, l < 16 → bk_rd rs f l = true → ¬ a_known l = 0) → post 1) (h0 : (¬ ∀ l, l < 16 → bk_rd rs f l = true → ¬ a_known l = 0) → post 0) : wpY_allKnown post (f_changes, f_differ, a_op, a_one, a_two, a_num, a_oldCell, a_oldOp, a_oldOne, a_oldTwo, a_oldNum, a_known, a_val, a_knownThen, a_valThen) (nI f) := by
  unfold wpY_allKnown
  refine loop_0 (fun n i (s : Int32) => wY_allKnown_4 post (nI f) f_changes f_differ a_op a_one a_two a_num a_oldCell a_oldOp a_oldOne a_oldTwo a_oldNum a_known a_val a_knownThen a_valThen n s (nI i)) (fun i s => (s = 1 ∧ ∀ l, l < i → bk_rd rs f l = true → ¬ a_known l = 0) ∨ (s = 0 ∧ ∃ l, l < 16 ∧ bk_rd rs f l = true ∧ a_known l = 0)) 16 1 ?_ ?_ ?_
  · exact Or.inl ⟨rfl, fun l hl => by omega⟩
  · intro n s h
    rcases h with ⟨e, h⟩ | ⟨e, l, hl, h2, h3⟩
    · subst e
      exact br_t bk_e16 ⟨rfl, h1 h⟩
    · subst e
      exact br_t bk_e16 ⟨rfl, h0 (fun w => w l hl h2 h3)⟩
  · intro n i s hi h k
    rcases h with ⟨e, h⟩ | ⟨e, h⟩
    · subst e
      refine br_f (bk_n16 hi) (br_f (by decide) ⟨bk_i16 hi, ?_⟩)
      rw [bk_cl hi]
      refine br_c (fun hz => bk_yrd hf hi (hE f hf) (fun y => br_f (by decide) (nm_r (nI_1 i) (k 0 (Or.inr ⟨rfl, i, hi, y, hz⟩)))) (fun y => br_t rfl (nm_r (nI_1 i) (k 1 (Or.inl ⟨rfl, fun l hl hr => ?_⟩))))) (fun hz => nm_r (nI_1 i) (k 1 (Or.inl ⟨rfl, fun l hl hr => ?_⟩)))
      · by_cases w : l = i
        · subst w; rw [y] at hr; exact absurd hr (by decide)
        · exact h l (by omega) hr
      · by_cases w : l = i
        · subst w; exact hz
        · exact h l (by omega) hr
    · subst e
      exact br_f (bk_n16 hi) (br_t rfl (nm_r (nI_1 i) (k 0 (Or.inr ⟨rfl, h⟩))))
theorem bk_mg1 (r v : Int32) : bk_mg 1 r v = if v ≤ r then r else v := by
  unfold bk_mg
  rw [if_neg (by decide), if_neg (by decide), if_pos rfl]
theorem bk_mg2 (r v : Int32) : bk_mg 2 r v = if r ≤ v then r else v := by
  unfold bk_mg
  rw [if_neg (by decide), if_neg (by decide), if_neg (by decide)]
theorem bk_y93 {post : Int32 → Prop} {J24 : Int32 → Int32 → Int32 → Int32 → Int32 → Prop} {x1 x2 x3 x5 z0 : Int32} {i : Nat} (hi : i < 16) (hJ : J24 x2 x3 z0 (bk_mg 2 x5 (a_val i)) (nI (i + 1))) :
    wY_result_93 post J24 x1 x2 x3 x5 (nI i) z0 f_changes f_differ a_op a_one a_two a_num a_oldCell a_oldOp a_oldOne a_oldTwo a_oldNum a_known a_val a_knownThen a_valThen := by
  unfold wY_result_93
  rw [bk_cl hi]
  rw [bk_mg2] at hJ
  refine ⟨bk_i16 hi, br_c (fun h => nm_r (nI_1 i) ?_) (fun h => ⟨bk_i16 hi, nm_e (nm_r (nI_1 i) ?_)⟩)⟩
  · rw [if_pos h] at hJ; exact hJ
  · rw [if_neg h] at hJ; exact hJ
theorem bk_y67 {post : Int32 → Prop} {J24 : Int32 → Int32 → Int32 → Int32 → Int32 → Prop} {x1 x2 x4 x5 z0 z1 : Int32} {i : Nat} (hi : i < 16) (hJ : J24 x2 (z1 + z0) (bk_mg 1 x4 (a_val i)) (bk_mg 2 x5 (a_val i)) (nI (i + 1))) :
    wY_result_67 post J24 x1 x2 x4 x5 (nI i) z0 z1 f_changes f_differ a_op a_one a_two a_num a_oldCell a_oldOp a_oldOne a_oldTwo a_oldNum a_known a_val a_knownThen a_valThen := by
  unfold wY_result_67
  rw [bk_cl hi]
  rw [bk_mg1] at hJ
  refine nm_e ⟨bk_i16 hi, br_c (fun h => bk_y93 hi ?_) (fun h => ⟨bk_i16 hi, bk_y93 hi ?_⟩)⟩
  · rw [if_pos h] at hJ; exact hJ
  · rw [if_neg h] at hJ; exact hJ
theorem bk_yres {post : Int32 → Prop} {rs : Nat → Int32} {f : Nat} (hf : f < 16) (hE : ∀ f, f < 16 → bk_En (a_op f) (a_one f) (a_two f) (rs f)) (ho : ¬ a_op f = -1)
    (hp : ∀ x, bk_Ev (a_op f) (bt (rs f)) (a_num f) a_val x → post x) : wpY_result post (f_changes, f_differ, a_op, a_one, a_two, a_num, a_oldCell, a_oldOp, a_oldOne, a_oldTwo, a_oldNum, a_known, a_val, a_knownThen, a_valThen) (nI f) := by
  unfold wpY_result
  dsimp only
  rw [bk_cl hf]
  rcases hE f hf with ⟨e, _⟩ | ⟨o4, a, b, ha, hb, ea, eb, es⟩
  · exact absurd e ho
  rw [ea, bk_cl ha]
  refine ⟨bk_i16 hf, bk_i16 ha, nm_e ?_⟩
  have pa : bt (rs f) a = true := by rw [es]; exact bk_rect_a ha
  refine loop_0 (fun n i (s : Int32 × Int32 × Int32 × Int32) => wY_result_24 post (nI f) f_changes f_differ a_op a_one a_two a_num a_oldCell a_oldOp a_oldOne a_oldTwo a_oldNum a_known a_val a_knownThen a_valThen n s.1 s.2.1 s.2.2.1 s.2.2.2 (nI i))
    (fun i s => s.1 = bk_sum (bt (rs f)) a_val i ∧ s.2.1 = bk_sum (bt (rs f)) (fun j => bk_st 3 (a_val j)) i ∧ bk_Bx 1 (bt (rs f)) a_val i s.2.2.1 ∧ bk_Bx 2 (bt (rs f)) a_val i s.2.2.2) 16 (0, 0, a_val a, a_val a) ?_ ?_ ?_
  · exact ⟨rfl, rfl, ⟨⟨a, ha, pa, rfl⟩, fun j hj => by omega⟩, ⟨⟨a, ha, pa, rfl⟩, fun j hj => by omega⟩⟩
  · intro n s ⟨h1, h2, h3, h4⟩
    refine br_t bk_e16 ⟨bk_i16 hf, bk_i16 hf, ?_⟩
    rw [bk_cl hf]
    refine br_c (fun z => hp _ (Or.inr (Or.inl ⟨Or.inl z, ?_⟩))) (fun z0 => ⟨bk_i16 hf, br_c (fun z => hp _ (Or.inr (Or.inr ⟨Or.inl z, s.2.2.1, rfl, ?_⟩))) (fun z1 => ⟨bk_i16 hf, br_c (fun z => hp _ (Or.inr (Or.inr ⟨Or.inr z, s.2.2.2, rfl, ?_⟩))) (fun z2 => hp _ (Or.inr (Or.inl ⟨Or.inr ?_, ?_⟩)))⟩)⟩)
    · rw [h1, z]
      exact congrArg (fun q => a_num f + q) (bk_sum_cg 16 (fun j _ _ => (bk_st0 _).symm))
    · rw [z]; exact h3
    · rw [z]; exact h4
    · rcases o4 with w | w | w | w
      · exact absurd w z0
      · exact absurd w z1
      · exact absurd w z2
      · exact w
    · have w : a_op f = 3 := by
        rcases o4 with w | w | w | w
        · exact absurd w z0
        · exact absurd w z1
        · exact absurd w z2
        · exact w
      rw [h2, w]
  · intro n i s hi ⟨h1, h2, h3, h4⟩ k
    refine br_f (bk_n16 hi) (bk_yrd hf hi (hE f hf) (fun hz => br_f (by decide) ⟨bk_i16 hi, ?_⟩) (fun hz => br_t rfl (nm_r (nI_1 i) (k s ⟨?_, ?_, bk_Bx_f hz h3, bk_Bx_f hz h4⟩))))
    · rw [bk_cl hi]
      have hz' : bt (rs f) i = true := hz
      refine nm_e ⟨bk_i16 hi, br_c (fun h => bk_y67 hi (k (s.1 + a_val i, s.2.1 + 0, bk_mg 1 s.2.2.1 (a_val i), bk_mg 2 s.2.2.2 (a_val i)) ?_)) (fun h => bk_y67 hi (k (s.1 + a_val i, s.2.1 + 1, bk_mg 1 s.2.2.1 (a_val i), bk_mg 2 s.2.2.2 (a_val i)) ?_))⟩
      · refine ⟨?_, ?_, bk_Bx_t (Or.inl rfl) hi hz' h3, bk_Bx_t (Or.inr rfl) hi hz' h4⟩
        · rw [bk_sumt hz', h1]
        · rw [bk_sumt hz', h2, bk_st3, if_pos h]
      · refine ⟨?_, ?_, bk_Bx_t (Or.inl rfl) hi hz' h3, bk_Bx_t (Or.inr rfl) hi hz' h4⟩
        · rw [bk_sumt hz', h1]
        · rw [bk_sumt hz', h2, bk_st3, if_neg h]
    · rw [bk_sumf (p := bt (rs f)) hz]; exact h1
    · rw [bk_sumf (p := bt (rs f)) hz]; exact h2
end
section
/-! Y's work -/
variable {f_changes f_differ : Int32} {a_op a_one a_two a_num a_oldCell a_oldOp a_oldOne a_oldTwo a_oldNum a_known a_val a_knownThen a_valThen : Nat → Int32}
def bk_K01 (k : Nat → Int32) : Prop := ∀ i, i < 16 → k i = 0 ∨ k i = 1
def bk_nz (k : Nat → Int32) (i : Nat) : Bool := decide (¬ k i = 0)
theorem bk_nzt {k : Nat → Int32} {i : Nat} : bk_nz k i = true ↔ ¬ k i = 0 := decide_eq_true_iff
theorem bk_nzf {k : Nat → Int32} {i : Nat} : bk_nz k i = false ↔ k i = 0 := by
  unfold bk_nz
  rw [decide_eq_false_iff_not, Classical.not_not]
def bk_YB (op rs num : Nat → Int32) (s : (Nat → Int32) × (Nat → Int32)) : Prop :=
  bk_K01 s.1 ∧ (∀ i, i < 16 → bk_nz s.1 i = true → bk_Snd (bk_rd rs) i) ∧ (∀ i, i < 16 → bk_nz s.1 i = true → (∀ l, l < 16 → bk_rd rs i l = true → bk_nz s.1 l = true) ∧ bk_Ev (op i) (bk_rd rs i) (num i) s.2 (s.2 i)) ∧ (∀ i, i < 16 → s.1 i = 0 → s.2 i = 0)
theorem bk_YB_s {op rs num k v : Nat → Int32} {i : Nat} {x : Int32} (h : bk_YB op rs num (k, v)) (hi : i < 16) (hk : k i = 0) (hl : ∀ l, l < 16 → bk_rd rs i l = true → bk_nz k l = true) (he : bk_Ev (op i) (bk_rd rs i) (num i) v x) :
    bk_YB op rs num (upd k i 1, upd v i x) := by
  obtain ⟨h1, h2, h3, h4⟩ := h
  dsimp only at h1 h2 h3 h4
  have mono : ∀ l, bk_nz k l = true → bk_nz (upd k i 1) l = true := by
    intro l hl
    rw [bk_nzt] at hl ⊢
    by_cases w : l = i
    · subst w; rw [pk_us]; decide
    · rw [pk_un w]; exact hl
  have ni : ∀ l, bk_nz k l = true → ¬ l = i := by
    intro l hq w
    subst w
    exact bk_nzt.mp hq hk
  have back : ∀ j, ¬ j = i → bk_nz (upd k i 1) j = true → bk_nz k j = true := by
    intro j w hj
    rw [bk_nzt, pk_un w] at hj
    exact bk_nzt.mpr hj
  refine ⟨fun j hj => ?_, fun j hj hn => ?_, fun j hj hn => ?_, fun j hj hz => ?_⟩
  · dsimp only
    by_cases w : j = i
    · subst w; rw [pk_us]; exact Or.inr rfl
    · rw [pk_un w]; exact h1 j hj
  · dsimp only at hn
    by_cases w : j = i
    · subst w; exact bk_Snd_cl _ j hj (fun l h5 h6 => h2 l h5 (hl l h5 h6))
    · exact h2 j hj (back j w hn)
  · dsimp only at hn ⊢
    by_cases w : j = i
    · subst w
      refine ⟨fun l h5 h6 => mono l (hl l h5 h6), ?_⟩
      rw [pk_us]
      exact bk_Ev_cg (fun l h5 h6 => (pk_un (ni l (hl l h5 h6))).symm) he
    · obtain ⟨a, b⟩ := h3 j hj (back j w hn)
      refine ⟨fun l h5 h6 => mono l (a l h5 h6), ?_⟩
      rw [pk_un w]
      exact bk_Ev_cg (fun l h5 h6 => (pk_un (ni l (a l h5 h6))).symm) b
  · dsimp only at hz ⊢
    by_cases w : j = i
    · subst w; rw [pk_us] at hz; exact absurd hz (by decide)
    · rw [pk_un w] at hz ⊢; exact h4 j hj hz
def bk_YT (op rs num k0 : Nat → Int32) (i : Nat) (s : (Nat → Int32) × (Nat → Int32)) : Prop :=
  bk_YB op rs num s ∧ (∀ j, j < 16 → bk_nz k0 j = true → bk_nz s.1 j = true) ∧ (∀ j, j < i → (∀ l, l < 16 → bk_rd rs j l = true → bk_nz k0 l = true) → bk_nz s.1 j = true)
theorem bk_YT_k {op rs num k0 : Nat → Int32} {i : Nat} {s : (Nat → Int32) × (Nat → Int32)} (h : bk_YT op rs num k0 i s) (hc : bk_nz s.1 i = true ∨ ¬ ∀ l, l < 16 → bk_rd rs i l = true → bk_nz s.1 l = true) : bk_YT op rs num k0 (i + 1) s := by
  obtain ⟨h1, h2, h4⟩ := h
  refine ⟨h1, h2, fun j hj hl => ?_⟩
  by_cases w : j = i
  · subst w
    rcases hc with hc | hc
    · exact hc
    · exact absurd (fun l h5 h6 => h2 l h5 (hl l h5 h6)) hc
  · exact h4 j (by omega) hl
theorem bk_YT_a {op rs num k0 k v : Nat → Int32} {i : Nat} {x : Int32} (h : bk_YT op rs num k0 i (k, v)) (hi : i < 16) (hk : k i = 0) (hl : ∀ l, l < 16 → bk_rd rs i l = true → bk_nz k l = true) (he : bk_Ev (op i) (bk_rd rs i) (num i) v x) :
    bk_YT op rs num k0 (i + 1) (upd k i 1, upd v i x) := by
  obtain ⟨h1, h2, h4⟩ := h
  dsimp only at h1 h2 h4
  have mono : ∀ l, bk_nz k l = true → bk_nz (upd k i 1) l = true := by
    intro l hl
    rw [bk_nzt] at hl ⊢
    by_cases w : l = i
    · subst w; rw [pk_us]; decide
    · rw [pk_un w]; exact hl
  refine ⟨bk_YB_s h1 hi hk hl he, fun j hj hb => mono j (h2 j hj hb), fun j hj hb => ?_⟩
  dsimp only
  by_cases w : j = i
  · subst w; rw [bk_nzt, pk_us]; decide
  · exact mono j (h4 j (by omega) hb)
theorem bk_y69 {post : SY → Prop} {J61 : Int32 → (Nat → Int32) → (Nat → Int32) → (Nat → Int32) → (Nat → Int32) → (Nat → Int32) → (Nat → Int32) → (Nat → Int32) → (Nat → Int32) → (Nat → Int32) → (Nat → Int32) → (Nat → Int32) → (Nat → Int32) → (Nat → Int32) → Prop} {r : Nat} {rs k v : Nat → Int32}
    (hE : ∀ f, f < 16 → bk_En (a_op f) (a_one f) (a_two f) (rs f)) (h0 : bk_YB a_op rs a_num (k, v)) (hc : ∀ i, i < 16 → a_op i = -1 → bk_nz k i = true)
    (hJ : ∀ s : (Nat → Int32) × (Nat → Int32), bk_YT a_op rs a_num k 16 s → J61 (nI (r + 1)) a_op a_one a_two a_num a_oldCell a_oldOp a_oldOne a_oldTwo a_oldNum s.1 s.2 a_knownThen a_valThen) :
    ∃ n, wY_work_69 post J61 (nI r) f_changes f_differ n 0 a_op a_one a_two a_num a_oldCell a_oldOp a_oldOne a_oldTwo a_oldNum k v a_knownThen a_valThen := by
  refine loop_0 (fun n i (s : (Nat → Int32) × (Nat → Int32)) => wY_work_69 post J61 (nI r) f_changes f_differ n (nI i) a_op a_one a_two a_num a_oldCell a_oldOp a_oldOne a_oldTwo a_oldNum s.1 s.2 a_knownThen a_valThen) (fun i s => bk_YT a_op rs a_num k i s) 16 (k, v) ?_ ?_ ?_
  · exact ⟨h0, fun j _ h => h, fun j hj => by omega⟩
  · intro n s h
    exact br_t bk_e16 (nm_r (nI_1 r) (hJ s h))
  · intro n i s hi h K
    obtain ⟨k1, v1⟩ := s
    refine br_f (bk_n16 hi) ⟨bk_i16 hi, ?_⟩
    rw [bk_cl hi]
    refine br_c (fun hz => ?_) (fun hz => nm_r (nI_1 i) (K (k1, v1) (bk_YT_k h (Or.inl (bk_nzt.mpr hz)))))
    refine bk_yak hi hE (fun hl => br_f (by decide) ?_) (fun hl => br_t rfl (nm_r (nI_1 i) (K (k1, v1) (bk_YT_k h (Or.inr (fun w => hl (fun l h1 h2 => bk_nzt.mp (w l h1 h2))))))))
    have hop : ¬ a_op i = -1 := by
      intro e
      have q := h.2.1 i hi (hc i hi e)
      exact bk_nzt.mp q hz
    refine bk_yres hi hE hop (fun x hx => ⟨bk_i16 hi, ?_⟩)
    exact nm_e ⟨bk_i16 hi, nm_r (e' := upd k1 i 1) rfl (nm_r (nI_1 i) (K (upd k1 i 1, upd v1 i x) (bk_YT_a h hi hz (fun l h1 h2 => bk_nzt.mpr (hl l h1 h2)) hx)))⟩
theorem bk_y61 {post : SY → Prop} {rs k v : Nat → Int32}
    (hE : ∀ f, f < 16 → bk_En (a_op f) (a_one f) (a_two f) (rs f)) (h0 : bk_YB a_op rs a_num (k, v)) (hc : ∀ i, i < 16 → a_op i = -1 → bk_nz k i = true)
    (hp : ∀ k v : Nat → Int32, bk_K01 k → bk_Sol a_op (bk_rd rs) a_num (bk_nz k) v → post (f_changes, f_differ, a_op, a_one, a_two, a_num, a_oldCell, a_oldOp, a_oldOne, a_oldTwo, a_oldNum, k, v, a_knownThen, a_valThen)) :
    ∃ n, wY_work_61 post f_changes f_differ n 0 a_op a_one a_two a_num a_oldCell a_oldOp a_oldOne a_oldTwo a_oldNum k v a_knownThen a_valThen := by
  refine loop_0 (fun n r (s : (Nat → Int32) × (Nat → Int32)) => wY_work_61 post f_changes f_differ n (nI r) a_op a_one a_two a_num a_oldCell a_oldOp a_oldOne a_oldTwo a_oldNum s.1 s.2 a_knownThen a_valThen) (fun r s => (bk_YB a_op rs a_num s ∧ ∀ i, i < 16 → a_op i = -1 → bk_nz s.1 i = true) ∧ (bk_Cb (bk_rd rs) (bk_nz s.1) ∨ r ≤ bk_cn (bk_nz s.1) 16)) 16 (k, v) ?_ ?_ ?_
  · exact ⟨⟨h0, hc⟩, Or.inr (Nat.zero_le _)⟩
  · intro n s ⟨⟨⟨h1, h2, h3, h4⟩, _⟩, h5⟩
    refine br_t bk_e16 (hp s.1 s.2 h1 ⟨bk_rend h5 h2, fun i hi hn => (h3 i hi hn).2, fun i hi hn => h4 i hi (bk_nzf.mp hn)⟩)
  · intro n r s hr ⟨⟨h, h'⟩, h5⟩ K
    obtain ⟨k1, v1⟩ := s
    refine br_f (bk_n16 hr) (bk_y69 hE h h' (fun s hs => K s ⟨⟨hs.1, fun i hi e => hs.2.1 i hi (h' i hi e)⟩, ?_⟩))
    exact bk_rnd h5 hs.2.1 hs.1.2.1 hs.2.2
theorem bk_En_lt {o a b s : Int32} (h : bk_En o a b s) : 0 ≤ o ↔ ¬ o = -1 := by
  rcases h with ⟨e, _⟩ | ⟨e, _⟩
  · subst e; decide
  · rcases e with e | e | e | e <;> (subst e; decide)
theorem bk_ywork {post : SY → Prop} {rs : Nat → Int32} (hE : ∀ f, f < 16 → bk_En (a_op f) (a_one f) (a_two f) (rs f))
    (hp : ∀ k v : Nat → Int32, bk_K01 k → bk_Sol a_op (bk_rd rs) a_num (bk_nz k) v → post (f_changes, f_differ, a_op, a_one, a_two, a_num, a_oldCell, a_oldOp, a_oldOne, a_oldTwo, a_oldNum, k, v, a_knownThen, a_valThen)) : wpY_work post (f_changes, f_differ, a_op, a_one, a_two, a_num, a_oldCell, a_oldOp, a_oldOne, a_oldTwo, a_oldNum, a_known, a_val, a_knownThen, a_valThen) := by
  unfold wpY_work
  refine loop_0 (fun n i (s : (Nat → Int32) × (Nat → Int32)) => wY_work_2 post f_changes f_differ n (nI i) a_op a_one a_two a_num a_oldCell a_oldOp a_oldOne a_oldTwo a_oldNum s.1 s.2 a_knownThen a_valThen)
    (fun i s => ∀ j, j < i → (a_op j = -1 → s.1 j = 1 ∧ s.2 j = a_num j) ∧ (¬ a_op j = -1 → s.1 j = 0 ∧ s.2 j = 0)) 16 (a_known, a_val) ?_ ?_ ?_
  · intro j hj; omega
  · intro n s h
    obtain ⟨k, v⟩ := s
    dsimp only at h
    have n1 : ∀ i, i < 16 → bk_nz k i = true → a_op i = -1 := by
      intro i hi hn
      apply Classical.byContradiction
      intro w
      exact bk_nzt.mp hn ((h i hi).2 w).1
    have rf : ∀ i, i < 16 → a_op i = -1 → ∀ l, bk_rd rs i l = false := by
      intro i hi e l
      rcases hE i hi with ⟨_, es⟩ | ⟨o4, _⟩
      · unfold bk_rd; rw [es]; exact b_0 l
      · rw [e] at o4; exact absurd o4 (by unfold bk_O4; decide)
    refine br_t bk_e16 (bk_y61 hE ⟨fun i hi => ?_, fun i hi hn => ?_, fun i hi hn => ⟨fun l _ hr => ?_, Or.inl ⟨n1 i hi hn, ((h i hi).1 (n1 i hi hn)).2⟩⟩, fun i hi hz => ?_⟩ (fun i hi e => ?_) hp)
    · by_cases e : a_op i = -1
      · exact Or.inr ((h i hi).1 e).1
      · exact Or.inl ((h i hi).2 e).1
    · refine bk_Snd_cl _ i hi (fun l _ hr => ?_)
      rw [rf i hi (n1 i hi hn) l] at hr
      exact absurd hr (by decide)
    · rw [rf i hi (n1 i hi hn) l] at hr
      exact absurd hr (by decide)
    · by_cases e : a_op i = -1
      · have q := ((h i hi).1 e).1
        dsimp only at hz
        rw [hz] at q
        exact absurd q (by decide)
      · exact ((h i hi).2 e).2
    · dsimp only; rw [bk_nzt, ((h i hi).1 e).1]; decide
  · intro n i s hi h K
    obtain ⟨k, v⟩ := s
    dsimp only at h
    have lt := bk_En_lt (hE i hi)
    refine br_f (bk_n16 hi) ⟨bk_i16 hi, ?_⟩
    rw [bk_cl hi]
    refine br_c (fun hz => ?_) (fun hz => ?_)
    · unfold wY_work_27
      rw [bk_cl hi]
      refine ⟨bk_i16 hi, nm_r (e' := upd k i 0) rfl ⟨bk_i16 hi, br_t hz ⟨bk_i16 hi, nm_e (nm_r (nI_1 i) (K (upd k i 0, upd v i 0) (fun j hj => ?_)))⟩⟩⟩
      dsimp only
      by_cases w : j = i
      · subst w
        rw [pk_us, pk_us]
        exact ⟨fun e => absurd e (lt.mp hz), fun _ => ⟨rfl, rfl⟩⟩
      · rw [pk_un w, pk_un w]; exact h j (by omega)
    · unfold wY_work_27
      rw [bk_cl hi]
      refine ⟨bk_i16 hi, nm_r (e' := upd k i 1) rfl ⟨bk_i16 hi, br_f hz ⟨bk_i16 hi, bk_i16 hi, nm_e (nm_r (nI_1 i) (K (upd k i 1, upd v i (a_num i)) (fun j hj => ?_)))⟩⟩⟩
      dsimp only
      by_cases w : j = i
      · subst w
        rw [pk_us, pk_us]
        exact ⟨fun _ => ⟨rfl, rfl⟩, fun e => absurd (lt.mpr e) hz⟩
      · rw [pk_un w, pk_un w]; exact h j (by omega)
end
section
/-! Y's changes -/
variable {f_changes f_differ : Int32} {a_op a_one a_two a_num a_oldCell a_oldOp a_oldOne a_oldTwo a_oldNum a_known a_val a_knownThen a_valThen : Nat → Int32}
theorem bk_bool {x : Int32} (h : x = 0 ∨ x = 1) : vp_nar .boolean x = x := by
  rcases h with h | h <;> (subst h; rfl)
theorem bk_ybefore {post : SY → Prop} {rs : Nat → Int32} (hE : ∀ f, f < 16 → bk_En (a_op f) (a_one f) (a_two f) (rs f))
    (hp : ∀ k v kt vt : Nat → Int32, bk_K01 k → bk_Sol a_op (bk_rd rs) a_num (bk_nz k) v → (∀ i, i < 16 → kt i = k i ∧ vt i = v i) → post (f_changes, f_differ, a_op, a_one, a_two, a_num, a_oldCell, a_oldOp, a_oldOne, a_oldTwo, a_oldNum, k, v, kt, vt)) : wpY_before post (f_changes, f_differ, a_op, a_one, a_two, a_num, a_oldCell, a_oldOp, a_oldOne, a_oldTwo, a_oldNum, a_known, a_val, a_knownThen, a_valThen) := by
  unfold wpY_before
  refine bk_ywork hE (fun k v hk hs => ?_)
  refine loop_0 (fun n i (s : (Nat → Int32) × (Nat → Int32)) => wY_before_6 post f_changes f_differ n (nI i) a_op a_one a_two a_num a_oldCell a_oldOp a_oldOne a_oldTwo a_oldNum k v s.1 s.2) (fun i s => ∀ j, j < i → s.1 j = k j ∧ s.2 j = v j) 16 (a_knownThen, a_valThen) ?_ ?_ ?_
  · intro j hj; omega
  · intro n s h
    exact br_t bk_e16 (hp k v s.1 s.2 hk hs h)
  · intro n i s hi h K
    refine br_f (bk_n16 hi) ⟨bk_i16 hi, bk_i16 hi, ?_⟩
    rw [bk_cl hi, bk_bool (hk i hi)]
    refine nm_e ⟨bk_i16 hi, bk_i16 hi, nm_e (nm_r (nI_1 i) (K (upd s.1 i (k i), upd s.2 i (v i)) (fun j hj => ?_)))⟩
    dsimp only
    by_cases w : j = i
    · subst w; rw [pk_us, pk_us]; exact ⟨rfl, rfl⟩
    · rw [pk_un w, pk_un w]; exact h j (by omega)
theorem bk_yafter {post : SY → Prop} {rs : Nat → Int32} (hE : ∀ f, f < 16 → bk_En (a_op f) (a_one f) (a_two f) (rs f))
    (hp : ∀ k v : Nat → Int32, bk_K01 k → bk_Sol a_op (bk_rd rs) a_num (bk_nz k) v → post (f_changes, (bk_mk (fun i => decide (¬ (k i = a_knownThen i ∧ v i = a_valThen i))) 16), a_op, a_one, a_two, a_num, a_oldCell, a_oldOp, a_oldOne, a_oldTwo, a_oldNum, k, v, a_knownThen, a_valThen)) : wpY_after post (f_changes, f_differ, a_op, a_one, a_two, a_num, a_oldCell, a_oldOp, a_oldOne, a_oldTwo, a_oldNum, a_known, a_val, a_knownThen, a_valThen) := by
  unfold wpY_after
  refine bk_ywork hE (fun k v hk hs => ?_)
  refine loop_0 (fun n i (d : Int32) => wY_after_11 post f_changes a_op a_one a_two a_num a_oldCell a_oldOp a_oldOne a_oldTwo a_oldNum k v a_knownThen a_valThen n (nI i) d) (fun i d => d = bk_mk (fun i => decide (¬ (k i = a_knownThen i ∧ v i = a_valThen i))) i) 16 0 rfl ?_ ?_
  · intro n d h
    subst h
    exact br_t bk_e16 (hp k v hk hs)
  · intro n i d hi h K
    refine br_f (bk_n16 hi) ⟨bk_i16 hi, bk_i16 hi, ?_⟩
    rw [bk_cl hi]
    refine br_c (fun h1 => ⟨bk_i16 hi, bk_i16 hi, br_c (fun h2 => nm_e (nm_r (nI_1 i) (K _ ?_))) (fun h2 => ?_)⟩) (fun h1 => ?_)
    · rw [h, bk_mkf (decide_eq_false (fun w => w ⟨h1, h2⟩))]
      exact Int32.or_zero
    · unfold wY_after_52
      refine nm_e (nm_r (nI_1 i) (K _ ?_))
      have q : ¬ (k i = a_knownThen i ∧ v i = a_valThen i) := fun w => h2 w.2
      rw [h]; exact (bk_mkt (p := fun i => decide (¬ (k i = a_knownThen i ∧ v i = a_valThen i))) (decide_eq_true q)).symm
    · unfold wY_after_52
      refine nm_e (nm_r (nI_1 i) (K _ ?_))
      have q : ¬ (k i = a_knownThen i ∧ v i = a_valThen i) := fun w => h1 w.1
      rw [h]; exact (bk_mkt (p := fun i => decide (¬ (k i = a_knownThen i ∧ v i = a_valThen i))) (decide_eq_true q)).symm
theorem bk_yhold {post : SY → Prop} {c : Nat} {o a b n : Int32} (hc : c < 16) (hp : post (f_changes, f_differ, (upd a_op c o), (upd a_one c a), (upd a_two c b), (upd a_num c n), a_oldCell, a_oldOp, a_oldOne, a_oldTwo, a_oldNum, a_known, a_val, a_knownThen, a_valThen)) : wpY_hold post (f_changes, f_differ, a_op, a_one, a_two, a_num, a_oldCell, a_oldOp, a_oldOne, a_oldTwo, a_oldNum, a_known, a_val, a_knownThen, a_valThen) (nI c) o a b n := by
  unfold wpY_hold
  dsimp only
  rw [bk_cl hc]
  exact ⟨bk_i16 hc, nm_e ⟨bk_i16 hc, nm_e ⟨bk_i16 hc, nm_e ⟨bk_i16 hc, nm_e hp⟩⟩⟩⟩
theorem bk_En_upd {rs : Nat → Int32} {c : Nat} {o a b s : Int32} (hE : ∀ f, f < 16 → bk_En (a_op f) (a_one f) (a_two f) (rs f)) (hn : bk_En o a b s) :
    ∀ f, f < 16 → bk_En (upd a_op c o f) (upd a_one c a f) (upd a_two c b f) (upd rs c s f) := by
  intro f hf
  by_cases w : f = c
  · subst w; rw [pk_us, pk_us, pk_us, pk_us]; exact hn
  · rw [pk_un w, pk_un w, pk_un w, pk_un w]; exact hE f hf
theorem bk_y115 {post : SY → Prop} {rs : Nat → Int32} {c m : Nat} {o a b n s : Int32} (hc : c < 16) (hm : m < 8) (hE : ∀ f, f < 16 → bk_En (a_op f) (a_one f) (a_two f) (rs f)) (hn : bk_En o a b s)
    (hp : ∀ k v : Nat → Int32, bk_K01 k → bk_Sol (upd a_op c o) (bk_rd (upd rs c s)) (upd a_num c n) (bk_nz k) v →
      post ((nI (m + 1)), (bk_mk (fun i => decide (¬ (k i = a_knownThen i ∧ v i = a_valThen i))) 16), (upd a_op c o), (upd a_one c a), (upd a_two c b), (upd a_num c n), (upd a_oldCell m (nI c)), (upd a_oldOp m (a_op c)), (upd a_oldOne m (a_one c)), (upd a_oldTwo m (a_two c)), (upd a_oldNum m (a_num c)), k, v, a_knownThen, a_valThen)) :
    wY_change_115 post (nI c) o a b n (nI m) f_differ a_op a_one a_two a_num a_oldCell a_oldOp a_oldOne a_oldTwo a_oldNum a_known a_val a_knownThen a_valThen := by
  unfold wY_change_115
  rw [bk_cl hc, nI_clamp (show m < 2 ^ 31 by omega)]
  refine ⟨bk_i8 hm, nm_e ⟨bk_i16 hc, bk_i8 hm, nm_e ⟨bk_i16 hc, bk_i8 hm, nm_e ⟨bk_i16 hc, bk_i8 hm, nm_e ⟨bk_i16 hc, bk_i8 hm, nm_e (nm_r (nI_1 m) ?_)⟩⟩⟩⟩⟩
  exact bk_yhold hc (bk_yafter (bk_En_upd hE hn) hp)
/-- shifted by one below i -/
def bk_Sh (i : Nat) (a b : Nat → Int32) : Prop := (∀ t, t < i → b t = a (t + 1)) ∧ ∀ t, i ≤ t → b t = a t
theorem bk_Sh_s {i : Nat} {a b : Nat → Int32} (h : bk_Sh i a b) : bk_Sh (i + 1) a (upd b i (b (i + 1))) := by
  refine ⟨fun t ht => ?_, fun t ht => ?_⟩
  · by_cases w : t = i
    · subst w; rw [pk_us]; exact h.2 _ (by omega)
    · rw [pk_un w]; exact h.1 t (by omega)
  · rw [pk_un (by omega)]; exact h.2 t (by omega)
theorem bk_y16 {post : SY → Prop} {x1 x2 x3 x4 x5 : Int32}
    (hp : ∀ c1 c2 c3 c4 c5 : Nat → Int32, bk_Sh 7 a_oldCell c1 → bk_Sh 7 a_oldOp c2 → bk_Sh 7 a_oldOne c3 → bk_Sh 7 a_oldTwo c4 → bk_Sh 7 a_oldNum c5 →
      wY_change_115 post x1 x2 x3 x4 x5 (nI 7) f_differ a_op a_one a_two a_num c1 c2 c3 c4 c5 a_known a_val a_knownThen a_valThen) :
    ∃ n, wY_change_16 post x1 x2 x3 x4 x5 f_changes f_differ n 0 a_op a_one a_two a_num a_oldCell a_oldOp a_oldOne a_oldTwo a_oldNum a_known a_val a_knownThen a_valThen := by
  refine loop_0 (fun n i (s : (Nat → Int32) × (Nat → Int32) × (Nat → Int32) × (Nat → Int32) × (Nat → Int32)) => wY_change_16 post x1 x2 x3 x4 x5 f_changes f_differ n (nI i) a_op a_one a_two a_num s.1 s.2.1 s.2.2.1 s.2.2.2.1 s.2.2.2.2 a_known a_val a_knownThen a_valThen)
    (fun i s => bk_Sh i a_oldCell s.1 ∧ bk_Sh i a_oldOp s.2.1 ∧ bk_Sh i a_oldOne s.2.2.1 ∧ bk_Sh i a_oldTwo s.2.2.2.1 ∧ bk_Sh i a_oldNum s.2.2.2.2) 7 (a_oldCell, a_oldOp, a_oldOne, a_oldTwo, a_oldNum) ?_ ?_ ?_
  · have q : ∀ a : Nat → Int32, bk_Sh 0 a a := fun a => ⟨fun t ht => by omega, fun t _ => rfl⟩
    exact ⟨q _, q _, q _, q _, q _⟩
  · intro n s ⟨h1, h2, h3, h4, h5⟩
    exact br_t (nI_le (a := 7) (b := 7) (by omega) (by decide)) (hp _ _ _ _ _ h1 h2 h3 h4 h5)
  · intro n i s hi ⟨h1, h2, h3, h4, h5⟩ K
    have v1 : vp_in (nI i) 8 := vp_in_nI (by omega) (by omega)
    have v2 : vp_in (nI (i + 1)) 8 := vp_in_nI (by omega) (by omega)
    refine br_f (nI_ge (b := 7) hi (by decide)) ?_
    rw [nI_1 i, nI_clamp (show i < 2 ^ 31 by omega), nI_clamp (show i + 1 < 2 ^ 31 by omega)]
    exact ⟨v2, v1, nm_e ⟨v2, v1, nm_e ⟨v2, v1, nm_e ⟨v2, v1, nm_e ⟨v2, v1, nm_e (nm_e (K (upd s.1 i (s.1 (i + 1)), upd s.2.1 i (s.2.1 (i + 1)), upd s.2.2.1 i (s.2.2.1 (i + 1)), upd s.2.2.2.1 i (s.2.2.2.1 (i + 1)), upd s.2.2.2.2 i (s.2.2.2.2 (i + 1))) ⟨bk_Sh_s h1, bk_Sh_s h2, bk_Sh_s h3, bk_Sh_s h4, bk_Sh_s h5⟩))⟩⟩⟩⟩⟩
/-- x put behind the m remembered ones -/
def bk_Push (m : Nat) (a : Nat → Int32) (x : Int32) (b : Nat → Int32) : Prop := (m < 8 → b m = x ∧ ∀ t, t < m → b t = a t) ∧ (m = 8 → b 7 = x ∧ ∀ t, t < 7 → b t = a (t + 1))
theorem bk_Push_lt {m : Nat} {a : Nat → Int32} {x : Int32} (hm : m < 8) : bk_Push m a x (upd a m x) :=
  ⟨fun _ => ⟨pk_us, fun t ht => pk_un (by omega)⟩, fun e => by omega⟩
theorem bk_Push_8 {a b : Nat → Int32} {x : Int32} (h : bk_Sh 7 a b) : bk_Push 8 a x (upd b 7 x) :=
  ⟨fun e => by omega, fun _ => ⟨pk_us, fun t ht => by rw [pk_un (by omega)]; exact h.1 t ht⟩⟩
/-- what differs between the sheet before and behind a change -/
def bk_YN (op rs num op' rs' num' : Nat → Int32) (d : Int32) : Prop :=
  ∃ k0 v0 k v : Nat → Int32, bk_K01 k0 ∧ bk_K01 k ∧ bk_Sol op (bk_rd rs) num (bk_nz k0) v0 ∧ bk_Sol op' (bk_rd rs') num' (bk_nz k) v ∧ d = bk_mk (fun i => decide (¬ (k i = k0 i ∧ v i = v0 i))) 16
theorem bk_mk_cg {p q : Nat → Bool} (h : ∀ i, i < 16 → p i = q i) : bk_mk p 16 = bk_mk q 16 :=
  bk_ext16 (bk_mk16 p) (bk_mk16 q) (fun j hj => by rw [bk_mkl p hj, bk_mkl q hj, h j hj])
theorem bk_YN_i {op rs num op' rs' num' k0 v0 k v kt vt : Nat → Int32} (h1 : bk_K01 k0) (h2 : bk_K01 k) (h3 : bk_Sol op (bk_rd rs) num (bk_nz k0) v0) (h4 : bk_Sol op' (bk_rd rs') num' (bk_nz k) v) (h5 : ∀ i, i < 16 → kt i = k0 i ∧ vt i = v0 i) :
    bk_YN op rs num op' rs' num' (bk_mk (fun i => decide (¬ (k i = kt i ∧ v i = vt i))) 16) := by
  refine ⟨k0, v0, k, v, h1, h2, h3, h4, bk_mk_cg (fun i hi => ?_)⟩
  rw [(h5 i hi).1, (h5 i hi).2]
theorem bk_ychange {post : SY → Prop} {rs : Nat → Int32} {c m : Nat} {o a b n s : Int32} (hc : c < 16) (hm : m ≤ 8) (hE : ∀ f, f < 16 → bk_En (a_op f) (a_one f) (a_two f) (rs f)) (hn : bk_En o a b s)
    (hp : ∀ (c1 c2 c3 c4 c5 k v kt vt : Nat → Int32) (d : Int32), bk_Push m a_oldCell (nI c) c1 → bk_Push m a_oldOp (a_op c) c2 → bk_Push m a_oldOne (a_one c) c3 → bk_Push m a_oldTwo (a_two c) c4 → bk_Push m a_oldNum (a_num c) c5 →
      bk_YN a_op rs a_num (upd a_op c o) (upd rs c s) (upd a_num c n) d →
      post ((nI (if m < 8 then m + 1 else 8)), d, (upd a_op c o), (upd a_one c a), (upd a_two c b), (upd a_num c n), c1, c2, c3, c4, c5, k, v, kt, vt)) :
    wpY_change post ((nI m), f_differ, a_op, a_one, a_two, a_num, a_oldCell, a_oldOp, a_oldOne, a_oldTwo, a_oldNum, a_known, a_val, a_knownThen, a_valThen) (nI c) o a b n := by
  unfold wpY_change
  refine bk_ybefore hE (fun k0 v0 kt vt h1 h2 h3 => ?_)
  refine pk_eq m 8 (fun e => bk_y16 (fun c1 c2 c3 c4 c5 s1 s2 s3 s4 s5 => ?_)) (fun e => ?_)
  · subst e
    rw [if_neg (by omega)] at hp
    exact bk_y115 hc (by omega) hE hn (fun k v h4 h5 => hp _ _ _ _ _ k v kt vt _ (bk_Push_8 s1) (bk_Push_8 s2) (bk_Push_8 s3) (bk_Push_8 s4) (bk_Push_8 s5) (bk_YN_i h1 h4 h2 h5 h3))
  · have e' : m < 8 := by omega
    rw [if_pos e'] at hp
    exact bk_y115 hc e' hE hn (fun k v h4 h5 => hp _ _ _ _ _ k v kt vt _ (bk_Push_lt e') (bk_Push_lt e') (bk_Push_lt e') (bk_Push_lt e') (bk_Push_lt e') (bk_YN_i h1 h4 h2 h5 h3))
theorem bk_yundo {post : Int32 → SY → Prop} {rs : Nat → Int32} {c m : Nat} {s : Int32} (hc : c < 16) (hm : m < 8) (hE : ∀ f, f < 16 → bk_En (a_op f) (a_one f) (a_two f) (rs f)) (ec : a_oldCell m = nI c) (hn : bk_En (a_oldOp m) (a_oldOne m) (a_oldTwo m) s)
    (hp : ∀ (k v kt vt : Nat → Int32) (d : Int32), bk_YN a_op rs a_num (upd a_op c (a_oldOp m)) (upd rs c s) (upd a_num c (a_oldNum m)) d →
      post (nI c) ((nI m), d, (upd a_op c (a_oldOp m)), (upd a_one c (a_oldOne m)), (upd a_two c (a_oldTwo m)), (upd a_num c (a_oldNum m)), a_oldCell, a_oldOp, a_oldOne, a_oldTwo, a_oldNum, k, v, kt, vt)) :
    wpY_undo post ((nI (m + 1)), f_differ, a_op, a_one, a_two, a_num, a_oldCell, a_oldOp, a_oldOne, a_oldTwo, a_oldNum, a_known, a_val, a_knownThen, a_valThen) := by
  unfold wpY_undo
  refine br_f (nI_ne0 (by omega) (by omega)) (bk_ybefore hE (fun k0 v0 kt vt h1 h2 h3 => nm_r (nI_pred m) ?_))
  rw [nI_clamp (show m < 2 ^ 31 by omega)]
  refine ⟨bk_i8 hm, nm_r ec ⟨bk_i8 hm, bk_i8 hm, bk_i8 hm, bk_i8 hm, ?_⟩⟩
  exact bk_yhold hc (bk_yafter (bk_En_upd hE hn) (fun k v h4 h5 => hp k v kt vt _ (bk_YN_i h1 h4 h2 h5 h3)))
end
section
/-! the questions: Y's loops, and X's total and most -/
section
variable {f_changes f_differ : Int32} {a_op a_one a_two a_num a_oldCell a_oldOp a_oldOne a_oldTwo a_oldNum a_known a_val a_knownThen a_valThen : Nat → Int32}
theorem bk_ybc {post : Int32 → SY → Prop} (hp : post (bk_mk (fun i => decide (a_known i = 0)) 16) (f_changes, f_differ, a_op, a_one, a_two, a_num, a_oldCell, a_oldOp, a_oldOne, a_oldTwo, a_oldNum, a_known, a_val, a_knownThen, a_valThen)) : ∃ n, wY_brokenCells_8 post f_changes f_differ a_op a_one a_two a_num a_oldCell a_oldOp a_oldOne a_oldTwo a_oldNum a_known a_val a_knownThen a_valThen n 0 0 := by
  refine loop_0 (fun n i (x : Int32) => wY_brokenCells_8 post f_changes f_differ a_op a_one a_two a_num a_oldCell a_oldOp a_oldOne a_oldTwo a_oldNum a_known a_val a_knownThen a_valThen n x (nI i)) (fun i x => x = bk_mk (fun i => decide (a_known i = 0)) i) 16 0 rfl ?_ ?_
  · intro n x h
    subst h
    exact br_t bk_e16 hp
  · intro n i x hi h K
    refine br_f (bk_n16 hi) ⟨bk_i16 hi, ?_⟩
    rw [bk_cl hi]
    refine br_c (fun z => nm_e (nm_r (nI_1 i) (K _ ?_))) (fun z => nm_e (nm_r (nI_1 i) (K _ ?_)))
    · rw [h]; exact (bk_mkt (p := fun i => decide (a_known i = 0)) (decide_eq_true z)).symm
    · rw [h, Int32.or_zero]; exact (bk_mkf (p := fun i => decide (a_known i = 0)) (decide_eq_false z)).symm
theorem bk_yrs {post : Int32 → Prop} {rs : Nat → Int32} {c : Nat} (hc : c < 16) (hE : ∀ f, f < 16 → bk_En (a_op f) (a_one f) (a_two f) (rs f)) (hp : post (bk_mk (fun f => bk_rd rs f c) 16)) : wpY_readers post (f_changes, f_differ, a_op, a_one, a_two, a_num, a_oldCell, a_oldOp, a_oldOne, a_oldTwo, a_oldNum, a_known, a_val, a_knownThen, a_valThen) (nI c) := by
  unfold wpY_readers
  refine loop_0 (fun n i (x : Int32) => wY_readers_4 post (nI c) f_changes f_differ a_op a_one a_two a_num a_oldCell a_oldOp a_oldOne a_oldTwo a_oldNum a_known a_val a_knownThen a_valThen n x (nI i)) (fun i x => x = bk_mk (fun f => bk_rd rs f c) i) 16 0 rfl ?_ ?_
  · intro n x h
    subst h
    exact br_t bk_e16 hp
  · intro n i x hi h K
    refine br_f (bk_n16 hi) (bk_yC1 hc (br_f (by decide) (bk_yrd hi hc (hE i hi) (fun z => br_f (by decide) (nm_e (nm_r (nI_1 i) (K _ ?_)))) (fun z => br_t rfl (nm_e (nm_r (nI_1 i) (K _ ?_)))))))
    · rw [h]; exact (bk_mkt (p := fun f => bk_rd rs f c) z).symm
    · rw [h, Int32.or_zero]; exact (bk_mkf (p := fun f => bk_rd rs f c) z).symm
theorem bk_yrs0 {post : Int32 → Prop} {x : Int32} (h : x < 0 ∨ (¬ x < 0 ∧ 16 ≤ x)) (hp : post 0) : wpY_readers post (f_changes, f_differ, a_op, a_one, a_two, a_num, a_oldCell, a_oldOp, a_oldOne, a_oldTwo, a_oldNum, a_known, a_val, a_knownThen, a_valThen) x :=
  ⟨1, br_f (bk_n16 (i := 0) (by omega)) (bk_yC0 h (br_t rfl hp))⟩
/-- within a pass that began with s0, at the turn of cell i -/
def bk_DI (rs : Nat → Int32) (c : Nat) (s0 : Int32) (i : Nat) (s : Int32) : Prop :=
  bk_in16 s ∧ (∀ f, f < 16 → bt s0 f = true → bt s f = true) ∧ (∀ f, f < 16 → bt s f = true → bk_Rch (bk_rd rs) c f) ∧ (∀ j, j < i → bt s0 j = true → ∀ f, f < 16 → bk_rd rs f j = true → bt s f = true) ∧ (bk_Rb (bk_rd rs) s0 → ∀ f, f < 16 → bt s f = true → bt s0 f = true)
theorem bk_DI_a {rs : Nat → Int32} {c : Nat} {s0 s : Int32} {i : Nat} (h : bk_DI rs c s0 i s) (hi : i < 16) (hz : bt s i = true) : bk_DI rs c s0 (i + 1) (s ||| bk_mk (fun f => bk_rd rs f i) 16) := by
  obtain ⟨h1, h2, h3, h4, h5⟩ := h
  have bits : ∀ f, f < 16 → (bt (s ||| bk_mk (fun f => bk_rd rs f i) 16) f = true ↔ bt s f = true ∨ bk_rd rs f i = true) := by
    intro f hf
    rw [b_or, Bool.or_eq_true, bk_mkl _ hf]
  refine ⟨bk_inor h1 (bk_mk16 _), fun f hf hb => (bits f hf).mpr (Or.inl (h2 f hf hb)), fun f hf hb => ?_, fun j hj hb f hf hr => (bits f hf).mpr ?_, fun hc f hf hb => ?_⟩
  · rcases (bits f hf).mp hb with q | q
    · exact h3 f hf q
    · exact bk_Rch_s hf hi (h3 i hi hz) q
  · by_cases w : j = i
    · subst w; exact Or.inr hr
    · exact Or.inl (h4 j (by omega) hb f hf hr)
  · rcases (bits f hf).mp hb with q | q
    · exact h5 hc f hf q
    · exact hc f i hf hi (h5 hc i hi hz) q
theorem bk_DI_k {rs : Nat → Int32} {c : Nat} {s0 s : Int32} {i : Nat} (h : bk_DI rs c s0 i s) (hi : i < 16) (hz : bt s i = false) : bk_DI rs c s0 (i + 1) s := by
  obtain ⟨h1, h2, h3, h4, h5⟩ := h
  refine ⟨h1, h2, h3, fun j hj hb f hf hr => ?_, h5⟩
  by_cases w : j = i
  · subst w; exact absurd (h2 j hi hb) (bk_ft hz)
  · exact h4 j (by omega) hb f hf hr
theorem bk_yd17 {post : Int32 → Prop} {J8 : Int32 → Int32 → Prop} {rs : Nat → Int32} {c r : Nat} {s0 : Int32} (hE : ∀ f, f < 16 → bk_En (a_op f) (a_one f) (a_two f) (rs f)) (h0 : bk_RI (bk_rd rs) c r s0)
    (hJ : ∀ s, bk_RI (bk_rd rs) c (r + 1) s → J8 s (nI (r + 1))) : ∃ n, wY_dependents_17 post J8 (nI r) f_changes f_differ a_op a_one a_two a_num a_oldCell a_oldOp a_oldOne a_oldTwo a_oldNum a_known a_val a_knownThen a_valThen n s0 0 := by
  refine loop_0 (fun n i (s : Int32) => wY_dependents_17 post J8 (nI r) f_changes f_differ a_op a_one a_two a_num a_oldCell a_oldOp a_oldOne a_oldTwo a_oldNum a_known a_val a_knownThen a_valThen n s (nI i)) (fun i s => bk_DI rs c s0 i s) 16 s0 ?_ ?_ ?_
  · exact ⟨h0.1, fun f _ h => h, h0.2.2.1, fun j hj => by omega, fun _ f _ h => h⟩
  · intro n s ⟨h1, h2, h3, h4, h5⟩
    refine br_t bk_e16 (nm_r (nI_1 r) (hJ s (bk_RI_s h0 h1 h2 h3 (fun i j hi hj hb hr => h4 j hj hb i hi hr) h5)))
  · intro n i s hi h K
    refine br_f (bk_n16 hi) (bk_br1 s i (by omega) (fun hz => ?_) (fun hz => nm_r (nI_1 i) (K s (bk_DI_k h hi hz))))
    exact bk_yrs hi hE (nm_e (nm_r (nI_1 i) (K _ (bk_DI_a h hi hz))))
theorem bk_ydep {post : Int32 → Prop} {rs : Nat → Int32} {c : Nat} (hc : c < 16) (hE : ∀ f, f < 16 → bk_En (a_op f) (a_one f) (a_two f) (rs f))
    (hp : ∀ r, bk_in16 r → (∀ i, i < 16 → (bt r i = true ↔ bk_Rch (bk_rd rs) c i)) → post r) : wpY_dependents post (f_changes, f_differ, a_op, a_one, a_two, a_num, a_oldCell, a_oldOp, a_oldOne, a_oldTwo, a_oldNum, a_known, a_val, a_knownThen, a_valThen) (nI c) := by
  unfold wpY_dependents
  refine bk_yrs hc hE ?_
  refine loop_0 (fun n r (s : Int32) => wY_dependents_8 post f_changes f_differ a_op a_one a_two a_num a_oldCell a_oldOp a_oldOne a_oldTwo a_oldNum a_known a_val a_knownThen a_valThen n s (nI r)) (fun r s => bk_RI (bk_rd rs) c r s) 16 _ ?_ ?_ ?_
  · refine ⟨bk_mk16 _, fun i hi h => ?_, fun i hi h => ?_, Or.inr (Nat.zero_le _)⟩
    · rw [bk_mkl _ hi]; exact h
    · rw [bk_mkl _ hi] at h; exact bk_Rch_1 hi h
  · intro n s h
    exact br_t bk_e16 (hp s h.1 (bk_RI_e h))
  · intro n r s hr h K
    exact br_f (bk_n16 hr) (bk_yd17 hE h (fun s hs => K s hs))
theorem bk_ydep0 {post : Int32 → Prop} {x : Int32} (h : x < 0 ∨ (¬ x < 0 ∧ 16 ≤ x)) (hp : post 0) : wpY_dependents post (f_changes, f_differ, a_op, a_one, a_two, a_num, a_oldCell, a_oldOp, a_oldOne, a_oldTwo, a_oldNum, a_known, a_val, a_knownThen, a_valThen) x := by
  unfold wpY_dependents
  refine bk_yrs0 h ?_
  refine loop_0 (fun n r (s : Int32) => wY_dependents_8 post f_changes f_differ a_op a_one a_two a_num a_oldCell a_oldOp a_oldOne a_oldTwo a_oldNum a_known a_val a_knownThen a_valThen n s (nI r)) (fun r s => s = 0) 16 0 rfl ?_ ?_
  · intro n s e
    subst e
    exact br_t bk_e16 hp
  · intro n r s hr e K
    subst e
    refine br_f (bk_n16 hr) ?_
    refine loop_0 (fun n' i (s : Int32) => wY_dependents_17 post (wY_dependents_8 post f_changes f_differ a_op a_one a_two a_num a_oldCell a_oldOp a_oldOne a_oldTwo a_oldNum a_known a_val a_knownThen a_valThen n) (nI r) f_changes f_differ a_op a_one a_two a_num a_oldCell a_oldOp a_oldOne a_oldTwo a_oldNum a_known a_val a_knownThen a_valThen n' s (nI i)) (fun i s => s = 0) 16 0 rfl ?_ ?_
    · intro n' s e
      subst e
      exact br_t bk_e16 (nm_r (nI_1 r) (K 0 rfl))
    · intro n' i s hi e K'
      subst e
      exact br_f (bk_n16 hi) (bk_br1 0 i (by omega) (fun hz => by rw [b_0] at hz; exact absurd hz (by decide)) (fun hz => nm_r (nI_1 i) (K' 0 rfl)))
theorem bk_ytot {post : Int32 → SY → Prop} {a b : Nat} (ha : a < 16) (hb : b < 16) (hp : post (bk_sum (bk_inR a b) a_val 16) (f_changes, f_differ, a_op, a_one, a_two, a_num, a_oldCell, a_oldOp, a_oldOne, a_oldTwo, a_oldNum, a_known, a_val, a_knownThen, a_valThen)) : ∃ n, wY_total_9 post (nI a) (nI b) f_changes f_differ a_op a_one a_two a_num a_oldCell a_oldOp a_oldOne a_oldTwo a_oldNum a_known a_val a_knownThen a_valThen n 0 0 := by
  refine loop_0 (fun n i (x : Int32) => wY_total_9 post (nI a) (nI b) f_changes f_differ a_op a_one a_two a_num a_oldCell a_oldOp a_oldOne a_oldTwo a_oldNum a_known a_val a_knownThen a_valThen n x (nI i)) (fun i x => x = bk_sum (bk_inR a b) a_val i) 16 0 rfl ?_ ?_
  · intro n x h
    subst h
    exact br_t bk_e16 hp
  · intro n i x hi h K
    refine br_f (bk_n16 hi) (bk_yC1 ha (br_f (by decide) (bk_yC1 hb (br_f (by decide) (bk_yin hi ha hb (fun z => br_f (by decide) ⟨bk_i16 hi, ?_⟩) (fun z => br_t rfl (nm_e (nm_r (nI_1 i) (K _ ?_)))))))))
    · rw [bk_cl hi]
      refine nm_e (nm_r (nI_1 i) (K _ ?_))
      rw [h, bk_sumt z]
    · rw [h, bk_sumf z, Int32.add_zero]
theorem bk_ytot0 {post : Int32 → SY → Prop} {x y : Int32} (h : (x < 0 ∨ (¬ x < 0 ∧ 16 ≤ x)) ∨ ((∃ c : Nat, c < 16 ∧ x = nI c) ∧ (y < 0 ∨ (¬ y < 0 ∧ 16 ≤ y)))) (hp : post 0 (f_changes, f_differ, a_op, a_one, a_two, a_num, a_oldCell, a_oldOp, a_oldOne, a_oldTwo, a_oldNum, a_known, a_val, a_knownThen, a_valThen)) : ∃ n, wY_total_9 post x y f_changes f_differ a_op a_one a_two a_num a_oldCell a_oldOp a_oldOne a_oldTwo a_oldNum a_known a_val a_knownThen a_valThen n 0 0 := by
  refine ⟨1, br_f (bk_n16 (i := 0) (by omega)) ?_⟩
  rcases h with h | ⟨⟨c, hc, e⟩, h⟩
  · exact bk_yC0 h (br_t rfl hp)
  · subst e
    exact bk_yC1 hc (br_f (by decide) (bk_yC0 h (br_t rfl hp)))
/-- the greatest of the values with p, or the least int -/
def bk_mst (p : Nat → Bool) (v : Nat → Int32) : Nat → Int32
  | 0 => -2147483648
  | n + 1 => if p n = true then bk_mg 1 (bk_mst p v n) (v n) else bk_mst p v n
theorem bk_mstf {p : Nat → Bool} {v : Nat → Int32} {n : Nat} (h : p n = false) : bk_mst p v (n + 1) = bk_mst p v n := if_neg (bk_ft h)
theorem bk_mst1 {p : Nat → Bool} {v : Nat → Int32} {n : Nat} (h : p n = true) (k : v n ≤ bk_mst p v n) : bk_mst p v (n + 1) = bk_mst p v n := by
  rw [show bk_mst p v (n + 1) = bk_mg 1 (bk_mst p v n) (v n) from if_pos h, bk_mg1, if_pos k]
theorem bk_mst2 {p : Nat → Bool} {v : Nat → Int32} {n : Nat} (h : p n = true) (k : ¬ v n ≤ bk_mst p v n) : bk_mst p v (n + 1) = v n := by
  rw [show bk_mst p v (n + 1) = bk_mg 1 (bk_mst p v n) (v n) from if_pos h, bk_mg1, if_neg k]
theorem bk_mst_cg {p q : Nat → Bool} {v w : Nat → Int32} : ∀ n, (∀ j, j < n → p j = q j ∧ v j = w j) → bk_mst p v n = bk_mst q w n := by
  intro n
  induction n with
  | zero => intro _; rfl
  | succ n ih =>
    intro h
    have e := ih (fun j hj => h j (by omega))
    obtain ⟨a, b⟩ := h n (by omega)
    show (if p n = true then bk_mg 1 (bk_mst p v n) (v n) else bk_mst p v n) = (if q n = true then bk_mg 1 (bk_mst q w n) (w n) else bk_mst q w n)
    rw [a, b, e]
theorem bk_sum_cg2 {p q : Nat → Bool} {v w : Nat → Int32} : ∀ n, (∀ j, j < n → p j = q j ∧ v j = w j) → bk_sum p v n = bk_sum q w n := by
  intro n
  induction n with
  | zero => intro _; rfl
  | succ n ih =>
    intro h
    have e := ih (fun j hj => h j (by omega))
    obtain ⟨a, b⟩ := h n (by omega)
    show (if p n = true then bk_sum p v n + v n else bk_sum p v n) = (if q n = true then bk_sum q w n + w n else bk_sum q w n)
    rw [a, b, e]
theorem bk_ymst {post : Int32 → SY → Prop} {a b : Nat} (ha : a < 16) (hb : b < 16) (hp : post (bk_mst (fun i => bk_inR a b i && bk_nz a_known i) a_val 16) (f_changes, f_differ, a_op, a_one, a_two, a_num, a_oldCell, a_oldOp, a_oldOne, a_oldTwo, a_oldNum, a_known, a_val, a_knownThen, a_valThen)) : ∃ n, wY_most_10 post (nI a) (nI b) f_changes f_differ a_op a_one a_two a_num a_oldCell a_oldOp a_oldOne a_oldTwo a_oldNum a_known a_val a_knownThen a_valThen n (-2147483648) 0 := by
  refine loop_0 (fun n i (x : Int32) => wY_most_10 post (nI a) (nI b) f_changes f_differ a_op a_one a_two a_num a_oldCell a_oldOp a_oldOne a_oldTwo a_oldNum a_known a_val a_knownThen a_valThen n x (nI i)) (fun i x => x = bk_mst (fun i => bk_inR a b i && bk_nz a_known i) a_val i) 16 (-2147483648) rfl ?_ ?_
  · intro n x h
    subst h
    exact br_t bk_e16 hp
  · intro n i x hi h K
    refine br_f (bk_n16 hi) (bk_yC1 ha (br_f (by decide) (bk_yC1 hb (br_f (by decide) (bk_yin hi ha hb (fun z => br_f (by decide) ⟨bk_i16 hi, ?_⟩) (fun z => br_t rfl (nm_r (nI_1 i) (K x ?_))))))))
    · rw [bk_cl hi]
      refine br_c (fun h0 => nm_r (nI_1 i) (K x ?_)) (fun h0 => ⟨bk_i16 hi, br_c (fun h1 => nm_r (nI_1 i) (K x ?_)) (fun h1 => ⟨bk_i16 hi, nm_e (nm_r (nI_1 i) (K _ ?_))⟩)⟩)
      · have q : (bk_inR a b i && bk_nz a_known i) = false := by rw [bk_nzf.mpr h0, Bool.and_false]
        rw [h]; exact (bk_mstf (p := fun i => bk_inR a b i && bk_nz a_known i) q).symm
      · have q : (bk_inR a b i && bk_nz a_known i) = true := by rw [bk_nzt.mpr h0, z]; rfl
        subst h
        exact (bk_mst1 (p := fun i => bk_inR a b i && bk_nz a_known i) q h1).symm
      · have q : (bk_inR a b i && bk_nz a_known i) = true := by rw [bk_nzt.mpr h0, z]; rfl
        subst h
        exact (bk_mst2 (p := fun i => bk_inR a b i && bk_nz a_known i) q h1).symm
    · have q : (bk_inR a b i && bk_nz a_known i) = false := by rw [z]; rfl
      rw [h]; exact (bk_mstf (p := fun i => bk_inR a b i && bk_nz a_known i) q).symm
theorem bk_ymst0 {post : Int32 → SY → Prop} {x y : Int32} (h : (x < 0 ∨ (¬ x < 0 ∧ 16 ≤ x)) ∨ ((∃ c : Nat, c < 16 ∧ x = nI c) ∧ (y < 0 ∨ (¬ y < 0 ∧ 16 ≤ y)))) (hp : post (-2147483648) (f_changes, f_differ, a_op, a_one, a_two, a_num, a_oldCell, a_oldOp, a_oldOne, a_oldTwo, a_oldNum, a_known, a_val, a_knownThen, a_valThen)) : ∃ n, wY_most_10 post x y f_changes f_differ a_op a_one a_two a_num a_oldCell a_oldOp a_oldOne a_oldTwo a_oldNum a_known a_val a_knownThen a_valThen n (-2147483648) 0 := by
  refine ⟨1, br_f (bk_n16 (i := 0) (by omega)) ?_⟩
  rcases h with h | ⟨⟨c, hc, e⟩, h⟩
  · exact bk_yC0 h (br_t rfl hp)
  · subst e
    exact bk_yC1 hc (br_f (by decide) (bk_yC0 h (br_t rfl hp)))
end
section
variable {f_brokenSet f_touchedSet f_oldBroken f_ordered f_pastEnd f_pastCount : Int32} {a_operation a_reads a_number a_values a_oldValues a_order a_pastCell a_pastOperation a_pastReads a_pastNumber : Nat → Int32}
theorem bk_xtot {post : Int32 → Prop} {s : Int32} (hp : post (bk_sum (bt s) a_values 16)) : ∃ n, wX_total_28 post s f_brokenSet f_touchedSet f_oldBroken f_ordered f_pastEnd f_pastCount a_operation a_reads a_number a_values a_oldValues a_order a_pastCell a_pastOperation a_pastReads a_pastNumber n 0 0 := by
  refine loop_0 (fun n i (x : Int32) => wX_total_28 post s f_brokenSet f_touchedSet f_oldBroken f_ordered f_pastEnd f_pastCount a_operation a_reads a_number a_values a_oldValues a_order a_pastCell a_pastOperation a_pastReads a_pastNumber n x (nI i)) (fun i x => x = bk_sum (bt s) a_values i) 16 0 rfl ?_ ?_
  · intro n x h
    subst h
    exact br_t bk_e16 hp
  · intro n i x hi h K
    refine br_f (bk_n16 hi) (bk_br s i (by omega) (fun z => nm_r (nI_1 i) (K x ?_)) (fun z => ⟨bk_i16 hi, ?_⟩))
    · rw [h, bk_sumf z]
    · rw [bk_cl hi]
      refine nm_e (nm_r (nI_1 i) (K _ ?_))
      rw [h, bk_sumt z]
theorem bk_xmst {post : Int32 → Prop} {s : Int32} (hp : post (bk_mst (bt s) a_values 16)) : ∃ n, wX_most_36 post s f_brokenSet f_touchedSet f_oldBroken f_ordered f_pastEnd f_pastCount a_operation a_reads a_number a_values a_oldValues a_order a_pastCell a_pastOperation a_pastReads a_pastNumber n (-2147483648) 0 := by
  refine loop_0 (fun n i (x : Int32) => wX_most_36 post s f_brokenSet f_touchedSet f_oldBroken f_ordered f_pastEnd f_pastCount a_operation a_reads a_number a_values a_oldValues a_order a_pastCell a_pastOperation a_pastReads a_pastNumber n x (nI i)) (fun i x => x = bk_mst (bt s) a_values i) 16 (-2147483648) rfl ?_ ?_
  · intro n x h
    subst h
    exact br_t bk_e16 hp
  · intro n i x hi h K
    refine br_f (bk_n16 hi) (bk_br s i (by omega) (fun z => nm_r (nI_1 i) (K x ?_)) (fun z => ⟨bk_i16 hi, ?_⟩))
    · rw [h, bk_mstf z]
    · rw [bk_cl hi]
      refine br_c (fun h1 => nm_r (nI_1 i) (K x ?_)) (fun h1 => ⟨bk_i16 hi, nm_e (nm_r (nI_1 i) (K _ ?_))⟩)
      · subst h
        exact (bk_mst1 z h1).symm
      · subst h
        exact (bk_mst2 z h1).symm
end
end
section
/-! the relation -/
/-- one remembered change: X's place s, Y's place t -/
def bk_PE (xc xo xr xn yc yo y1 y2 yn : Nat → Int32) (s t : Nat) : Prop :=
  xc s = yc t ∧ (∃ c : Nat, c < 16 ∧ yc t = nI c) ∧ xo s = yo t ∧ xn s = yn t ∧ bk_En (yo t) (y1 t) (y2 t) (xr s)
/-- X's ring (its end e) against Y's list, m remembered -/
def bk_Past (pe pc : Int32) (xc xo xr xn : Nat → Int32) (ch : Int32) (yc yo y1 y2 yn : Nat → Int32) : Prop :=
  ∃ e m : Nat, e < 8 ∧ m ≤ 8 ∧ pe = nI e ∧ pc = nI m ∧ ch = nI m ∧ ∀ t, t < m → bk_PE xc xo xr xn yc yo y1 y2 yn ((e + 8 - m + t) % 8) t
theorem bk_Past_push {xc xo xr xn yc yo y1 y2 yn c1 c2 c3 c4 c5 : Nat → Int32} {e m c : Nat} {o a b s n : Int32} (he : e < 8) (hm : m ≤ 8) (hc : c < 16) (h : ∀ t, t < m → bk_PE xc xo xr xn yc yo y1 y2 yn ((e + 8 - m + t) % 8) t) (hn : bk_En o a b s)
    (p1 : bk_Push m yc (nI c) c1) (p2 : bk_Push m yo o c2) (p3 : bk_Push m y1 a c3) (p4 : bk_Push m y2 b c4) (p5 : bk_Push m yn n c5) :
    bk_Past (nI ((e + 1) % 8)) (nI (if m < 8 then m + 1 else 8)) (upd xc e (nI c)) (upd xo e o) (upd xr e s) (upd xn e n) (nI (if m < 8 then m + 1 else 8)) c1 c2 c3 c4 c5 := by
  by_cases w : m < 8
  · rw [if_pos w]
    refine ⟨(e + 1) % 8, m + 1, by omega, by omega, rfl, rfl, rfl, fun t ht => ?_⟩
    have p1 := p1.1 w
    have p2 := p2.1 w
    have p3 := p3.1 w
    have p4 := p4.1 w
    have p5 := p5.1 w
    by_cases z : t = m
    · subst z
      rw [show ((e + 1) % 8 + 8 - (t + 1) + t) % 8 = e by omega]
      unfold bk_PE
      rw [pk_us, pk_us, pk_us, pk_us, p1.1, p2.1, p3.1, p4.1, p5.1]
      exact ⟨rfl, ⟨c, hc, rfl⟩, rfl, rfl, hn⟩
    · have ne : (e + 8 - m + t) % 8 ≠ e := by omega
      rw [show ((e + 1) % 8 + 8 - (m + 1) + t) % 8 = (e + 8 - m + t) % 8 by omega]
      have k := h t (by omega)
      unfold bk_PE at k ⊢
      rw [pk_un ne, pk_un ne, pk_un ne, pk_un ne, p1.2 t (by omega), p2.2 t (by omega), p3.2 t (by omega), p4.2 t (by omega), p5.2 t (by omega)]
      exact k
  · have e8 : m = 8 := by omega
    rw [if_neg w]
    refine ⟨(e + 1) % 8, 8, by omega, by omega, rfl, rfl, rfl, fun t ht => ?_⟩
    have p1 := p1.2 e8
    have p2 := p2.2 e8
    have p3 := p3.2 e8
    have p4 := p4.2 e8
    have p5 := p5.2 e8
    by_cases z : t = 7
    · subst z
      rw [show ((e + 1) % 8 + 8 - 8 + 7) % 8 = e by omega]
      unfold bk_PE
      rw [pk_us, pk_us, pk_us, pk_us, p1.1, p2.1, p3.1, p4.1, p5.1]
      exact ⟨rfl, ⟨c, hc, rfl⟩, rfl, rfl, hn⟩
    · have ne : (e + 8 - m + (t + 1)) % 8 ≠ e := by omega
      rw [show ((e + 1) % 8 + 8 - 8 + t) % 8 = (e + 8 - m + (t + 1)) % 8 by omega]
      have k := h (t + 1) (by omega)
      unfold bk_PE at k ⊢
      rw [pk_un ne, pk_un ne, pk_un ne, pk_un ne, p1.2 t (by omega), p2.2 t (by omega), p3.2 t (by omega), p4.2 t (by omega), p5.2 t (by omega)]
      exact k
theorem bk_pe1 : ∀ e, e < 8 → (nI e - 1) &&& 7 = nI ((e + 7) % 8) := by decide +kernel
/-- what holds between X's and Y's state -/
def bk_Rl (f_brokenSet f_touchedSet f_pastEnd f_pastCount : Int32) (a_operation a_reads a_number a_values a_pastCell a_pastOperation a_pastReads a_pastNumber : Nat → Int32) (f_changes f_differ : Int32) (a_op a_one a_two a_num a_oldCell a_oldOp a_oldOne a_oldTwo a_oldNum : Nat → Int32) : Prop :=
  a_operation = a_op ∧ a_number = a_num ∧ (∀ f, f < 16 → bk_En (a_op f) (a_one f) (a_two f) (a_reads f)) ∧ bk_in16 f_brokenSet ∧ bk_Sol a_op (bk_rd a_reads) a_num (fun i => !bt f_brokenSet i) a_values ∧ f_touchedSet = f_differ ∧
  bk_Past f_pastEnd f_pastCount a_pastCell a_pastOperation a_pastReads a_pastNumber f_changes a_oldCell a_oldOp a_oldOne a_oldTwo a_oldNum
/-- the relation at the head of a turn whose first cell is k -/
def i_Rel (k : Nat) (u : SX) (v : SY) : Prop := match u, v with
  | (f_brokenSet, f_touchedSet, f_oldBroken, f_ordered, f_pastEnd, f_pastCount, a_operation, a_reads, a_number, a_values, a_oldValues, a_order, a_pastCell, a_pastOperation, a_pastReads, a_pastNumber), (f_changes, f_differ, a_op, a_one, a_two, a_num, a_oldCell, a_oldOp, a_oldOne, a_oldTwo, a_oldNum, a_known, a_val, a_knownThen, a_valThen) => bk_Rl f_brokenSet f_touchedSet f_pastEnd f_pastCount a_operation a_reads a_number a_values a_pastCell a_pastOperation a_pastReads a_pastNumber f_changes f_differ a_op a_one a_two a_num a_oldCell a_oldOp a_oldOne a_oldTwo a_oldNum
theorem i_up {k : Nat} {u : SX} {v : SY} (h : i_Rel k u v) : i_Rel (k + 5) u v := h
/-- both say the same cells are touched -/
theorem bk_meet_t {op rs num old : Nat → Int32} {b0 : Int32} {c : Nat} {o s n b t d : Int32} {v : Nat → Int32} (hs : bk_Sol op (bk_rd rs) num (fun i => !bt b0 i) old) (hN : bk_New op rs num old b0 c o s n b t v)
    (hY : bk_YN op rs num (upd op c o) (upd rs c s) (upd num c n) d) : t = d := by
  obtain ⟨_, h2, h3⟩ := hN
  obtain ⟨k0, v0, k, v', q1, q2, q3, q4, q5⟩ := hY
  rw [h3, q5]
  refine bk_mk_cg (fun i hi => ?_)
  have e1 : (!bt b0 i) = bk_nz k0 i := bk_Sol_k hs q3 hi
  have e2 : (!bt b i) = bk_nz k i := bk_Sol_k h2 q4 hi
  have e3 : old i = v0 i := bk_Sol_v hs q3 hi
  have e4 : v i = v' i := bk_Sol_v h2 q4 hi
  have e5 : (bt b0 i ^^ bt b i) = decide (¬ k i = k0 i) := by
    have z0 := q1 i hi
    have z1 := q2 i hi
    unfold bk_nz at e1 e2
    rcases z0 with z0 | z0 <;> rcases z1 with z1 | z1 <;> rw [z0] at e1 <;> rw [z1] at e2 <;> rw [z0, z1] <;> cases x : bt b0 i <;> cases y : bt b i <;> rw [x] at e1 <;> rw [y] at e2 <;> first | rfl | exact absurd e1 (by decide) | exact absurd e2 (by decide)
  show ((bt b0 i ^^ bt b i) || decide (¬ v i = old i)) = decide (¬ (k i = k0 i ∧ v' i = v0 i))
  rw [e5, e4, e3, ← Bool.decide_or]
  apply decide_eq_decide.mpr
  constructor
  · intro w z
    rcases w with w | w
    · exact w z.1
    · exact w z.2
  · intro w
    by_cases z : k i = k0 i
    · exact Or.inr (fun y => w ⟨z, y⟩)
    · exact Or.inl z
section
variable {f_brokenSet f_touchedSet f_oldBroken f_ordered f_pastEnd f_pastCount : Int32} {a_operation a_reads a_number a_values a_oldValues a_order a_pastCell a_pastOperation a_pastReads a_pastNumber : Nat → Int32}
variable {f_changes f_differ : Int32} {a_op a_one a_two a_num a_oldCell a_oldOp a_oldOne a_oldTwo a_oldNum a_known a_val a_knownThen a_valThen : Nat → Int32}
theorem bk_ask_k {k0 v0 : Nat → Int32} (h : bk_Sol a_op (bk_rd a_reads) a_num (fun i => !bt f_brokenSet i) a_values) (k : bk_Sol a_op (bk_rd a_reads) a_num (bk_nz k0) v0) {i : Nat} (hi : i < 16) : bk_nz k0 i = !bt f_brokenSet i := (bk_Sol_k h k hi).symm
/-- the relation behind a change -/
theorem bk_Rnew {c : Nat} {o a b s n b' t d : Int32} {v : Nat → Int32} {pe pc ch : Int32} {xc xo xr xn yc yo y1 y2 yn : Nat → Int32} (hE : ∀ f, f < 16 → bk_En (a_op f) (a_one f) (a_two f) (a_reads f)) (hn : bk_En o a b s)
    (hs : bk_Sol a_op (bk_rd a_reads) a_num (fun i => !bt f_brokenSet i) a_values) (hN : bk_New a_op a_reads a_num a_values f_brokenSet c o s n b' t v)
    (hY : bk_YN a_op a_reads a_num (upd a_op c o) (upd a_reads c s) (upd a_num c n) d) (hP : bk_Past pe pc xc xo xr xn ch yc yo y1 y2 yn) :
    bk_Rl b' t pe pc (upd a_op c o) (upd a_reads c s) (upd a_num c n) v xc xo xr xn ch d (upd a_op c o) (upd a_one c a) (upd a_two c b) (upd a_num c n) yc yo y1 y2 yn :=
  ⟨rfl, rfl, bk_En_upd hE hn, hN.1, hN.2.1, bk_meet_t hs hN hY, hP⟩
end
theorem bk_m1b : vp_nar .byte (-1) = -1 := bk_ob (Or.inl rfl)
theorem bk_ini {i : Nat} : upd (fun j => if j < i then (-1 : Int32) else 0) i (-1) = fun j => if j < i + 1 then (-1 : Int32) else 0 := by
  funext j
  unfold upd
  by_cases w : j = i
  · rw [if_pos w, if_pos (by omega)]
  · rw [if_neg w]
    dsimp only
    by_cases z : j < i
    · rw [if_pos z, if_pos (by omega)]
    · rw [if_neg z, if_neg (by omega)]
theorem bk_ini0 : (fun _ : Nat => (0 : Int32)) = fun j => if j < 0 then (-1 : Int32) else 0 := by
  funext j
  rw [if_neg (by omega)]
theorem i_vc0 : wpX_init (fun u => wpY_init (fun v => i_Rel 0 u v)) := by
  refine loop_0 (fun n i (a : Nat → Int32) => wX_init_86 (fun u => wpY_init (fun v => i_Rel 0 u v)) 0 0 0 0 0 0 n (nI i) a (fun _ => 0) (fun _ => 0) (fun _ => 0) (fun _ => 0) (fun _ => 0) (fun _ => 0) (fun _ => 0) (fun _ => 0) (fun _ => 0))
    (fun i a => a = fun j => if j < i then (-1 : Int32) else 0) 16 (fun _ => 0) bk_ini0 ?_ ?_
  · intro n a ha
    refine br_t bk_e16 ?_
    refine loop_0 (fun n i (b : Nat → Int32) => wY_init_110 (fun v => i_Rel 0 (0, 0, 0, 0, 0, 0, a, (fun _ => 0), (fun _ => 0), (fun _ => 0), (fun _ => 0), (fun _ => 0), (fun _ => 0), (fun _ => 0), (fun _ => 0), (fun _ => 0)) v) 0 0 n (nI i) b (fun _ => 0) (fun _ => 0) (fun _ => 0) (fun _ => 0) (fun _ => 0) (fun _ => 0) (fun _ => 0) (fun _ => 0) (fun _ => 0) (fun _ => 0) (fun _ => 0) (fun _ => 0))
      (fun i a => a = fun j => if j < i then (-1 : Int32) else 0) 16 (fun _ => 0) bk_ini0 ?_ ?_
    · intro n b hb
      refine br_t bk_e16 ?_
      have e1 : ∀ f, f < 16 → b f = -1 := by
        intro f hf
        rw [hb]
        exact if_pos hf
      have sn : ∀ i, i < 16 → bk_Snd (bk_rd (fun _ => 0)) i := by
        intro i hi
        refine bk_Snd_cl _ i hi (fun l _ hr => ?_)
        have hr' : bt 0 l = true := hr
        rw [b_0] at hr'
        exact absurd hr' (by decide)
      have nb : ∀ i, (!bt 0 i) = true := by
        intro i
        rw [b_0]; rfl
      show bk_Rl 0 0 0 0 a (fun _ => 0) (fun _ => 0) (fun _ => 0) (fun _ => 0) (fun _ => 0) (fun _ => 0) (fun _ => 0) 0 0 b (fun _ => 0) (fun _ => 0) (fun _ => 0) (fun _ => 0) (fun _ => 0) (fun _ => 0) (fun _ => 0) (fun _ => 0)
      refine ⟨by rw [ha, hb], rfl, fun f hf => Or.inl ⟨e1 f hf, rfl⟩, bk_in0, ⟨fun i hi => ⟨fun _ => sn i hi, fun _ => nb i⟩, fun i hi _ => Or.inl ⟨e1 i hi, rfl⟩, fun i hi _ => rfl⟩, rfl, ⟨0, 0, by omega, by omega, rfl, rfl, rfl, fun t ht => by omega⟩⟩
    · intro n i b hi hb K
      refine br_f (bk_n16 hi) ⟨bk_i16 hi, ?_⟩
      rw [bk_cl hi]
      exact nm_e (nm_r (nI_1 i) (K _ (by rw [hb]; exact bk_ini)))
  · intro n i a hi ha K
    refine br_f (bk_n16 hi) ⟨bk_i16 hi, ?_⟩
    rw [bk_cl hi, bk_m1b]
    exact nm_e (nm_r (nI_1 i) (K _ (by rw [ha]; exact bk_ini)))
end
section
/-! the owed statements -/
section
variable {f_brokenSet f_touchedSet f_oldBroken f_ordered f_pastEnd f_pastCount : Int32} {a_operation a_reads a_number a_values a_oldValues a_order a_pastCell a_pastOperation a_pastReads a_pastNumber : Nat → Int32}
variable {f_changes f_differ : Int32} {a_op a_one a_two a_num a_oldCell a_oldOp a_oldOne a_oldTwo a_oldNum a_known a_val a_knownThen a_valThen : Nat → Int32}
theorem bk_put {k : Nat} (I : bk_Rl f_brokenSet f_touchedSet f_pastEnd f_pastCount a_operation a_reads a_number a_values a_pastCell a_pastOperation a_pastReads a_pastNumber f_changes f_differ a_op a_one a_two a_num a_oldCell a_oldOp a_oldOne a_oldTwo a_oldNum) (v1 v2 : Int32) : wpX_put (fun r u' => wpY_put (fun r' v' => r' = r ∧ i_Rel (k + 5) u' v') (f_changes, f_differ, a_op, a_one, a_two, a_num, a_oldCell, a_oldOp, a_oldOne, a_oldTwo, a_oldNum, a_known, a_val, a_knownThen, a_valThen) v1 v2) (f_brokenSet, f_touchedSet, f_oldBroken, f_ordered, f_pastEnd, f_pastCount, a_operation, a_reads, a_number, a_values, a_oldValues, a_order, a_pastCell, a_pastOperation, a_pastReads, a_pastNumber) v1 v2 := by
  unfold wpX_put wpY_put
  dsimp only
  rcases bk_cells v1 with h | ⟨c, hc, rfl⟩
  · exact bk_xC0 h (br_t rfl (bk_yC0 h (br_t rfl ⟨rfl, I⟩)))
  · obtain ⟨rfl, rfl, hE, hb, hs, ht, e, m, he, hm, rfl, rfl, rfl, hP⟩ := I
    have hT : ∀ i, i < 16 → bk_Tx (a_operation i) (a_reads i) := fun i hi => bk_En_Tx (hE i hi)
    have hn : ∀ q1 q2 : Int32, bk_En (-1) q1 q2 0 := fun _ _ => Or.inl ⟨rfl, rfl⟩
    refine bk_xC1 hc (br_f (by decide) (bk_xrem he hm hc (bk_Tx_op (hT c hc)) (bk_Tx_in (hT c hc)) ?_))
    refine bk_xwrite hc hT (bk_En_Tx (hn 0 0)) hb hs (fun b t m' w ord v hN => ?_)
    refine bk_yC1 hc (br_f (by decide) (bk_ychange hc hm hE (hn 0 0) (fun c1 c2 c3 c4 c5 k1 v1 kt vt d p1 p2 p3 p4 p5 hY => ⟨rfl, ?_⟩)))
    exact bk_Rnew hE (hn 0 0) hs hN hY (bk_Past_push he hm hc hP (hE c hc) p1 p2 p3 p4 p5)
theorem bk_ops {o : Int32} (h : ¬ o < 0) (k : o ≤ 3) : bk_O4 o := by
  obtain ⟨j, hj, rfl⟩ := nI_of2 (M := 3) (n := 3) (by decide) h k
  have h4 : j = 0 ∨ j = 1 ∨ j = 2 ∨ j = 3 := by omega
  rcases h4 with e | e | e | e
  · subst e; exact Or.inl (by decide)
  · subst e; exact Or.inr (Or.inl (by decide))
  · subst e; exact Or.inr (Or.inr (Or.inl (by decide)))
  · subst e; exact Or.inr (Or.inr (Or.inr (by decide)))
theorem bk_formula {k : Nat} (I : bk_Rl f_brokenSet f_touchedSet f_pastEnd f_pastCount a_operation a_reads a_number a_values a_pastCell a_pastOperation a_pastReads a_pastNumber f_changes f_differ a_op a_one a_two a_num a_oldCell a_oldOp a_oldOne a_oldTwo a_oldNum) (v1 v2 v3 v4 : Int32) : wpX_formula (fun r u' => wpY_formula (fun r' v' => r' = r ∧ i_Rel (k + 5) u' v') (f_changes, f_differ, a_op, a_one, a_two, a_num, a_oldCell, a_oldOp, a_oldOne, a_oldTwo, a_oldNum, a_known, a_val, a_knownThen, a_valThen) v1 v2 v3 v4) (f_brokenSet, f_touchedSet, f_oldBroken, f_ordered, f_pastEnd, f_pastCount, a_operation, a_reads, a_number, a_values, a_oldValues, a_order, a_pastCell, a_pastOperation, a_pastReads, a_pastNumber) v1 v2 v3 v4 := by
  unfold wpX_formula wpY_formula
  dsimp only
  rcases bk_cells v1 with h | ⟨c, hc, rfl⟩
  · exact bk_xC0 h (br_t rfl (bk_yC0 h (br_t rfl ⟨rfl, I⟩)))
  rcases bk_cells v3 with h | ⟨a, ha, rfl⟩
  · exact bk_xC1 hc (br_f (by decide) (bk_xC0 h (br_t rfl (bk_yC1 hc (br_f (by decide) (bk_yC0 h (br_t rfl ⟨rfl, I⟩)))))))
  rcases bk_cells v4 with h | ⟨b, hb4, rfl⟩
  · exact bk_xC1 hc (br_f (by decide) (bk_xC1 ha (br_f (by decide) (bk_xC0 h (br_t rfl (bk_yC1 hc (br_f (by decide) (bk_yC1 ha (br_f (by decide) (bk_yC0 h (br_t rfl ⟨rfl, I⟩)))))))))))
  refine bk_xC1 hc (br_f (by decide) (bk_xC1 ha (br_f (by decide) (bk_xC1 hb4 (br_f (by decide) ?_)))))
  by_cases h0 : v2 < 0
  · exact br_t h0 (bk_yC1 hc (br_f (by decide) (bk_yC1 ha (br_f (by decide) (bk_yC1 hb4 (br_f (by decide) (br_t h0 ⟨rfl, I⟩)))))))
  by_cases h3 : v2 ≤ 3
  · obtain ⟨rfl, rfl, hE, hb, hs, ht, e, m, he, hm, rfl, rfl, rfl, hP⟩ := I
    have hT : ∀ i, i < 16 → bk_Tx (a_operation i) (a_reads i) := fun i hi => bk_En_Tx (hE i hi)
    have hn : bk_En v2 (nI a) (nI b) (bk_rect a b) := Or.inr ⟨bk_ops h0 h3, a, b, ha, hb4, rfl, rfl, rfl⟩
    refine br_f h0 (br_t h3 (bk_xrem he hm hc (bk_Tx_op (hT c hc)) (bk_Tx_in (hT c hc)) ?_))
    refine bk_xrect ha hb4 ?_
    refine bk_xwrite hc hT (bk_En_Tx hn) hb hs (fun b' t m' w ord v hN => ?_)
    refine bk_yC1 hc (br_f (by decide) (bk_yC1 ha (br_f (by decide) (bk_yC1 hb4 (br_f (by decide) (br_f h0 (br_t h3 ?_)))))))
    refine bk_ychange hc hm hE hn (fun c1 c2 c3 c4 c5 k1 v1 kt vt d p1 p2 p3 p4 p5 hY => ⟨rfl, ?_⟩)
    exact bk_Rnew hE hn hs hN hY (bk_Past_push he hm hc hP (hE c hc) p1 p2 p3 p4 p5)
  · exact br_f h0 (br_f h3 (bk_yC1 hc (br_f (by decide) (bk_yC1 ha (br_f (by decide) (bk_yC1 hb4 (br_f (by decide) (br_f h0 (br_f h3 ⟨rfl, I⟩)))))))))
theorem bk_offset {k : Nat} (I : bk_Rl f_brokenSet f_touchedSet f_pastEnd f_pastCount a_operation a_reads a_number a_values a_pastCell a_pastOperation a_pastReads a_pastNumber f_changes f_differ a_op a_one a_two a_num a_oldCell a_oldOp a_oldOne a_oldTwo a_oldNum) (v1 v2 : Int32) : wpX_offset (fun r u' => wpY_offset (fun r' v' => r' = r ∧ i_Rel (k + 5) u' v') (f_changes, f_differ, a_op, a_one, a_two, a_num, a_oldCell, a_oldOp, a_oldOne, a_oldTwo, a_oldNum, a_known, a_val, a_knownThen, a_valThen) v1 v2) (f_brokenSet, f_touchedSet, f_oldBroken, f_ordered, f_pastEnd, f_pastCount, a_operation, a_reads, a_number, a_values, a_oldValues, a_order, a_pastCell, a_pastOperation, a_pastReads, a_pastNumber) v1 v2 := by
  unfold wpX_offset wpY_offset
  dsimp only
  rcases bk_cells v1 with h | ⟨c, hc, rfl⟩
  · exact bk_xC0 h (br_t rfl (bk_yC0 h (br_t rfl ⟨rfl, I⟩)))
  rw [bk_cl hc]
  have I' := I
  obtain ⟨rfl, rfl, hE, hb, hs, ht, e, m, he, hm, rfl, rfl, rfl, hP⟩ := I
  refine bk_xC1 hc (br_f (by decide) ⟨bk_i16 hc, ?_⟩)
  by_cases h0 : 0 ≤ a_operation c
  · have hT : ∀ i, i < 16 → bk_Tx (a_operation i) (a_reads i) := fun i hi => bk_En_Tx (hE i hi)
    refine br_t h0 (bk_xrem he hm hc (bk_Tx_op (hT c hc)) (bk_Tx_in (hT c hc)) ⟨bk_i16 hc, bk_i16 hc, ?_⟩)
    refine bk_xwrite hc hT (hT c hc) hb hs (fun b' t m' w ord v hN => ?_)
    refine bk_yC1 hc (br_f (by decide) ⟨bk_i16 hc, br_t h0 ⟨bk_i16 hc, bk_i16 hc, bk_i16 hc, ?_⟩⟩)
    refine bk_ychange hc hm hE (hE c hc) (fun c1 c2 c3 c4 c5 k1 v1 kt vt d p1 p2 p3 p4 p5 hY => ⟨rfl, ?_⟩)
    exact bk_Rnew hE (hE c hc) hs hN hY (bk_Past_push he hm hc hP (hE c hc) p1 p2 p3 p4 p5)
  · exact br_f h0 (bk_yC1 hc (br_f (by decide) ⟨bk_i16 hc, br_f h0 ⟨rfl, I'⟩⟩))
theorem bk_undo {k : Nat} (I : bk_Rl f_brokenSet f_touchedSet f_pastEnd f_pastCount a_operation a_reads a_number a_values a_pastCell a_pastOperation a_pastReads a_pastNumber f_changes f_differ a_op a_one a_two a_num a_oldCell a_oldOp a_oldOne a_oldTwo a_oldNum) : wpX_undo (fun r u' => wpY_undo (fun r' v' => r' = r ∧ i_Rel (k + 5) u' v') (f_changes, f_differ, a_op, a_one, a_two, a_num, a_oldCell, a_oldOp, a_oldOne, a_oldTwo, a_oldNum, a_known, a_val, a_knownThen, a_valThen)) (f_brokenSet, f_touchedSet, f_oldBroken, f_ordered, f_pastEnd, f_pastCount, a_operation, a_reads, a_number, a_values, a_oldValues, a_order, a_pastCell, a_pastOperation, a_pastReads, a_pastNumber) := by
  have I' := I
  obtain ⟨rfl, rfl, hE, hb, hs, ht, e, m, he, hm, rfl, rfl, rfl, hP⟩ := I
  unfold wpX_undo
  dsimp only
  cases m with
  | zero => exact br_t nI_0 (br_t nI_0 ⟨rfl, I'⟩)
  | succ m =>
    have hT : ∀ i, i < 16 → bk_Tx (a_operation i) (a_reads i) := fun i hi => bk_En_Tx (hE i hi)
    have sl : (e + 8 - (m + 1) + m) % 8 = (e + 7) % 8 := by omega
    have hl : (e + 7) % 8 < 8 := by omega
    have P := hP m (by omega)
    rw [sl] at P
    obtain ⟨q1, ⟨c, hc, q2⟩, q3, q4, q5⟩ := P
    refine br_f (nI_ne0 (by omega) (by omega)) (nm_r (nI_pred m) (nm_r (bk_pe1 e he) ⟨bk_i8 hl, ?_⟩))
    rw [nI_clamp (show (e + 7) % 8 < 2 ^ 31 by omega)]
    refine nm_r (q1.trans q2) ⟨bk_i8 hl, bk_i8 hl, bk_i8 hl, ?_⟩
    rw [q3, q4]
    refine bk_xwrite hc hT (bk_En_Tx q5) hb hs (fun b' t m' w ord v hN => ?_)
    refine bk_yundo hc (by omega) hE q2 q5 (fun k1 v1 kt vt d hY => ⟨rfl, ?_⟩)
    refine bk_Rnew hE q5 hs hN hY ⟨(e + 7) % 8, m, hl, by omega, rfl, rfl, rfl, fun t ht => ?_⟩
    have P := hP t (by omega)
    rw [show (e + 8 - (m + 1) + t) % 8 = ((e + 7) % 8 + 8 - m + t) % 8 by omega] at P
    exact P
theorem bk_value {k : Nat} (I : bk_Rl f_brokenSet f_touchedSet f_pastEnd f_pastCount a_operation a_reads a_number a_values a_pastCell a_pastOperation a_pastReads a_pastNumber f_changes f_differ a_op a_one a_two a_num a_oldCell a_oldOp a_oldOne a_oldTwo a_oldNum) (v1 : Int32) : wpX_value (fun r => wpY_value (fun r' v' => r' = r ∧ i_Rel (k + 5) (f_brokenSet, f_touchedSet, f_oldBroken, f_ordered, f_pastEnd, f_pastCount, a_operation, a_reads, a_number, a_values, a_oldValues, a_order, a_pastCell, a_pastOperation, a_pastReads, a_pastNumber) v') (f_changes, f_differ, a_op, a_one, a_two, a_num, a_oldCell, a_oldOp, a_oldOne, a_oldTwo, a_oldNum, a_known, a_val, a_knownThen, a_valThen) v1) (f_brokenSet, f_touchedSet, f_oldBroken, f_ordered, f_pastEnd, f_pastCount, a_operation, a_reads, a_number, a_values, a_oldValues, a_order, a_pastCell, a_pastOperation, a_pastReads, a_pastNumber) v1 := by
  have I' := I
  obtain ⟨e1, e2, hE, hb, hs, ht, hP⟩ := I
  unfold wpX_value wpY_value
  dsimp only
  rcases bk_cells v1 with h | ⟨c, hc, rfl⟩
  · exact bk_xC0 h (br_t rfl (bk_ywork hE (fun k1 v1 _ hs' => bk_yC0 h (br_t rfl ⟨rfl, I'⟩))))
  · rw [bk_cl hc]
    exact bk_xC1 hc (br_f (by decide) ⟨bk_i16 hc, bk_ywork hE (fun k1 v1 _ hs' => bk_yC1 hc (br_f (by decide) ⟨bk_i16 hc, (bk_Sol_v hs' hs hc), I'⟩))⟩)
theorem bk_broken {k : Nat} (I : bk_Rl f_brokenSet f_touchedSet f_pastEnd f_pastCount a_operation a_reads a_number a_values a_pastCell a_pastOperation a_pastReads a_pastNumber f_changes f_differ a_op a_one a_two a_num a_oldCell a_oldOp a_oldOne a_oldTwo a_oldNum) (v1 : Int32) : wpX_broken (fun r => wpY_broken (fun r' v' => r' = r ∧ i_Rel (k + 5) (f_brokenSet, f_touchedSet, f_oldBroken, f_ordered, f_pastEnd, f_pastCount, a_operation, a_reads, a_number, a_values, a_oldValues, a_order, a_pastCell, a_pastOperation, a_pastReads, a_pastNumber) v') (f_changes, f_differ, a_op, a_one, a_two, a_num, a_oldCell, a_oldOp, a_oldOne, a_oldTwo, a_oldNum, a_known, a_val, a_knownThen, a_valThen) v1) (f_brokenSet, f_touchedSet, f_oldBroken, f_ordered, f_pastEnd, f_pastCount, a_operation, a_reads, a_number, a_values, a_oldValues, a_order, a_pastCell, a_pastOperation, a_pastReads, a_pastNumber) v1 := by
  have I' := I
  obtain ⟨e1, e2, hE, hb, hs, ht, hP⟩ := I
  unfold wpX_broken wpY_broken
  dsimp only
  rcases bk_cells v1 with h | ⟨c, hc, rfl⟩
  · exact bk_xC0 h (br_t rfl (bk_ywork hE (fun k1 v1 _ hs' => bk_yC0 h (br_t rfl ⟨rfl, I'⟩))))
  · rw [bk_cl hc]
    refine bk_xC1 hc (br_f (by decide) (bk_br f_brokenSet c (by omega) (fun hz => ?_) (fun hz => ?_)))
    · refine bk_ywork hE (fun k1 v1 _ hs' => bk_yC1 hc (br_f (by decide) ⟨bk_i16 hc, br_f ?_ ⟨rfl, I'⟩⟩))
      have q := bk_ask_k hs hs' hc
      rw [hz] at q
      exact bk_nzt.mp q
    · refine bk_ywork hE (fun k1 v1 _ hs' => bk_yC1 hc (br_f (by decide) ⟨bk_i16 hc, br_t ?_ ⟨rfl, I'⟩⟩))
      have q := bk_ask_k hs hs' hc
      rw [hz] at q
      exact bk_nzf.mp q
theorem bk_brokenCells {k : Nat} (I : bk_Rl f_brokenSet f_touchedSet f_pastEnd f_pastCount a_operation a_reads a_number a_values a_pastCell a_pastOperation a_pastReads a_pastNumber f_changes f_differ a_op a_one a_two a_num a_oldCell a_oldOp a_oldOne a_oldTwo a_oldNum) : wpX_brokenCells (fun r => wpY_brokenCells (fun r' v' => r' = r ∧ i_Rel (k + 5) (f_brokenSet, f_touchedSet, f_oldBroken, f_ordered, f_pastEnd, f_pastCount, a_operation, a_reads, a_number, a_values, a_oldValues, a_order, a_pastCell, a_pastOperation, a_pastReads, a_pastNumber) v') (f_changes, f_differ, a_op, a_one, a_two, a_num, a_oldCell, a_oldOp, a_oldOne, a_oldTwo, a_oldNum, a_known, a_val, a_knownThen, a_valThen)) (f_brokenSet, f_touchedSet, f_oldBroken, f_ordered, f_pastEnd, f_pastCount, a_operation, a_reads, a_number, a_values, a_oldValues, a_order, a_pastCell, a_pastOperation, a_pastReads, a_pastNumber) := by
  have I' := I
  obtain ⟨e1, e2, hE, hb, hs, ht, hP⟩ := I
  unfold wpX_brokenCells wpY_brokenCells
  dsimp only
  refine bk_ywork hE (fun k1 v1 _ hs' => bk_ybc ⟨?_, I'⟩)
  refine (bk_eqmk _ hb (fun j hj => ?_)).symm
  have q := bk_ask_k hs hs' hj
  cases x : bt f_brokenSet j
  · rw [x] at q
    exact (decide_eq_false (bk_nzt.mp q)).symm
  · rw [x] at q
    exact (decide_eq_true (bk_nzf.mp q)).symm
theorem bk_touched {k : Nat} (I : bk_Rl f_brokenSet f_touchedSet f_pastEnd f_pastCount a_operation a_reads a_number a_values a_pastCell a_pastOperation a_pastReads a_pastNumber f_changes f_differ a_op a_one a_two a_num a_oldCell a_oldOp a_oldOne a_oldTwo a_oldNum) : wpX_touched (fun r => wpY_touched (fun r' => r' = r ∧ i_Rel (k + 5) (f_brokenSet, f_touchedSet, f_oldBroken, f_ordered, f_pastEnd, f_pastCount, a_operation, a_reads, a_number, a_values, a_oldValues, a_order, a_pastCell, a_pastOperation, a_pastReads, a_pastNumber) (f_changes, f_differ, a_op, a_one, a_two, a_num, a_oldCell, a_oldOp, a_oldOne, a_oldTwo, a_oldNum, a_known, a_val, a_knownThen, a_valThen)) (f_changes, f_differ, a_op, a_one, a_two, a_num, a_oldCell, a_oldOp, a_oldOne, a_oldTwo, a_oldNum, a_known, a_val, a_knownThen, a_valThen)) (f_brokenSet, f_touchedSet, f_oldBroken, f_ordered, f_pastEnd, f_pastCount, a_operation, a_reads, a_number, a_values, a_oldValues, a_order, a_pastCell, a_pastOperation, a_pastReads, a_pastNumber) := by
  unfold wpX_touched wpY_touched
  exact ⟨I.2.2.2.2.2.1.symm, I⟩
theorem bk_readers {k : Nat} (I : bk_Rl f_brokenSet f_touchedSet f_pastEnd f_pastCount a_operation a_reads a_number a_values a_pastCell a_pastOperation a_pastReads a_pastNumber f_changes f_differ a_op a_one a_two a_num a_oldCell a_oldOp a_oldOne a_oldTwo a_oldNum) (v1 : Int32) : wpX_readers (fun r => wpY_readers (fun r' => r' = r ∧ i_Rel (k + 5) (f_brokenSet, f_touchedSet, f_oldBroken, f_ordered, f_pastEnd, f_pastCount, a_operation, a_reads, a_number, a_values, a_oldValues, a_order, a_pastCell, a_pastOperation, a_pastReads, a_pastNumber) (f_changes, f_differ, a_op, a_one, a_two, a_num, a_oldCell, a_oldOp, a_oldOne, a_oldTwo, a_oldNum, a_known, a_val, a_knownThen, a_valThen)) (f_changes, f_differ, a_op, a_one, a_two, a_num, a_oldCell, a_oldOp, a_oldOne, a_oldTwo, a_oldNum, a_known, a_val, a_knownThen, a_valThen) v1) (f_brokenSet, f_touchedSet, f_oldBroken, f_ordered, f_pastEnd, f_pastCount, a_operation, a_reads, a_number, a_values, a_oldValues, a_order, a_pastCell, a_pastOperation, a_pastReads, a_pastNumber) v1 := by
  have I' := I
  obtain ⟨e1, e2, hE, hb, hs, ht, hP⟩ := I
  have hR : ∀ i, i < 16 → bk_in16 (a_reads i) := fun i hi => bk_Tx_in (bk_En_Tx (hE i hi))
  unfold wpX_readers
  dsimp only
  rcases bk_cells v1 with h | ⟨c, hc, rfl⟩
  · exact bk_xC0 h (br_t rfl (bk_yrs0 h ⟨rfl, I'⟩))
  · refine bk_xC1 hc (br_f (by decide) (bk_xro (bk_yrs hc hE ⟨?_, I'⟩)))
    exact bk_ext16 (bk_mk16 _) (bk_mk16 _) (fun j hj => by rw [bk_rob1 hR hc hj, bk_mkl _ hj])
theorem bk_dependents {k : Nat} (I : bk_Rl f_brokenSet f_touchedSet f_pastEnd f_pastCount a_operation a_reads a_number a_values a_pastCell a_pastOperation a_pastReads a_pastNumber f_changes f_differ a_op a_one a_two a_num a_oldCell a_oldOp a_oldOne a_oldTwo a_oldNum) (v1 : Int32) : wpX_dependents (fun r => wpY_dependents (fun r' => r' = r ∧ i_Rel (k + 5) (f_brokenSet, f_touchedSet, f_oldBroken, f_ordered, f_pastEnd, f_pastCount, a_operation, a_reads, a_number, a_values, a_oldValues, a_order, a_pastCell, a_pastOperation, a_pastReads, a_pastNumber) (f_changes, f_differ, a_op, a_one, a_two, a_num, a_oldCell, a_oldOp, a_oldOne, a_oldTwo, a_oldNum, a_known, a_val, a_knownThen, a_valThen)) (f_changes, f_differ, a_op, a_one, a_two, a_num, a_oldCell, a_oldOp, a_oldOne, a_oldTwo, a_oldNum, a_known, a_val, a_knownThen, a_valThen) v1) (f_brokenSet, f_touchedSet, f_oldBroken, f_ordered, f_pastEnd, f_pastCount, a_operation, a_reads, a_number, a_values, a_oldValues, a_order, a_pastCell, a_pastOperation, a_pastReads, a_pastNumber) v1 := by
  have I' := I
  obtain ⟨e1, e2, hE, hb, hs, ht, hP⟩ := I
  have hR : ∀ i, i < 16 → bk_in16 (a_reads i) := fun i hi => bk_Tx_in (bk_En_Tx (hE i hi))
  unfold wpX_dependents
  dsimp only
  rcases bk_cells v1 with h | ⟨c, hc, rfl⟩
  · exact bk_xC0 h (br_t rfl (bk_ydep0 h ⟨rfl, I'⟩))
  · refine bk_xC1 hc (br_f (by decide) (bk_xreach hc hR (fun r h1 h2 => bk_ydep hc hE (fun r' h3 h4 => ⟨?_, I'⟩))))
    refine bk_ext16 h3 h1 (fun j hj => ?_)
    have q := (h4 j hj).trans (h2 j hj).symm
    cases x : bt r j
    · exact bk_nt (fun w => bk_ft x (q.mp w))
    · exact q.mpr x
theorem bk_total {k : Nat} (I : bk_Rl f_brokenSet f_touchedSet f_pastEnd f_pastCount a_operation a_reads a_number a_values a_pastCell a_pastOperation a_pastReads a_pastNumber f_changes f_differ a_op a_one a_two a_num a_oldCell a_oldOp a_oldOne a_oldTwo a_oldNum) (v1 v2 : Int32) : wpX_total (fun r => wpY_total (fun r' v' => r' = r ∧ i_Rel (k + 5) (f_brokenSet, f_touchedSet, f_oldBroken, f_ordered, f_pastEnd, f_pastCount, a_operation, a_reads, a_number, a_values, a_oldValues, a_order, a_pastCell, a_pastOperation, a_pastReads, a_pastNumber) v') (f_changes, f_differ, a_op, a_one, a_two, a_num, a_oldCell, a_oldOp, a_oldOne, a_oldTwo, a_oldNum, a_known, a_val, a_knownThen, a_valThen) v1 v2) (f_brokenSet, f_touchedSet, f_oldBroken, f_ordered, f_pastEnd, f_pastCount, a_operation, a_reads, a_number, a_values, a_oldValues, a_order, a_pastCell, a_pastOperation, a_pastReads, a_pastNumber) v1 v2 := by
  have I' := I
  obtain ⟨e1, e2, hE, hb, hs, ht, hP⟩ := I
  unfold wpX_total wpY_total
  dsimp only
  rcases bk_cells v1 with h | ⟨a, ha, rfl⟩
  · exact bk_xC0 h (br_t rfl (bk_ywork hE (fun k1 v1 _ hs' => bk_ytot0 (Or.inl h) ⟨rfl, I'⟩)))
  rcases bk_cells v2 with h | ⟨b, hb4, rfl⟩
  · exact bk_xC1 ha (br_f (by decide) (bk_xC0 h (br_t rfl (bk_ywork hE (fun k1 v1 _ hs' => bk_ytot0 (Or.inr ⟨⟨a, ha, rfl⟩, h⟩) ⟨rfl, I'⟩)))))
  refine bk_xC1 ha (br_f (by decide) (bk_xC1 hb4 (br_f (by decide) (bk_xrect ha hb4 (bk_xtot (bk_ywork hE (fun k1 v1 _ hs' => bk_ytot ha hb4 ⟨?_, I'⟩)))))))
  exact bk_sum_cg2 16 (fun j hj => ⟨(bk_mkl _ hj).symm, bk_Sol_v hs' hs hj⟩)
theorem bk_most {k : Nat} (I : bk_Rl f_brokenSet f_touchedSet f_pastEnd f_pastCount a_operation a_reads a_number a_values a_pastCell a_pastOperation a_pastReads a_pastNumber f_changes f_differ a_op a_one a_two a_num a_oldCell a_oldOp a_oldOne a_oldTwo a_oldNum) (v1 v2 : Int32) : wpX_most (fun r => wpY_most (fun r' v' => r' = r ∧ i_Rel (k + 5) (f_brokenSet, f_touchedSet, f_oldBroken, f_ordered, f_pastEnd, f_pastCount, a_operation, a_reads, a_number, a_values, a_oldValues, a_order, a_pastCell, a_pastOperation, a_pastReads, a_pastNumber) v') (f_changes, f_differ, a_op, a_one, a_two, a_num, a_oldCell, a_oldOp, a_oldOne, a_oldTwo, a_oldNum, a_known, a_val, a_knownThen, a_valThen) v1 v2) (f_brokenSet, f_touchedSet, f_oldBroken, f_ordered, f_pastEnd, f_pastCount, a_operation, a_reads, a_number, a_values, a_oldValues, a_order, a_pastCell, a_pastOperation, a_pastReads, a_pastNumber) v1 v2 := by
  have I' := I
  obtain ⟨e1, e2, hE, hb, hs, ht, hP⟩ := I
  unfold wpX_most wpY_most
  dsimp only
  rcases bk_cells v1 with h | ⟨a, ha, rfl⟩
  · exact bk_xC0 h (br_t rfl (bk_ywork hE (fun k1 v1 _ hs' => bk_ymst0 (Or.inl h) ⟨rfl, I'⟩)))
  rcases bk_cells v2 with h | ⟨b, hb4, rfl⟩
  · exact bk_xC1 ha (br_f (by decide) (bk_xC0 h (br_t rfl (bk_ywork hE (fun k1 v1 _ hs' => bk_ymst0 (Or.inr ⟨⟨a, ha, rfl⟩, h⟩) ⟨rfl, I'⟩)))))
  refine bk_xC1 ha (br_f (by decide) (bk_xC1 hb4 (br_f (by decide) (bk_xrect ha hb4 (nm_e (bk_xmst (bk_ywork hE (fun k1 v1 _ hs' => bk_ymst ha hb4 ⟨?_, I'⟩))))))))
  refine bk_mst_cg 16 (fun j hj => ⟨?_, bk_Sol_v hs' hs hj⟩)
  show (bk_inR a b j && bk_nz k1 j) = bt (bk_rect a b &&& (f_brokenSet ^^^ (-1))) j
  rw [b_and, bk_not _ _ (by omega), bk_ask_k hs hs' hj]
  unfold bk_rect
  rw [bk_mkl _ hj]
end
theorem i_vc_put {k : Nat} {u : SX} {v : SY} (I : i_Rel k u v) (hk : k + 5 ≤ 2560) (v1 : Int32) (v2 : Int32) : wpX_put (fun r u' => wpY_put (fun r' v' => r' = r ∧ i_Rel (k + 5) u' v') v v1 v2) u v1 v2 := by
  obtain ⟨f_brokenSet, f_touchedSet, f_oldBroken, f_ordered, f_pastEnd, f_pastCount, a_operation, a_reads, a_number, a_values, a_oldValues, a_order, a_pastCell, a_pastOperation, a_pastReads, a_pastNumber⟩ := u
  obtain ⟨f_changes, f_differ, a_op, a_one, a_two, a_num, a_oldCell, a_oldOp, a_oldOne, a_oldTwo, a_oldNum, a_known, a_val, a_knownThen, a_valThen⟩ := v
  exact bk_put I v1 v2
theorem i_vc_formula {k : Nat} {u : SX} {v : SY} (I : i_Rel k u v) (hk : k + 5 ≤ 2560) (v1 : Int32) (v2 : Int32) (v3 : Int32) (v4 : Int32) : wpX_formula (fun r u' => wpY_formula (fun r' v' => r' = r ∧ i_Rel (k + 5) u' v') v v1 v2 v3 v4) u v1 v2 v3 v4 := by
  obtain ⟨f_brokenSet, f_touchedSet, f_oldBroken, f_ordered, f_pastEnd, f_pastCount, a_operation, a_reads, a_number, a_values, a_oldValues, a_order, a_pastCell, a_pastOperation, a_pastReads, a_pastNumber⟩ := u
  obtain ⟨f_changes, f_differ, a_op, a_one, a_two, a_num, a_oldCell, a_oldOp, a_oldOne, a_oldTwo, a_oldNum, a_known, a_val, a_knownThen, a_valThen⟩ := v
  exact bk_formula I v1 v2 v3 v4
theorem i_vc_offset {k : Nat} {u : SX} {v : SY} (I : i_Rel k u v) (hk : k + 5 ≤ 2560) (v1 : Int32) (v2 : Int32) : wpX_offset (fun r u' => wpY_offset (fun r' v' => r' = r ∧ i_Rel (k + 5) u' v') v v1 v2) u v1 v2 := by
  obtain ⟨f_brokenSet, f_touchedSet, f_oldBroken, f_ordered, f_pastEnd, f_pastCount, a_operation, a_reads, a_number, a_values, a_oldValues, a_order, a_pastCell, a_pastOperation, a_pastReads, a_pastNumber⟩ := u
  obtain ⟨f_changes, f_differ, a_op, a_one, a_two, a_num, a_oldCell, a_oldOp, a_oldOne, a_oldTwo, a_oldNum, a_known, a_val, a_knownThen, a_valThen⟩ := v
  exact bk_offset I v1 v2
theorem i_vc_undo {k : Nat} {u : SX} {v : SY} (I : i_Rel k u v) (hk : k + 5 ≤ 2560) : wpX_undo (fun r u' => wpY_undo (fun r' v' => r' = r ∧ i_Rel (k + 5) u' v') v) u := by
  obtain ⟨f_brokenSet, f_touchedSet, f_oldBroken, f_ordered, f_pastEnd, f_pastCount, a_operation, a_reads, a_number, a_values, a_oldValues, a_order, a_pastCell, a_pastOperation, a_pastReads, a_pastNumber⟩ := u
  obtain ⟨f_changes, f_differ, a_op, a_one, a_two, a_num, a_oldCell, a_oldOp, a_oldOne, a_oldTwo, a_oldNum, a_known, a_val, a_knownThen, a_valThen⟩ := v
  exact bk_undo I
theorem i_vc_value {k : Nat} {u : SX} {v : SY} (I : i_Rel k u v) (hk : k + 5 ≤ 2560) (v1 : Int32) : wpX_value (fun r => wpY_value (fun r' v' => r' = r ∧ i_Rel (k + 5) u v') v v1) u v1 := by
  obtain ⟨f_brokenSet, f_touchedSet, f_oldBroken, f_ordered, f_pastEnd, f_pastCount, a_operation, a_reads, a_number, a_values, a_oldValues, a_order, a_pastCell, a_pastOperation, a_pastReads, a_pastNumber⟩ := u
  obtain ⟨f_changes, f_differ, a_op, a_one, a_two, a_num, a_oldCell, a_oldOp, a_oldOne, a_oldTwo, a_oldNum, a_known, a_val, a_knownThen, a_valThen⟩ := v
  exact bk_value I v1
theorem i_vc_broken {k : Nat} {u : SX} {v : SY} (I : i_Rel k u v) (hk : k + 5 ≤ 2560) (v1 : Int32) : wpX_broken (fun r => wpY_broken (fun r' v' => r' = r ∧ i_Rel (k + 5) u v') v v1) u v1 := by
  obtain ⟨f_brokenSet, f_touchedSet, f_oldBroken, f_ordered, f_pastEnd, f_pastCount, a_operation, a_reads, a_number, a_values, a_oldValues, a_order, a_pastCell, a_pastOperation, a_pastReads, a_pastNumber⟩ := u
  obtain ⟨f_changes, f_differ, a_op, a_one, a_two, a_num, a_oldCell, a_oldOp, a_oldOne, a_oldTwo, a_oldNum, a_known, a_val, a_knownThen, a_valThen⟩ := v
  exact bk_broken I v1
theorem i_vc_brokenCells {k : Nat} {u : SX} {v : SY} (I : i_Rel k u v) (hk : k + 5 ≤ 2560) : wpX_brokenCells (fun r => wpY_brokenCells (fun r' v' => r' = r ∧ i_Rel (k + 5) u v') v) u := by
  obtain ⟨f_brokenSet, f_touchedSet, f_oldBroken, f_ordered, f_pastEnd, f_pastCount, a_operation, a_reads, a_number, a_values, a_oldValues, a_order, a_pastCell, a_pastOperation, a_pastReads, a_pastNumber⟩ := u
  obtain ⟨f_changes, f_differ, a_op, a_one, a_two, a_num, a_oldCell, a_oldOp, a_oldOne, a_oldTwo, a_oldNum, a_known, a_val, a_knownThen, a_valThen⟩ := v
  exact bk_brokenCells I
theorem i_vc_touched {k : Nat} {u : SX} {v : SY} (I : i_Rel k u v) (hk : k + 5 ≤ 2560) : wpX_touched (fun r => wpY_touched (fun r' => r' = r ∧ i_Rel (k + 5) u v) v) u := by
  obtain ⟨f_brokenSet, f_touchedSet, f_oldBroken, f_ordered, f_pastEnd, f_pastCount, a_operation, a_reads, a_number, a_values, a_oldValues, a_order, a_pastCell, a_pastOperation, a_pastReads, a_pastNumber⟩ := u
  obtain ⟨f_changes, f_differ, a_op, a_one, a_two, a_num, a_oldCell, a_oldOp, a_oldOne, a_oldTwo, a_oldNum, a_known, a_val, a_knownThen, a_valThen⟩ := v
  exact bk_touched I
theorem i_vc_readers {k : Nat} {u : SX} {v : SY} (I : i_Rel k u v) (hk : k + 5 ≤ 2560) (v1 : Int32) : wpX_readers (fun r => wpY_readers (fun r' => r' = r ∧ i_Rel (k + 5) u v) v v1) u v1 := by
  obtain ⟨f_brokenSet, f_touchedSet, f_oldBroken, f_ordered, f_pastEnd, f_pastCount, a_operation, a_reads, a_number, a_values, a_oldValues, a_order, a_pastCell, a_pastOperation, a_pastReads, a_pastNumber⟩ := u
  obtain ⟨f_changes, f_differ, a_op, a_one, a_two, a_num, a_oldCell, a_oldOp, a_oldOne, a_oldTwo, a_oldNum, a_known, a_val, a_knownThen, a_valThen⟩ := v
  exact bk_readers I v1
theorem i_vc_dependents {k : Nat} {u : SX} {v : SY} (I : i_Rel k u v) (hk : k + 5 ≤ 2560) (v1 : Int32) : wpX_dependents (fun r => wpY_dependents (fun r' => r' = r ∧ i_Rel (k + 5) u v) v v1) u v1 := by
  obtain ⟨f_brokenSet, f_touchedSet, f_oldBroken, f_ordered, f_pastEnd, f_pastCount, a_operation, a_reads, a_number, a_values, a_oldValues, a_order, a_pastCell, a_pastOperation, a_pastReads, a_pastNumber⟩ := u
  obtain ⟨f_changes, f_differ, a_op, a_one, a_two, a_num, a_oldCell, a_oldOp, a_oldOne, a_oldTwo, a_oldNum, a_known, a_val, a_knownThen, a_valThen⟩ := v
  exact bk_dependents I v1
theorem i_vc_total {k : Nat} {u : SX} {v : SY} (I : i_Rel k u v) (hk : k + 5 ≤ 2560) (v1 : Int32) (v2 : Int32) : wpX_total (fun r => wpY_total (fun r' v' => r' = r ∧ i_Rel (k + 5) u v') v v1 v2) u v1 v2 := by
  obtain ⟨f_brokenSet, f_touchedSet, f_oldBroken, f_ordered, f_pastEnd, f_pastCount, a_operation, a_reads, a_number, a_values, a_oldValues, a_order, a_pastCell, a_pastOperation, a_pastReads, a_pastNumber⟩ := u
  obtain ⟨f_changes, f_differ, a_op, a_one, a_two, a_num, a_oldCell, a_oldOp, a_oldOne, a_oldTwo, a_oldNum, a_known, a_val, a_knownThen, a_valThen⟩ := v
  exact bk_total I v1 v2
theorem i_vc_most {k : Nat} {u : SX} {v : SY} (I : i_Rel k u v) (hk : k + 5 ≤ 2560) (v1 : Int32) (v2 : Int32) : wpX_most (fun r => wpY_most (fun r' v' => r' = r ∧ i_Rel (k + 5) u v') v v1 v2) u v1 v2 := by
  obtain ⟨f_brokenSet, f_touchedSet, f_oldBroken, f_ordered, f_pastEnd, f_pastCount, a_operation, a_reads, a_number, a_values, a_oldValues, a_order, a_pastCell, a_pastOperation, a_pastReads, a_pastNumber⟩ := u
  obtain ⟨f_changes, f_differ, a_op, a_one, a_two, a_num, a_oldCell, a_oldOp, a_oldOne, a_oldTwo, a_oldNum, a_known, a_val, a_knownThen, a_valThen⟩ := v
  exact bk_most I v1 v2
end
