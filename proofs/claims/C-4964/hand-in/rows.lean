section
/-! rows of kit/rows (starting texts) -/
theorem pk_us {f : Nat → Int32} {k : Nat} {x : Int32} : upd f k x k = x := if_pos rfl
theorem pk_un {f : Nat → Int32} {k j : Nat} {x : Int32} (h : j ≠ k) : upd f k x j = f j := if_neg h
theorem pk_uLs {f : Nat → Int64} {k : Nat} {x : Int64} : vp_updL f k x k = x := if_pos rfl
theorem pk_uLn {f : Nat → Int64} {k j : Nat} {x : Int64} (h : j ≠ k) : vp_updL f k x j = f j := if_neg h
theorem pk_sub {a b : Nat} (h : b ≤ a) : nI a - nI b = nI (a - b) := by
  obtain ⟨c, rfl⟩ : ∃ c, a = c + b := ⟨a - b, by omega⟩
  rw [← nI_add, Int32.add_sub_cancel, Nat.add_sub_cancel]
theorem pk_m1 (n : Nat) : nI (n + 1) + (-1) = nI n := by
  rw [← nI_1, Int32.add_assoc, show (1 : Int32) + (-1) = 0 from rfl, Int32.add_zero]
theorem pk_mul (a b : Nat) : nI a * nI b = nI (a * b) := (Int32.ofNat_mul a b).symm
theorem pk_div {a d : Nat} (ha : a < 2 ^ 31) (h0 : 0 < d) (hd : d < 2 ^ 31) : nI a / nI d = nI (a / d) := by
  apply Int32.toInt_inj.mp
  rw [lg_idiv_nonneg (by rw [nI_toInt ha]; omega) (by rw [nI_toInt hd]; omega), nI_toInt ha, nI_toInt hd, nI_toInt (Nat.lt_of_le_of_lt (Nat.div_le_self a d) ha)]
  first | rfl | exact (Int.natCast_ediv _ _).symm
theorem pk_rem {a d : Nat} (ha : a < 2 ^ 31) (h0 : 0 < d) (hd : d < 2 ^ 31) : nI a - nI a / nI d * nI d = nI (a % d) := by
  rw [pk_div ha h0 hd, pk_mul, pk_sub (Nat.div_mul_le_self a d)]
  exact congrArg nI (by have := Nat.div_add_mod' a d; omega)
theorem pk_sub_toInt {a b : Nat} (ha : a < 2 ^ 30) (hb : b < 2 ^ 30) : (nI a - nI b).toInt = (a : Int) - b := by
  rw [Int32.toInt_sub, nI_toInt (by omega), nI_toInt (by omega)]
  exact Int.bmod_eq_of_le (by omega) (by omega)
theorem pk_ix (x : Int32) {n : Nat} (hn : n < 2 ^ 31) : x < 0 ∨ nI n ≤ x ∨ ∃ j : Nat, j < n ∧ x = nI j := by
  by_cases h : x < 0
  · exact Or.inl h
  · obtain ⟨j, hj, rfl⟩ := nI_of h
    by_cases h2 : j < n
    · exact Or.inr (Or.inr ⟨j, h2, rfl⟩)
    · exact Or.inr (Or.inl (nI_le (by omega) hj))
theorem pk_le {x y : Int32} {A B : Prop} (a b : Nat) (f : a ≤ b → A) (g : b < a → B) (hx : x = nI a := by rfl) (hy : y = nI b := by rfl) (ha : a < 2 ^ 31 := by omega) (hb : b < 2 ^ 31 := by omega) : (x ≤ y → A) ∧ (¬ x ≤ y → B) := by
  subst hx hy
  rw [nI_leI ha hb]
  exact ⟨f, fun z => g (by omega)⟩
theorem pk_lt {x y : Int32} {A B : Prop} (a b : Nat) (f : a < b → A) (g : b ≤ a → B) (hx : x = nI a := by rfl) (hy : y = nI b := by rfl) (ha : a < 2 ^ 31 := by omega) (hb : b < 2 ^ 31 := by omega) : (x < y → A) ∧ (¬ x < y → B) := by
  subst hx hy
  rw [nI_ltI ha hb]
  exact ⟨f, fun z => g (by omega)⟩
theorem pk_eq {x y : Int32} {A B : Prop} (a b : Nat) (f : a = b → A) (g : a ≠ b → B) (hx : x = nI a := by rfl) (hy : y = nI b := by rfl) (ha : a < 2 ^ 31 := by omega) (hb : b < 2 ^ 31 := by omega) : (x = y → A) ∧ (¬ x = y → B) := by
  subst hx hy
  rw [nI_eq ha hb]
  exact ⟨f, g⟩
theorem pk_in {x : Int32} (n N : Nat) (h : n < N) (hx : x = nI n := by rfl) (hN : N < 2 ^ 31 := by omega) : vp_in x N := by
  subst hx
  exact vp_in_nI h hN
theorem pk_cl {x : Int32} (n : Nat) (hx : x = nI n := by rfl) (h : n < 2 ^ 31 := by omega) : x.toNatClampNeg = n := by
  subst hx
  exact nI_clamp h
theorem pk_tn {n : Nat} (h : n < 2 ^ 32) : (nI n).toBitVec.toNat = n := Nat.mod_eq_of_lt h
theorem pk_vb (z : Int32) : vp_nar .byte z.toInt8.toInt32 = z.toInt8.toInt32 := by rw [vp_nar_byte]; simp
theorem pk_lT {n : Nat} (h : n < 2 ^ 63) : (lN n).toInt = (n : Int) := lg_ofNat_toInt h
theorem pk_lLT {a b : Nat} (ha : a < 2 ^ 63) (hb : b < 2 ^ 63) : lN a < lN b ↔ a < b := by
  rw [Int64.lt_iff_toInt_lt, pk_lT ha, pk_lT hb]; omega
theorem pk_lLE {a b : Nat} (ha : a < 2 ^ 63) (hb : b < 2 ^ 63) : lN a ≤ lN b ↔ a ≤ b := by
  rw [Int64.le_iff_toInt_le, pk_lT ha, pk_lT hb]; omega
theorem pk_lEQ {a b : Nat} (ha : a < 2 ^ 63) (hb : b < 2 ^ 63) : lN a = lN b ↔ a = b := by
  rw [← Int64.toInt_inj, pk_lT ha, pk_lT hb]; omega
theorem pk_lOf {x : Int64} (h : ¬ x < 0) : ∃ k : Nat, k < 2 ^ 63 ∧ x = lN k := by
  rw [Int64.lt_iff_toInt_lt] at h
  have h0 : (0 : Int64).toInt = 0 := by decide
  have hx := Int64.toInt_lt x
  refine ⟨x.toInt.toNat, by omega, Int64.toInt_inj.mp ?_⟩
  rw [pk_lT (by omega)]
  omega
theorem pk_lDiv {a b : Nat} (ha : a < 2 ^ 63) (h0 : 0 < b) (hb : b < 2 ^ 63) : lN a / lN b = lN (a / b) := by
  apply Int64.toInt_inj.mp
  rw [lg_ldiv_nonneg (by rw [pk_lT ha]; omega) (by rw [pk_lT hb]; omega), pk_lT ha, pk_lT hb, pk_lT (Nat.lt_of_le_of_lt (Nat.div_le_self a b) ha)]
  rfl
theorem pk_lRem {a b : Nat} (ha : a < 2 ^ 63) (h0 : 0 < b) (hb : b < 2 ^ 63) : lN a - lN a / lN b * lN b = lN (a % b) := by
  rw [pk_lDiv ha h0 hb, lN_mul, lN_sub (Nat.div_mul_le_self a b)]
  exact congrArg lN (by have := Nat.div_add_mod' a b; omega)
theorem pk_loop {σ : Type} (W : Nat → Nat → σ → Prop) (I : Nat → σ → Prop) (e i0 : Nat) (s : σ) (hi : i0 ≤ e) (h0 : I i0 s) (hx : ∀ n s, I e s → W (n + 1) e s)
    (hs : ∀ n i s, i < e → I i s → (∀ s', I (i + 1) s' → W n (i + 1) s') → W (n + 1) i s) : ∃ n, W n i0 s :=
  ⟨e + 1, loop_i W I e hx hs (e + 1) i0 s hi (by omega) h0⟩
/-! ===== Int32 by its bits: bt x i ===== -/
def bt (x : Int32) (i : Nat) : Bool := x.toBitVec.getLsbD i
theorem b_ext {x y : Int32} (h : ∀ i, i < 32 → bt x i = bt y i) : x = y := Int32.toBitVec_inj.mp (BitVec.eq_of_getLsbD_eq (fun i hi => h i hi))
theorem b_or (x y : Int32) (i : Nat) : bt (x ||| y) i = (bt x i || bt y i) := by unfold bt; rw [Int32.toBitVec_or, BitVec.getLsbD_or]
theorem b_and (x y : Int32) (i : Nat) : bt (x &&& y) i = (bt x i && bt y i) := by unfold bt; rw [Int32.toBitVec_and, BitVec.getLsbD_and]
theorem b_xor (x y : Int32) (i : Nat) : bt (x ^^^ y) i = (bt x i ^^ bt y i) := by unfold bt; rw [Int32.toBitVec_xor, BitVec.getLsbD_xor]
theorem b_big {x : Int32} {i : Nat} (h : 32 ≤ i) : bt x i = false := BitVec.getLsbD_of_ge _ _ h
theorem b_255 (i : Nat) : bt 255 i = decide (i < 8) := by
  rcases Nat.lt_or_ge i 32 with h | h
  · exact (by decide +kernel : ∀ i, i < 32 → bt 255 i = decide (i < 8)) i h
  · rw [b_big h, decide_eq_false (by omega)]
theorem b_65535 (i : Nat) : bt 65535 i = decide (i < 16) := by
  rcases Nat.lt_or_ge i 32 with h | h
  · exact (by decide +kernel : ∀ i, i < 32 → bt 65535 i = decide (i < 16)) i h
  · rw [b_big h, decide_eq_false (by omega)]
theorem b_m1 : ∀ i, i < 32 → bt (-1) i = true := by decide +kernel
theorem b_0 (i : Nat) : bt 0 i = false := BitVec.getLsbD_zero
theorem s_l : ∀ n, n < 32 → ((nI n &&& 31).toBitVec.smod 32).toNat = n := by decide +kernel
theorem s_u : ∀ n, n < 32 → (((nI n).toUInt32 &&& Int32.toUInt32 31).toBitVec % 32).toNat = n := by decide +kernel
theorem b_shl (n : Nat) (hn : n < 32) (x : Int32) {i : Nat} (hi : i < 32) : bt (x <<< (nI n &&& 31)) i = (decide (n ≤ i) && bt x (i - n)) := by
  unfold bt
  rw [Int32.toBitVec_shiftLeft]
  show (x.toBitVec <<< ((nI n &&& 31).toBitVec.smod 32).toNat).getLsbD i = _
  rw [s_l n hn, BitVec.getLsbD_shiftLeft]
  rcases Nat.lt_or_ge i n with h | h
  · simp [h, Nat.not_le.mpr h]
  · simp [hi, h, Nat.not_lt.mpr h]
theorem b_ushr (n : Nat) (hn : n < 32) (x : Int32) (i : Nat) : bt ((x.toUInt32 >>> ((nI n).toUInt32 &&& Int32.toUInt32 31)).toInt32) i = bt x (n + i) := by
  show (x.toUInt32 >>> ((nI n).toUInt32 &&& Int32.toUInt32 31)).toBitVec.getLsbD i = x.toUInt32.toBitVec.getLsbD (n + i)
  rw [UInt32.toBitVec_shiftRight]
  show (x.toUInt32.toBitVec >>> (((nI n).toUInt32 &&& Int32.toUInt32 31).toBitVec % 32).toNat).getLsbD i = _
  rw [s_u n hn, BitVec.getLsbD_ushiftRight]
theorem b_sshr (n : Nat) (hn : n < 32) (x : Int32) {i : Nat} (hi : i < 32) : bt (x >>> (nI n &&& 31)) i = if n + i < 32 then bt x (n + i) else bt x 31 := by
  unfold bt
  rw [Int32.toBitVec_shiftRight]
  show (x.toBitVec.sshiftRight ((nI n &&& 31).toBitVec.smod 32).toNat).getLsbD i = _
  rw [s_l n hn, BitVec.getLsbD_sshiftRight, BitVec.msb_eq_getLsbD_last]
  simp [hi]
theorem b_shl8 (x : Int32) {i : Nat} (hi : i < 32) : bt (x <<< ((8 : Int32) &&& 31)) i = (decide (8 ≤ i) && bt x (i - 8)) := b_shl 8 (by omega) x hi
theorem b_shl16 (x : Int32) {i : Nat} (hi : i < 32) : bt (x <<< ((16 : Int32) &&& 31)) i = (decide (16 ≤ i) && bt x (i - 16)) := b_shl 16 (by omega) x hi
theorem b_shl24 (x : Int32) {i : Nat} (hi : i < 32) : bt (x <<< ((24 : Int32) &&& 31)) i = (decide (24 ≤ i) && bt x (i - 24)) := b_shl 24 (by omega) x hi
theorem b_sshr8 (x : Int32) {i : Nat} (hi : i < 32) : bt (x >>> ((8 : Int32) &&& 31)) i = if 8 + i < 32 then bt x (8 + i) else bt x 31 := b_sshr 8 (by omega) x hi
end
section
/-! ===== sums, iterates, pigeonhole ===== -/
def mc_sm (g : Nat → Int) : Nat → Int
  | 0 => 0
  | k + 1 => mc_sm g k + g k
theorem mc_sm_s (g : Nat → Int) (k : Nat) : mc_sm g (k + 1) = mc_sm g k + g k := rfl
theorem mc_sm_0 (g : Nat → Int) : mc_sm g 0 = 0 := rfl
theorem mc_sm_c {g h : Nat → Int} : ∀ k, (∀ i, i < k → g i = h i) → mc_sm g k = mc_sm h k := by
  intro k
  induction k with
  | zero => intro _; rfl
  | succ k ih =>
    intro H
    rw [mc_sm_s, mc_sm_s, ih (fun i hi => H i (by omega)), H k (by omega)]
theorem mc_sm_add (g : Nat → Int) (a : Nat) : ∀ b, mc_sm g (a + b) = mc_sm g a + mc_sm (fun i => g (a + i)) b := by
  intro b
  induction b with
  | zero => show mc_sm g a = mc_sm g a + 0; omega
  | succ b ih =>
    show mc_sm g (a + b) + g (a + b) = mc_sm g a + (mc_sm (fun i => g (a + i)) b + g (a + b))
    rw [ih]; omega
theorem mc_sm_1 (g : Nat → Int) (k : Nat) : mc_sm g (k + 1) = g 0 + mc_sm (fun i => g (i + 1)) k := by
  have e := mc_sm_add g 1 k
  have k1 : 1 + k = k + 1 := by omega
  rw [k1] at e
  rw [e]
  have h1 : mc_sm g 1 = g 0 := by show 0 + g 0 = g 0; omega
  have h2 : mc_sm (fun i => g (1 + i)) k = mc_sm (fun i => g (i + 1)) k := mc_sm_c k (fun i _ => by
    show g (1 + i) = g (i + 1)
    rw [Nat.add_comm])
  rw [h1, h2]
theorem mc_sm_rev (h : Nat → Int) : ∀ K, mc_sm (fun x => h (K - 1 - x)) K = mc_sm h K := by
  intro K
  induction K with
  | zero => rfl
  | succ K ih =>
    rw [mc_sm_1, mc_sm_s]
    have h2 : mc_sm (fun i => h (K + 1 - 1 - (i + 1))) K = mc_sm (fun x => h (K - 1 - x)) K := mc_sm_c K (fun i _ => by
      show h (K + 1 - 1 - (i + 1)) = h (K - 1 - i)
      have : K + 1 - 1 - (i + 1) = K - 1 - i := by omega
      rw [this])
    rw [h2, ih]
    show h (K + 1 - 1 - 0) + mc_sm h K = mc_sm h K + h K
    have : K + 1 - 1 - 0 = K := by omega
    rw [this]; omega
theorem mc_sm_rot (g : Nat → Int) {K s : Nat} (hs : s < K) : mc_sm (fun i => g ((s + i) % K)) K = mc_sm g K := by
  have e1 := mc_sm_add (fun i => g ((s + i) % K)) (K - s) s
  have e2 := mc_sm_add g s (K - s)
  have h1 : mc_sm (fun i => g ((s + i) % K)) (K - s) = mc_sm (fun i => g (s + i)) (K - s) := mc_sm_c _ (fun i hi => by
    show g ((s + i) % K) = g (s + i)
    rw [Nat.mod_eq_of_lt (by omega)])
  have h2 : mc_sm (fun i => (fun i => g ((s + i) % K)) ((K - s) + i)) s = mc_sm g s := mc_sm_c _ (fun i hi => by
    show g ((s + (K - s + i)) % K) = g i
    have h3 : s + (K - s + i) = i + K := by omega
    rw [h3, Nat.add_mod_right, Nat.mod_eq_of_lt (by omega)])
  have k1 : (K - s) + s = K := by omega
  have k2 : s + (K - s) = K := by omega
  rw [k1] at e1
  rw [k2] at e2
  rw [e1, e2, h1, h2]
  omega
theorem mc_sm_lin (g h : Nat → Int) (a b : Int) : ∀ k, mc_sm (fun i => g i * a - b * h i) k = mc_sm g k * a - b * mc_sm h k := by
  intro k
  induction k with
  | zero => show (0 : Int) = 0 * a - b * 0; rw [Int.zero_mul, Int.mul_zero]; rfl
  | succ k ih =>
    rw [mc_sm_s, mc_sm_s, mc_sm_s, ih, Int.add_mul, Int.mul_add]
    omega
theorem mc_sm_sub (g h : Nat → Int) : ∀ k, mc_sm (fun i => g i - h i) k = mc_sm g k - mc_sm h k := by
  intro k
  induction k with
  | zero => rfl
  | succ k ih => rw [mc_sm_s, mc_sm_s, mc_sm_s, ih]; omega
theorem mc_sm_addf (g h : Nat → Int) : ∀ k, mc_sm (fun i => g i + h i) k = mc_sm g k + mc_sm h k := by
  intro k
  induction k with
  | zero => rfl
  | succ k ih => rw [mc_sm_s, mc_sm_s, mc_sm_s, ih]; omega
theorem mc_sm_le {g : Nat → Int} {B : Int} : ∀ k : Nat, (∀ i, i < k → g i ≤ B) → mc_sm g k ≤ (k : Int) * B := by
  intro k
  induction k with
  | zero => intro _; show (0 : Int) ≤ ((0 : Nat) : Int) * B; rw [Int.natCast_zero, Int.zero_mul]; omega
  | succ k ih =>
    intro H
    have h1 := ih (fun i hi => H i (by omega))
    have h2 := H k (by omega)
    rw [mc_sm_s, Int.natCast_add, Int.add_mul]
    have h3 : ((1 : Nat) : Int) * B = B := by rw [Int.natCast_one, Int.one_mul]
    rw [h3]; omega
theorem mc_sm_ge {g : Nat → Int} {B : Int} : ∀ k : Nat, (∀ i, i < k → B ≤ g i) → (k : Int) * B ≤ mc_sm g k := by
  intro k
  induction k with
  | zero => intro _; show ((0 : Nat) : Int) * B ≤ 0; rw [Int.natCast_zero, Int.zero_mul]; omega
  | succ k ih =>
    intro H
    have h1 := ih (fun i hi => H i (by omega))
    have h2 := H k (by omega)
    rw [mc_sm_s, Int.natCast_add, Int.add_mul]
    have h3 : ((1 : Nat) : Int) * B = B := by rw [Int.natCast_one, Int.one_mul]
    rw [h3]; omega
theorem mc_sm_const (B : Int) : ∀ k : Nat, mc_sm (fun _ => B) k = (k : Int) * B := by
  intro k
  induction k with
  | zero => show (0 : Int) = ((0 : Nat) : Int) * B; rw [Int.natCast_zero, Int.zero_mul]
  | succ k ih =>
    rw [mc_sm_s, Int.natCast_add, Int.add_mul, ih]
    have h3 : ((1 : Nat) : Int) * B = B := by rw [Int.natCast_one, Int.one_mul]
    rw [h3]
theorem mc_sm_nn {g : Nat → Int} : ∀ k : Nat, (∀ i, i < k → 0 ≤ g i) → 0 ≤ mc_sm g k := by
  intro k
  induction k with
  | zero => intro _; show (0 : Int) ≤ 0; omega
  | succ k ih =>
    intro H
    have h1 := ih (fun i hi => H i (by omega))
    have h2 := H k (by omega)
    rw [mc_sm_s]; omega
theorem mc_sm_z {g : Nat → Int} : ∀ k : Nat, (∀ i, i < k → 0 ≤ g i) → mc_sm g k ≤ 0 → ∀ i, i < k → g i = 0 := by
  intro k
  induction k with
  | zero => intro _ _ i hi; omega
  | succ k ih =>
    intro H hz i hi
    have h1 := mc_sm_nn k (fun i hi => H i (by omega))
    have h2 := H k (by omega)
    rw [mc_sm_s] at hz
    by_cases e : i = k
    · rw [e]; omega
    · exact ih (fun i hi => H i (by omega)) (by omega) i (by omega)
theorem mc_sm_neg {g : Nat → Int} : ∀ k : Nat, (∀ i, i < k → g i ≤ 0) → ∀ j, j < k → g j < 0 → mc_sm g k < 0 := by
  intro k H j hj hneg
  have h1 := mc_sm_nn (g := fun i => 0 - g i) k (fun i hi => by have := H i hi; show 0 ≤ 0 - g i; omega)
  have h2 := mc_sm_sub (fun _ => 0) g k
  have h3 : mc_sm (fun _ => (0 : Int)) k = 0 := by rw [mc_sm_const, Int.mul_zero]
  rw [h3] at h2
  have h4 : mc_sm (fun i => (fun _ => (0 : Int)) i - g i) k = mc_sm (fun i => 0 - g i) k := rfl
  rw [h4] at h2
  by_cases hz : mc_sm g k < 0
  · exact hz
  · exfalso
    have h5 := mc_sm_z (g := fun i => 0 - g i) k (fun i hi => by have := H i hi; show 0 ≤ 0 - g i; omega) (by omega) j hj
    have h6 : 0 - g j = 0 := h5
    omega
theorem mc_sm_tel (e : Nat → Int) : ∀ k : Nat, mc_sm (fun i => e i - e (i + 1)) k = e 0 - e k := by
  intro k
  induction k with
  | zero => show (0 : Int) = e 0 - e 0; omega
  | succ k ih => rw [mc_sm_s, ih]; omega
/-! iterates -/
def mc_it (q : Nat → Nat) : Nat → Nat → Nat
  | 0, v => v
  | k + 1, v => q (mc_it q k v)
theorem mc_it_s (q : Nat → Nat) (k v : Nat) : mc_it q (k + 1) v = q (mc_it q k v) := rfl
theorem mc_it_add (q : Nat → Nat) (b v : Nat) : ∀ a, mc_it q (a + b) v = mc_it q a (mc_it q b v) := by
  intro a
  induction a with
  | zero => rw [Nat.zero_add]; rfl
  | succ a ih =>
    have e : a + 1 + b = (a + b) + 1 := by omega
    rw [e, mc_it_s, mc_it_s, ih]
/-! pigeonhole -/
theorem mc_ph : ∀ (n : Nat) (p : Nat → Nat), (∀ i, i ≤ n → p i < n) → ∃ i j, i < j ∧ j ≤ n ∧ p i = p j := by
  intro n
  induction n with
  | zero => intro p h; exact absurd (h 0 (Nat.le_refl 0)) (Nat.not_lt_zero _)
  | succ n ih =>
    intro p h
    by_cases hx : ∃ i, i ≤ n ∧ p i = p (n + 1)
    · obtain ⟨i, hi, e⟩ := hx
      exact ⟨i, n + 1, by omega, Nat.le_refl _, e⟩
    · have hx' : ∀ i, i ≤ n → p i ≠ p (n + 1) := fun i hi e => hx ⟨i, hi, e⟩
      obtain ⟨i, j, hij, hj, e⟩ := ih (fun i => if p i = n then p (n + 1) else p i) (by
        intro i hi
        have h1 := h i (by omega)
        have h2 := h (n + 1) (Nat.le_refl _)
        have h3 := hx' i hi
        show (if p i = n then p (n + 1) else p i) < n
        by_cases z : p i = n
        · rw [if_pos z]; omega
        · rw [if_neg z]; omega)
      have e' : (if p i = n then p (n + 1) else p i) = (if p j = n then p (n + 1) else p j) := e
      refine ⟨i, j, hij, by omega, ?_⟩
      have h3 := hx' i (by omega)
      have h4 := hx' j (by omega)
      by_cases z : p i = n
      · by_cases y : p j = n
        · rw [z, y]
        · rw [if_pos z, if_neg y] at e'
          exact absurd e'.symm h4
      · by_cases y : p j = n
        · rw [if_neg z, if_pos y] at e'
          exact absurd e' h3
        · rw [if_neg z, if_neg y] at e'
          exact e'
theorem mc_least (P : Nat → Prop) : (∃ k, P k) → ∃ k, P k ∧ ∀ j, j < k → ¬ P j := by
  have key : ∀ m, (∃ k, k < m ∧ P k) → ∃ k, P k ∧ ∀ j, j < k → ¬ P j := by
    intro m
    induction m with
    | zero => intro h; obtain ⟨k, hk, _⟩ := h; omega
    | succ m ih =>
      intro h
      by_cases g : ∃ k, k < m ∧ P k
      · exact ih g
      · obtain ⟨k, hk, pk⟩ := h
        have ekm : k = m := by
          by_cases e : k = m
          · exact e
          · exact absurd ⟨k, by omega, pk⟩ g
        exact ⟨k, pk, fun j hj pj => g ⟨j, by omega, pj⟩⟩
  intro h
  obtain ⟨k, pk⟩ := h
  exact key (k + 1) ⟨k, by omega, pk⟩
theorem mc_argmin (g : Nat → Int) (P : Nat → Prop) : ∀ n, (∃ k, k < n ∧ P k) → ∃ k, k < n ∧ P k ∧ ∀ j, j < n → P j → g k ≤ g j := by
  intro n
  induction n with
  | zero => intro h; obtain ⟨k, hk, _⟩ := h; omega
  | succ n ih =>
    intro h
    by_cases z : ∃ k, k < n ∧ P k
    · obtain ⟨k, hk, pk, mk⟩ := ih z
      by_cases y : P n ∧ g n < g k
      · refine ⟨n, by omega, y.1, fun j hj pj => ?_⟩
        by_cases e : j = n
        · rw [e]; exact Int.le_refl _
        · have := mk j (by omega) pj
          have := y.2
          omega
      · refine ⟨k, by omega, pk, fun j hj pj => ?_⟩
        by_cases e : j = n
        · rw [e] at pj ⊢
          by_cases hl : g n < g k
          · exact absurd ⟨pj, hl⟩ y
          · omega
        · exact mk j (by omega) pj
    · obtain ⟨k, hk, pk⟩ := h
      have ekn : k = n := by
        by_cases e : k = n
        · exact e
        · exact absurd ⟨k, by omega, pk⟩ z
      refine ⟨k, hk, pk, fun j hj pj => ?_⟩
      by_cases e : j = k
      · rw [e]; exact Int.le_refl _
      · exact absurd ⟨j, by omega, pj⟩ z
end
section
/-! ===== cycles, paths, potentials ===== -/
def mc_nx (K i : Nat) : Nat := if i + 1 < K then i + 1 else 0
theorem mc_nx_mod {K i : Nat} (h : i < K) : mc_nx K i = (i + 1) % K := by
  unfold mc_nx
  by_cases z : i + 1 < K
  · rw [if_pos z, Nat.mod_eq_of_lt z]
  · have e : i + 1 = K := by omega
    rw [if_neg z, e, Nat.mod_self]
theorem mc_nx_lt {K i : Nat} (h : i < K) : mc_nx K i < K := by
  unfold mc_nx
  by_cases z : i + 1 < K
  · rw [if_pos z]; exact z
  · rw [if_neg z]; omega
theorem mc_md {a K : Nat} (h : a < K + K) : a % K = if a < K then a else a - K := by
  by_cases z : a < K
  · rw [if_pos z, Nat.mod_eq_of_lt z]
  · rw [if_neg z]
    have e : a = (a - K) + K := by omega
    have e2 : ((a - K) + K) % K = a - K := by rw [Nat.add_mod_right, Nat.mod_eq_of_lt (by omega)]
    rw [← e] at e2
    exact e2
def mc_Cr (n : Nat) (E : Nat → Nat → Prop) (K : Nat) (f : Nat → Nat) : Prop :=
  0 < K ∧ (∀ i, i < K → f i < n) ∧ (∀ i j, i < j → j < K → f i ≠ f j) ∧ ∀ i, i < K → E (f i) (f (mc_nx K i))
def mc_Cy (n : Nat) (E : Nat → Nat → Prop) (K : Nat) (f : Nat → Nat) : Prop :=
  mc_Cr n E K f ∧ ∀ i, 0 < i → i < K → f 0 < f i
def mc_S (g : Nat → Nat → Int) (K : Nat) (f : Nat → Nat) : Int := mc_sm (fun i => g (f i) (f (mc_nx K i))) K
theorem mc_argminN (p : Nat → Nat) {K : Nat} (h : 0 < K) : ∃ s, s < K ∧ ∀ i, i < K → p s ≤ p i := by
  obtain ⟨s, hs, _, m⟩ := mc_argmin (fun i => ((p i : Nat) : Int)) (fun _ => True) K ⟨0, h, trivial⟩
  refine ⟨s, hs, fun i hi => ?_⟩
  have h1 : ((p s : Nat) : Int) ≤ ((p i : Nat) : Int) := m i hi trivial
  omega
theorem mc_rot {n : Nat} {E : Nat → Nat → Prop} {K : Nat} {p : Nat → Nat} (h : mc_Cr n E K p) :
    ∃ f, mc_Cy n E K f ∧ (∀ g, mc_S g K f = mc_S g K p) ∧ (∀ x, x < K → ∃ i, i < K ∧ f i = p x ∧ f (mc_nx K i) = p (mc_nx K x)) := by
  obtain ⟨hK, hb, hd, hE⟩ := h
  obtain ⟨s, hs, hm⟩ := mc_argminN p hK
  have hd' : ∀ i j, i < K → j < K → i ≠ j → p i ≠ p j := by
    intro i j hi hj hij
    by_cases z : i < j
    · exact hd i j z hj
    · exact fun e => hd j i (by omega) hi e.symm
  have lt : ∀ i, (s + i) % K < K := fun i => Nat.mod_lt _ hK
  have nxe : ∀ i, i < K → (s + mc_nx K i) % K = mc_nx K ((s + i) % K) := by
    intro i hi
    rw [mc_nx_mod hi, mc_nx_mod (lt i), Nat.add_mod_mod, Nat.mod_add_mod, Nat.add_assoc]
  refine ⟨fun i => p ((s + i) % K), ⟨⟨hK, fun i _ => hb _ (lt i), ?_, ?_⟩, ?_⟩, ?_, ?_⟩
  · intro i j hij hj
    refine hd' _ _ (lt i) (lt j) ?_
    rw [mc_md (a := s + i) (by omega), mc_md (a := s + j) (by omega)]
    by_cases z : s + i < K
    · by_cases y : s + j < K
      · rw [if_pos z, if_pos y]; omega
      · rw [if_pos z, if_neg y]; omega
    · by_cases y : s + j < K
      · rw [if_neg z, if_pos y]; omega
      · rw [if_neg z, if_neg y]; omega
  · intro i hi
    show E (p ((s + i) % K)) (p ((s + mc_nx K i) % K))
    rw [nxe i hi]
    exact hE _ (lt i)
  · intro i h0 hi
    show p ((s + 0) % K) < p ((s + i) % K)
    rw [Nat.add_zero, Nat.mod_eq_of_lt hs]
    have h1 := hm _ (lt i)
    have h2 : p s ≠ p ((s + i) % K) := hd' _ _ hs (lt i) (by
      rw [mc_md (a := s + i) (by omega)]
      by_cases z : s + i < K
      · rw [if_pos z]; omega
      · rw [if_neg z]; omega)
    omega
  · intro g
    have e1 : mc_S g K (fun i => p ((s + i) % K)) = mc_sm (fun i => (fun x => g (p x) (p (mc_nx K x))) ((s + i) % K)) K :=
      mc_sm_c K (fun i hi => by
        show g (p ((s + i) % K)) (p ((s + mc_nx K i) % K)) = g (p ((s + i) % K)) (p (mc_nx K ((s + i) % K)))
        rw [nxe i hi])
    rw [e1]
    exact mc_sm_rot (fun x => g (p x) (p (mc_nx K x))) hs
  · intro x hx
    have key : ∃ i, i < K ∧ (s + i) % K = x := by
      by_cases z : s ≤ x
      · refine ⟨x - s, by omega, ?_⟩
        have e : s + (x - s) = x := by omega
        rw [e, Nat.mod_eq_of_lt hx]
      · refine ⟨x + K - s, by omega, ?_⟩
        have e : s + (x + K - s) = x + K := by omega
        rw [e, Nat.add_mod_right, Nat.mod_eq_of_lt hx]
    obtain ⟨i, hi, e⟩ := key
    refine ⟨i, hi, ?_, ?_⟩
    · show p ((s + i) % K) = p x
      rw [e]
    · show p ((s + mc_nx K i) % K) = p (mc_nx K x)
      rw [nxe i hi, e]
/-- a closed chain of parents is a circle -/
theorem mc_par {n : Nat} {E : Nat → Nat → Prop} {q : Nat → Nat} {v K : Nat} (hK : 0 < K) (hc : mc_it q K v = v)
    (hmin : ∀ j, 0 < j → j < K → mc_it q j v ≠ v) (hb : ∀ i, i < K → mc_it q i v < n ∧ E (q (mc_it q i v)) (mc_it q i v)) :
    mc_Cr n E K (fun x => mc_it q (K - x) v) ∧
    ∀ g : Nat → Nat → Int, mc_S g K (fun x => mc_it q (K - x) v) = mc_sm (fun i => g (mc_it q (i + 1) v) (mc_it q i v)) K := by
  have nxe : ∀ x, x < K → mc_it q (K - mc_nx K x) v = mc_it q (K - 1 - x) v := by
    intro x hx
    unfold mc_nx
    by_cases z : x + 1 < K
    · rw [if_pos z]
      have e : K - (x + 1) = K - 1 - x := by omega
      rw [e]
    · rw [if_neg z]
      have e1 : K - 0 = K := by omega
      have e2 : K - 1 - x = 0 := by omega
      rw [e1, e2, hc]; rfl
  have cue : ∀ x, x < K → mc_it q (K - x) v = q (mc_it q (K - 1 - x) v) := by
    intro x hx
    have e : K - x = (K - 1 - x) + 1 := by omega
    rw [e, mc_it_s]
  refine ⟨⟨hK, ?_, ?_, ?_⟩, ?_⟩
  · intro x hx
    show mc_it q (K - x) v < n
    by_cases z : x = 0
    · have e : K - x = K := by omega
      rw [e, hc]
      exact (hb 0 hK).1
    · exact (hb (K - x) (by omega)).1
  · intro i j hij hj e
    have e' : mc_it q (K - i) v = mc_it q (K - j) v := e
    have h1 : mc_it q (i + (K - i)) v = mc_it q i (mc_it q (K - i) v) := mc_it_add q (K - i) v i
    have h2 : mc_it q (i + (K - j)) v = mc_it q i (mc_it q (K - j) v) := mc_it_add q (K - j) v i
    rw [e', ← h2] at h1
    have h3 : i + (K - i) = K := by omega
    rw [h3, hc] at h1
    exact hmin (i + (K - j)) (by omega) (by omega) h1.symm
  · intro x hx
    show E (mc_it q (K - x) v) (mc_it q (K - mc_nx K x) v)
    rw [nxe x hx, cue x hx]
    exact (hb (K - 1 - x) (by omega)).2
  · intro g
    have e1 : mc_S g K (fun x => mc_it q (K - x) v) = mc_sm (fun x => (fun i => g (mc_it q (i + 1) v) (mc_it q i v)) (K - 1 - x)) K :=
      mc_sm_c K (fun x hx => by
        show g (mc_it q (K - x) v) (mc_it q (K - mc_nx K x) v) = g (mc_it q (K - 1 - x + 1) v) (mc_it q (K - 1 - x) v)
        rw [nxe x hx, cue x hx, mc_it_s])
    rw [e1]
    exact mc_sm_rev (fun i => g (mc_it q (i + 1) v) (mc_it q i v)) K
/-! paths -/
def mc_P (E : Nat → Nat → Prop) (k u v : Nat) : Prop := ∃ p : Nat → Nat, p 0 = u ∧ p k = v ∧ ∀ i, i < k → E (p i) (p (i + 1))
def mc_Pt (E : Nat → Nat → Prop) (u v : Nat) : Prop := ∃ k, 0 < k ∧ mc_P E k u v
theorem mc_P_0 (E : Nat → Nat → Prop) (u : Nat) : mc_P E 0 u u := ⟨fun _ => u, rfl, rfl, fun i hi => absurd hi (Nat.not_lt_zero _)⟩
theorem mc_P_1 {E : Nat → Nat → Prop} {u v : Nat} (h : E u v) : mc_P E 1 u v :=
  ⟨fun i => if i = 0 then u else v, rfl, rfl, fun i hi => by
    have e : i = 0 := by omega
    subst e
    exact h⟩
theorem mc_P_t {E : Nat → Nat → Prop} {a b u v w : Nat} (h1 : mc_P E a u v) (h2 : mc_P E b v w) : mc_P E (a + b) u w := by
  obtain ⟨p, p0, pk, pe⟩ := h1
  obtain ⟨r, r0, rk, re⟩ := h2
  refine ⟨fun i => if i ≤ a then p i else r (i - a), ?_, ?_, ?_⟩
  · show (if 0 ≤ a then p 0 else r (0 - a)) = u
    rw [if_pos (Nat.zero_le a), p0]
  · show (if a + b ≤ a then p (a + b) else r (a + b - a)) = w
    by_cases z : a + b ≤ a
    · have e : b = 0 := by omega
      subst e
      rw [if_pos z, Nat.add_zero, pk, ← r0, rk]
    · rw [if_neg z, Nat.add_sub_cancel_left, rk]
  · intro i hi
    show E (if i ≤ a then p i else r (i - a)) (if i + 1 ≤ a then p (i + 1) else r (i + 1 - a))
    by_cases z : i + 1 ≤ a
    · rw [if_pos z, if_pos (by omega)]
      exact pe i (by omega)
    · by_cases y : i ≤ a
      · have e : i = a := by omega
        subst e
        have e2 : i + 1 - i = 0 + 1 := by omega
        rw [if_neg z, if_pos y, e2, pk, ← r0]
        exact re 0 (by omega)
      · have e2 : i + 1 - a = (i - a) + 1 := by omega
        rw [if_neg z, if_neg y, e2]
        exact re (i - a) (by omega)
theorem mc_Pt_1 {E : Nat → Nat → Prop} {u v : Nat} (h : E u v) : mc_Pt E u v := ⟨1, by omega, mc_P_1 h⟩
theorem mc_Pt_t {E : Nat → Nat → Prop} {u v w : Nat} (h1 : mc_Pt E u v) (h2 : mc_Pt E v w) : mc_Pt E u w := by
  obtain ⟨a, ha, pa⟩ := h1
  obtain ⟨b, hb, pb⟩ := h2
  exact ⟨a + b, by omega, mc_P_t pa pb⟩
/-- the first arc of a path -/
theorem mc_Pt_i {E : Nat → Nat → Prop} {u v : Nat} (h : mc_Pt E u v) : ∃ w, E u w ∧ ∃ k, mc_P E k w v := by
  obtain ⟨k, hk, p, p0, pk, pe⟩ := h
  have e : k - 1 + 1 = k := by omega
  refine ⟨p 1, ?_, k - 1, fun i => p (i + 1), rfl, ?_, ?_⟩
  · rw [← p0]; exact pe 0 hk
  · show p (k - 1 + 1) = v
    rw [e, pk]
  · intro i hi
    exact pe (i + 1) (by omega)
theorem mc_Pt_of {E : Nat → Nat → Prop} {u v w k : Nat} (h : E u w) (hp : mc_P E k w v) : mc_Pt E u v :=
  ⟨1 + k, by omega, mc_P_t (mc_P_1 h) hp⟩
/-- a relation that holds R and is transitive holds all paths -/
theorem mc_Pt_ind {E T : Nat → Nat → Prop} (h1 : ∀ u v, E u v → T u v) (h2 : ∀ u v w, T u v → E v w → T u w) {u v : Nat} (h : mc_Pt E u v) : T u v := by
  obtain ⟨k, hk, p, p0, pk, pe⟩ := h
  have key : ∀ i, i < k → T u (p (i + 1)) := by
    intro i
    induction i with
    | zero => intro hi; rw [← p0]; exact h1 _ _ (pe 0 hi)
    | succ i ih => intro hi; exact h2 _ _ _ (ih (by omega)) (pe (i + 1) hi)
  have e : k - 1 + 1 = k := by omega
  have := key (k - 1) (by omega)
  rw [e, pk] at this
  exact this
/-- an arc and a way back make a circle through the arc -/
theorem mc_cyc {n : Nat} {E : Nat → Nat → Prop} (hn : ∀ a b, E a b → a < n ∧ b < n) {u v : Nat} (h : E u v) (hk : ∃ k, mc_P E k v u) :
    ∃ K f, mc_Cy n E K f ∧ ∃ i, i < K ∧ f i = u ∧ f (mc_nx K i) = v := by
  obtain ⟨k, hp, hmin⟩ := mc_least (fun k => mc_P E k v u) hk
  obtain ⟨p, p0, pk, pe⟩ := hp
  have hcr : mc_Cr n E (k + 1) p := by
    refine ⟨by omega, ?_, ?_, ?_⟩
    · intro i hi
      by_cases z : i = k
      · rw [z, pk]; exact (hn _ _ h).1
      · exact (hn _ _ (pe i (by omega))).1
    · intro i j hij hj e
      refine hmin (k - (j - i)) (by omega) ?_
      refine ⟨fun x => if x ≤ i then p x else p (x + (j - i)), ?_, ?_, ?_⟩
      · show (if 0 ≤ i then p 0 else p (0 + (j - i))) = v
        rw [if_pos (Nat.zero_le i), p0]
      · show (if k - (j - i) ≤ i then p (k - (j - i)) else p (k - (j - i) + (j - i))) = u
        by_cases z : k - (j - i) ≤ i
        · have e1 : k - (j - i) = i := by omega
          have e2 : j = k := by omega
          rw [if_pos z, e1, e, e2, pk]
        · have e1 : k - (j - i) + (j - i) = k := by omega
          rw [if_neg z, e1, pk]
      · intro x hx
        show E (if x ≤ i then p x else p (x + (j - i))) (if x + 1 ≤ i then p (x + 1) else p (x + 1 + (j - i)))
        by_cases z : x + 1 ≤ i
        · rw [if_pos z, if_pos (by omega)]
          exact pe x (by omega)
        · by_cases y : x ≤ i
          · have e1 : x = i := by omega
            subst e1
            have e2 : x + 1 + (j - x) = j + 1 := by omega
            rw [if_neg z, if_pos y, e2, e]
            exact pe j (by omega)
          · have e2 : x + 1 + (j - i) = x + (j - i) + 1 := by omega
            rw [if_neg z, if_neg y, e2]
            exact pe _ (by omega)
    · intro i hi
      unfold mc_nx
      by_cases z : i + 1 < k + 1
      · rw [if_pos z]; exact pe i (by omega)
      · have e : i = k := by omega
        rw [if_neg z, e, pk, p0]
        exact h
  obtain ⟨f, hf, _, ha⟩ := mc_rot hcr
  obtain ⟨i, hi, e1, e2⟩ := ha k (by omega)
  refine ⟨k + 1, f, hf, i, hi, by rw [e1, pk], ?_⟩
  rw [e2]
  unfold mc_nx
  rw [if_neg (by omega), p0]
/-- from a point of a circle on to the one before it -/
theorem mc_back {n : Nat} {E : Nat → Nat → Prop} {K : Nat} {f : Nat → Nat} (h : mc_Cr n E K f) {i : Nat} (hi : i < K) : mc_P E (K - 1) (f (mc_nx K i)) (f i) := by
  obtain ⟨hK, hb, hd, hE⟩ := h
  refine ⟨fun x => f ((i + 1 + x) % K), ?_, ?_, ?_⟩
  · show f ((i + 1 + 0) % K) = f (mc_nx K i)
    rw [Nat.add_zero, mc_nx_mod hi]
  · show f ((i + 1 + (K - 1)) % K) = f i
    have e : i + 1 + (K - 1) = i + K := by omega
    rw [e, Nat.add_mod_right, Nat.mod_eq_of_lt hi]
  · intro x hx
    have h1 := hE ((i + 1 + x) % K) (Nat.mod_lt _ hK)
    rw [mc_nx_mod (Nat.mod_lt _ hK), Nat.mod_add_mod] at h1
    exact h1
theorem mc_round {n : Nat} {E : Nat → Nat → Prop} {K : Nat} {f : Nat → Nat} (h : mc_Cr n E K f) {i : Nat} (hi : i < K) : mc_Pt E (f i) (f i) :=
  mc_Pt_of (h.2.2.2 i hi) (mc_back h hi)
/-! potentials -/
theorem mc_sm_nx (h : Nat → Int) : ∀ K, mc_sm (fun i => h (mc_nx K i)) K = mc_sm h K := by
  intro K
  cases K with
  | zero => rfl
  | succ m =>
    rw [mc_sm_s, mc_sm_1 h]
    have e1 : mc_sm (fun i => h (mc_nx (m + 1) i)) m = mc_sm (fun i => h (i + 1)) m := mc_sm_c m (fun i hi => by
      show h (mc_nx (m + 1) i) = h (i + 1)
      unfold mc_nx
      rw [if_pos (by omega)])
    have e2 : mc_nx (m + 1) m = 0 := by unfold mc_nx; rw [if_neg (by omega)]
    rw [e1, e2]
    omega
/-- the slack's sum is the weight's -/
theorem mc_slack (c : Nat → Nat → Int) (d : Nat → Int) (K : Nat) (f : Nat → Nat) :
    mc_sm (fun i => c (f i) (f (mc_nx K i)) + d (f i) - d (f (mc_nx K i))) K = mc_S c K f := by
  have h1 := mc_sm_sub (fun i => c (f i) (f (mc_nx K i)) + d (f i)) (fun i => d (f (mc_nx K i))) K
  have h2 := mc_sm_addf (fun i => c (f i) (f (mc_nx K i))) (fun i => d (f i)) K
  have h3 := mc_sm_nx (fun i => d (f i)) K
  have h4 : mc_sm (fun i => c (f i) (f (mc_nx K i))) K = mc_S c K f := rfl
  have h5 : mc_sm (fun i => d (f (mc_nx K i))) K = mc_sm (fun i => (fun i => d (f i)) (mc_nx K i)) K := rfl
  rw [h1, h2, h5, h3, h4]
  omega
def mc_Pot (E : Nat → Nat → Prop) (c : Nat → Nat → Int) (d : Nat → Int) : Prop := ∀ u v, E u v → d v ≤ d u + c u v
theorem mc_pot_nn {n : Nat} {E : Nat → Nat → Prop} {c : Nat → Nat → Int} {d : Nat → Int} {K : Nat} {f : Nat → Nat} (hp : mc_Pot E c d) (h : mc_Cr n E K f) : 0 ≤ mc_S c K f := by
  rw [← mc_slack c d K f]
  refine mc_sm_nn K (fun i hi => ?_)
  have := hp _ _ (h.2.2.2 i hi)
  show 0 ≤ c (f i) (f (mc_nx K i)) + d (f i) - d (f (mc_nx K i))
  omega
def mc_Ti (E : Nat → Nat → Prop) (c : Nat → Nat → Int) (d : Nat → Int) (u v : Nat) : Prop := E u v ∧ d u + c u v = d v
theorem mc_pot_z {n : Nat} {E : Nat → Nat → Prop} {c : Nat → Nat → Int} {d : Nat → Int} {K : Nat} {f : Nat → Nat} (hp : mc_Pot E c d) (h : mc_Cy n E K f) (hz : mc_S c K f ≤ 0) :
    mc_Cy n (mc_Ti E c d) K f := by
  obtain ⟨⟨hK, hb, hd, hE⟩, hl⟩ := h
  refine ⟨⟨hK, hb, hd, fun i hi => ⟨hE i hi, ?_⟩⟩, hl⟩
  rw [← mc_slack c d K f] at hz
  have h1 := mc_sm_z K (fun i hi => by
    have := hp _ _ (hE i hi)
    show 0 ≤ c (f i) (f (mc_nx K i)) + d (f i) - d (f (mc_nx K i))
    omega) hz i hi
  have h2 : c (f i) (f (mc_nx K i)) + d (f i) - d (f (mc_nx K i)) = 0 := h1
  omega
theorem mc_ti_z {n : Nat} {E : Nat → Nat → Prop} {c : Nat → Nat → Int} {d : Nat → Int} {K : Nat} {f : Nat → Nat} (h : mc_Cy n (mc_Ti E c d) K f) :
    mc_Cy n E K f ∧ mc_S c K f = 0 := by
  obtain ⟨⟨hK, hb, hd, hE⟩, hl⟩ := h
  refine ⟨⟨⟨hK, hb, hd, fun i hi => (hE i hi).1⟩, hl⟩, ?_⟩
  rw [← mc_slack c d K f]
  have h1 : mc_sm (fun i => c (f i) (f (mc_nx K i)) + d (f i) - d (f (mc_nx K i))) K = mc_sm (fun _ => 0) K := mc_sm_c K (fun i hi => by
    have := (hE i hi).2
    show c (f i) (f (mc_nx K i)) + d (f i) - d (f (mc_nx K i)) = 0
    omega)
  rw [h1, mc_sm_const, Int.mul_zero]
end
section
/-! ===== the pure laws of relax (in place, with the last round of bettering as a ghost) and of the smallest mean ===== -/
def mc_up {α : Type} (f : Nat → α) (k : Nat) (x : α) : Nat → α := fun j => if j = k then x else f j
theorem mc_up_s {α : Type} (f : Nat → α) (k : Nat) (x : α) : mc_up f k x k = x := if_pos rfl
theorem mc_up_n {α : Type} (f : Nat → α) {k j : Nat} (x : α) (h : j ≠ k) : mc_up f k x j = f j := if_neg h
/-- every circle of parents has a weight below 0 -/
def mc_NC (c : Nat → Nat → Int) (q L : Nat → Nat) : Prop := ∀ x k, 0 < k → (∀ i, i < k → 1 ≤ L (mc_it q i x)) → mc_it q k x = x →
  mc_sm (fun i => c (mc_it q (i + 1) x) (mc_it q i x)) k < 0
def mc_R2 (E : Nat → Nat → Prop) (c : Nat → Nat → Int) (d : Nat → Int) (q L : Nat → Nat) : Prop :=
  ∀ x, 1 ≤ L x → E (q x) x ∧ L x ≤ L (q x) + 1 ∧ d (q x) + c (q x) x ≤ d x
def mc_Rx (E : Nat → Nat → Prop) (c : Nat → Nat → Int) (R a : Nat) (d : Nat → Int) (q L : Nat → Nat) : Prop :=
  (∀ x, L x ≤ R) ∧ mc_R2 E c d q L ∧ mc_NC c q L ∧
  (∀ u v, E u v → 6 * u + v < a → d v ≤ d u + c u v ∨ L u = R) ∧
  (∀ u v, E u v → a ≤ 6 * u + v → d v ≤ d u + c u v ∨ R ≤ L u + 1)
theorem mc_Rx_0 (E : Nat → Nat → Prop) (c : Nat → Nat → Int) (d : Nat → Int) : mc_Rx E c 1 0 d (fun _ => 0) (fun _ => 0) := by
  refine ⟨fun x => by show 0 ≤ 1; omega, fun x h => ?_, fun x k hk h _ => ?_, fun u v _ h => ?_, fun u v _ _ => Or.inr ?_⟩
  · have h' : 1 ≤ 0 := h
    omega
  · have h' : 1 ≤ 0 := h 0 hk
    omega
  · omega
  · show 1 ≤ 0 + 1
    omega
theorem mc_Rx_r {E : Nat → Nat → Prop} {c : Nat → Nat → Int} {R : Nat} {d : Nat → Int} {q L : Nat → Nat} (hE : ∀ u v, E u v → u < 6 ∧ v < 6) (h : mc_Rx E c R 36 d q L) : mc_Rx E c (R + 1) 0 d q L := by
  obtain ⟨h1, h2, h3, h4, h5⟩ := h
  refine ⟨fun x => by have := h1 x; omega, h2, h3, fun u v _ h => by omega, fun u v e _ => ?_⟩
  have b := hE u v e
  rcases h4 u v e (by omega) with g | g
  · exact Or.inl g
  · exact Or.inr (by omega)
/-- the arc a = 6 * u + v isn't there, or doesn't better -/
theorem mc_Rx_n {E : Nat → Nat → Prop} {c : Nat → Nat → Int} {R a : Nat} {d : Nat → Int} {q L : Nat → Nat} (hE : ∀ u v, E u v → u < 6 ∧ v < 6) (h : mc_Rx E c R a d q L)
    (hn : E (a / 6) (a % 6) → d (a % 6) ≤ d (a / 6) + c (a / 6) (a % 6)) : mc_Rx E c R (a + 1) d q L := by
  obtain ⟨h1, h2, h3, h4, h5⟩ := h
  refine ⟨h1, h2, h3, fun u v e g => ?_, fun u v e g => h5 u v e (by omega)⟩
  by_cases z : 6 * u + v < a
  · exact h4 u v e z
  · have b := hE u v e
    have e1 : a / 6 = u := by omega
    have e2 : a % 6 = v := by omega
    rw [e1, e2] at hn
    exact Or.inl (hn e)
theorem mc_NC_u {E : Nat → Nat → Prop} {c : Nat → Nat → Int} {R : Nat} {d : Nat → Int} {q L : Nat → Nat} {u v : Nat}
    (h2 : mc_R2 E c d q L) (h3 : mc_NC c q L) (hl : d u + c u v < d v) : mc_NC c (mc_up q v u) (mc_up L v R) := by
  intro x k hk hL hc
  by_cases z : ∃ i, i < k ∧ mc_it (mc_up q v u) i x = v
  · obtain ⟨j, hj, ej⟩ := z
    have t := mc_sm_tel (fun i => d (mc_it (mc_up q v u) i x)) k
    have t' : mc_sm (fun i => d (mc_it (mc_up q v u) i x) - d (mc_it (mc_up q v u) (i + 1) x)) k = 0 := by
      rw [t]
      show d (mc_it (mc_up q v u) 0 x) - d (mc_it (mc_up q v u) k x) = 0
      rw [hc]
      show d x - d x = 0
      omega
    have s := mc_sm_sub (fun i => c (mc_it (mc_up q v u) (i + 1) x) (mc_it (mc_up q v u) i x)) (fun i => d (mc_it (mc_up q v u) i x) - d (mc_it (mc_up q v u) (i + 1) x)) k
    rw [t'] at s
    have ng := mc_sm_neg (g := fun i => c (mc_it (mc_up q v u) (i + 1) x) (mc_it (mc_up q v u) i x) - (d (mc_it (mc_up q v u) i x) - d (mc_it (mc_up q v u) (i + 1) x))) k (by
      intro i hi
      show c (mc_it (mc_up q v u) (i + 1) x) (mc_it (mc_up q v u) i x) - (d (mc_it (mc_up q v u) i x) - d (mc_it (mc_up q v u) (i + 1) x)) ≤ 0
      rw [mc_it_s]
      have hLi := hL i hi
      by_cases y : mc_it (mc_up q v u) i x = v
      · rw [y, mc_up_s]; omega
      · rw [mc_up_n _ _ y]
        rw [mc_up_n _ _ y] at hLi
        have := (h2 _ hLi).2.2
        omega) j hj (by
      show c (mc_it (mc_up q v u) (j + 1) x) (mc_it (mc_up q v u) j x) - (d (mc_it (mc_up q v u) j x) - d (mc_it (mc_up q v u) (j + 1) x)) < 0
      rw [mc_it_s, ej, mc_up_s]; omega)
    omega
  · have z' : ∀ i, i < k → mc_it (mc_up q v u) i x ≠ v := fun i hi e => z ⟨i, hi, e⟩
    have same : ∀ i, i ≤ k → mc_it (mc_up q v u) i x = mc_it q i x := by
      intro i
      induction i with
      | zero => intro _; rfl
      | succ i ih =>
        intro hi
        rw [mc_it_s, mc_it_s, mc_up_n _ _ (z' i (by omega)), ih (by omega)]
    have g := h3 x k hk (fun i hi => by
      have a1 := hL i hi
      rw [mc_up_n _ _ (z' i hi), same i (by omega)] at a1
      exact a1) (by rw [← same k (Nat.le_refl _)]; exact hc)
    have e : mc_sm (fun i => c (mc_it (mc_up q v u) (i + 1) x) (mc_it (mc_up q v u) i x)) k = mc_sm (fun i => c (mc_it q (i + 1) x) (mc_it q i x)) k := mc_sm_c k (fun i hi => by
      show c (mc_it (mc_up q v u) (i + 1) x) (mc_it (mc_up q v u) i x) = c (mc_it q (i + 1) x) (mc_it q i x)
      rw [same i (by omega), same (i + 1) (by omega)])
    rw [e]
    exact g
/-- the arc a = 6 * u + v betters -/
theorem mc_Rx_u {E : Nat → Nat → Prop} {c : Nat → Nat → Int} {R a : Nat} {d : Nat → Int} {q L : Nat → Nat} {u v : Nat} (hE : ∀ u v, E u v → u < 6 ∧ v < 6) (h : mc_Rx E c R a d q L)
    (ha : 6 * u + v = a) (e : E u v) (hl : d u + c u v < d v) : mc_Rx E c R (a + 1) (mc_up d v (d u + c u v)) (mc_up q v u) (mc_up L v R) := by
  obtain ⟨h1, h2, h3, h4, h5⟩ := h
  have hb := hE u v e
  have hu : R ≤ L u + 1 := by
    rcases h5 u v e (by omega) with g | g
    · omega
    · exact g
  have dle : ∀ x, mc_up d v (d u + c u v) x ≤ d x := by
    intro x
    by_cases z : x = v
    · rw [z, mc_up_s]; omega
    · rw [mc_up_n _ _ z]; omega
  have Lge : ∀ x, L x ≤ mc_up L v R x := by
    intro x
    by_cases z : x = v
    · rw [z, mc_up_s]; exact h1 v
    · rw [mc_up_n _ _ z]; omega
  refine ⟨?_, ?_, mc_NC_u h2 h3 hl, ?_, ?_⟩
  · intro x
    by_cases z : x = v
    · rw [z, mc_up_s]; exact Nat.le_refl _
    · rw [mc_up_n _ _ z]; exact h1 x
  · intro x hx
    by_cases z : x = v
    · rw [z, mc_up_s, mc_up_s, mc_up_s]
      have a1 := Lge u
      have a2 := dle u
      exact ⟨e, by omega, by omega⟩
    · rw [mc_up_n _ _ z] at hx
      rw [mc_up_n _ _ z, mc_up_n _ _ z, mc_up_n _ _ z]
      obtain ⟨g1, g2, g3⟩ := h2 x hx
      have a1 := Lge (q x)
      have a2 := dle (q x)
      exact ⟨g1, by omega, by omega⟩
  · intro x y exy hi
    by_cases z : x = v
    · right; rw [z, mc_up_s]
    · rw [mc_up_n _ _ z, mc_up_n _ _ z]
      have a2 := dle y
      by_cases w : 6 * x + y < a
      · rcases h4 x y exy w with g | g
        · left; omega
        · right; exact g
      · have b := hE x y exy
        have e1 : x = u := by omega
        have e2 : y = v := by omega
        left
        rw [e1, e2, mc_up_s]
        exact Int.le_refl _
  · intro x y exy hi
    by_cases z : x = v
    · right; rw [z, mc_up_s]; omega
    · rw [mc_up_n _ _ z, mc_up_n _ _ z]
      have a2 := dle y
      rcases h5 x y exy (by omega) with g | g
      · left; omega
      · right; exact g
/-- what is left of a point that was bettered in the last round: the way back comes onto a circle of parents -/
theorem mc_chain {n : Nat} {E : Nat → Nat → Prop} {q L : Nat → Nat} {v : Nat} (hE : ∀ u v, E u v → u < n ∧ v < n)
    (h2 : ∀ x, 1 ≤ L x → E (q x) x ∧ L x ≤ L (q x) + 1) (hv : L v = n + 1) :
    (∀ m, 1 ≤ L (mc_it q m v)) ∧ ∃ K, 0 < K ∧ K ≤ n ∧ mc_it q K (mc_it q n v) = mc_it q n v ∧ ∀ j, 0 < j → j < K → mc_it q j (mc_it q n v) ≠ mc_it q n v := by
  have hl : ∀ i, i ≤ n → n + 1 ≤ L (mc_it q i v) + i := by
    intro i
    induction i with
    | zero => intro _; show n + 1 ≤ L v + 0; omega
    | succ i ih =>
      intro hi
      have a1 := ih (by omega)
      have a2 := (h2 (mc_it q i v) (by omega)).2
      rw [mc_it_s]; omega
  obtain ⟨i, j, hij, hj, e⟩ := mc_ph n (fun i => mc_it q i v) (fun i hi => by
    have a1 := hl i hi
    exact (hE _ _ (h2 (mc_it q i v) (by omega)).1).2)
  have e' : mc_it q i v = mc_it q j v := e
  have per : ∀ m, i ≤ m → ∃ m', m' < j ∧ mc_it q m v = mc_it q m' v := by
    intro m
    induction m with
    | zero => intro _; exact ⟨0, by omega, rfl⟩
    | succ m ih =>
      intro hm
      by_cases z : i = m + 1
      · exact ⟨m + 1, by omega, rfl⟩
      · obtain ⟨m', hm', em⟩ := ih (by omega)
        by_cases y : m' + 1 < j
        · exact ⟨m' + 1, y, by rw [mc_it_s, mc_it_s, em]⟩
        · have ey : m' + 1 = j := by omega
          exact ⟨i, by omega, by rw [mc_it_s, em, ← mc_it_s q m' v, ey, e']⟩
  have hall : ∀ m, 1 ≤ L (mc_it q m v) := by
    intro m
    by_cases z : i ≤ m
    · obtain ⟨m', hm', em⟩ := per m z
      rw [em]
      have := hl m' (by omega)
      omega
    · have := hl m (by omega)
      omega
  have hper : mc_it q (j - i) (mc_it q n v) = mc_it q n v := by
    rw [← mc_it_add]
    have e1 : j - i + n = (n - i) + j := by omega
    have e2 : n = (n - i) + i := by omega
    have e3 : mc_it q ((n - i) + j) v = mc_it q ((n - i) + i) v := by rw [mc_it_add, mc_it_add, e']
    rw [e1, e3, ← e2]
  obtain ⟨K, ⟨hK0, hKe⟩, hKm⟩ := mc_least (fun K => 0 < K ∧ mc_it q K (mc_it q n v) = mc_it q n v) ⟨j - i, by omega, hper⟩
  refine ⟨hall, K, hK0, ?_, hKe, fun j' h0 hj' e => hKm j' hj' ⟨h0, e⟩⟩
  by_cases z : K ≤ n
  · exact z
  · exact absurd ⟨by omega, hper⟩ (hKm (j - i) (by omega))
/-! the smallest mean -/
theorem mc_walk {n : Nat} {E : Nat → Nat → Prop} {w : Nat → Nat → Int} {F : Nat → Nat → Int} {A : Int} (hE : ∀ u v, E u v → u < n ∧ v < n)
    (K2 : ∀ k v, k < n → v < n → F (k + 1) v < A → ∃ u, E u v ∧ F k u < A ∧ F (k + 1) v = F k u + w u v) :
    ∀ m, m ≤ n → ∀ v, v < n → F m v < A → ∃ p : Nat → Nat, p m = v ∧ (∀ k, k ≤ m → p k < n ∧ F k (p k) < A) ∧ ∀ k, k < m → E (p k) (p (k + 1)) ∧ F (k + 1) (p (k + 1)) = F k (p k) + w (p k) (p (k + 1)) := by
  intro m
  induction m with
  | zero =>
    intro _ v hv hF
    exact ⟨fun _ => v, rfl, fun k hk => by have e : k = 0 := by omega
                                           subst e; exact ⟨hv, hF⟩, fun k hk => by omega⟩
  | succ m ih =>
    intro hm v hv hF
    obtain ⟨u, eu, fu, ef⟩ := K2 m v (by omega) hv hF
    obtain ⟨p, pm, pb, pe⟩ := ih (by omega) u (hE _ _ eu).1 fu
    refine ⟨fun k => if k ≤ m then p k else v, ?_, ?_, ?_⟩
    · show (if m + 1 ≤ m then p (m + 1) else v) = v
      rw [if_neg (by omega)]
    · intro k hk
      show (if k ≤ m then p k else v) < n ∧ F k (if k ≤ m then p k else v) < A
      by_cases z : k ≤ m
      · rw [if_pos z]; exact pb k z
      · have e : k = m + 1 := by omega
        rw [if_neg z, e]; exact ⟨hv, hF⟩
    · intro k hk
      show E (if k ≤ m then p k else v) (if k + 1 ≤ m then p (k + 1) else v) ∧ F (k + 1) (if k + 1 ≤ m then p (k + 1) else v) = F k (if k ≤ m then p k else v) + w (if k ≤ m then p k else v) (if k + 1 ≤ m then p (k + 1) else v)
      by_cases z : k + 1 ≤ m
      · rw [if_pos z, if_pos (by omega)]; exact pe k (by omega)
      · have e : k = m := by omega
        rw [if_neg z, if_pos (by omega), e, pm]; exact ⟨eu, ef⟩
theorem mc_karp {n : Nat} {E : Nat → Nat → Prop} {w : Nat → Nat → Int} {F : Nat → Nat → Int} {A t b : Int} (hb : 0 < b) (hn : 0 < n) (hE : ∀ u v, E u v → u < n ∧ v < n)
    (hA : 0 < A) (F0 : ∀ v, v < n → F 0 v = 0)
    (K1 : ∀ k u v, k < n → E u v → F k u < A → F (k + 1) v ≤ F k u + w u v ∧ F (k + 1) v < A)
    (K2 : ∀ k v, k < n → v < n → F (k + 1) v < A → ∃ u, E u v ∧ F k u < A ∧ F (k + 1) v = F k u + w u v)
    (O1 : ∀ v, v < n → F n v < A → ∃ k, k < n ∧ F k v < A ∧ t * ((n : Int) - k) ≤ (F n v - F k v) * b)
    (O2 : ∃ v, v < n ∧ F n v < A ∧ ∀ k, k < n → F k v < A → (F n v - F k v) * b ≤ t * ((n : Int) - k)) :
    (∃ d, mc_Pot E (fun u v => w u v * b - t * 1) d) ∧ ∃ K f, mc_Cy n E K f ∧ mc_S (fun u v => w u v * b - t * 1) K f = 0 := by
  have hd : ∀ v, ∃ D : Int, v < n → (∀ k, k < n → F k v < A → D ≤ F k v * b - k * t) ∧ ∃ k, k < n ∧ F k v < A ∧ D = F k v * b - k * t := by
    intro v
    by_cases z : v < n
    · obtain ⟨k, hk, fk, mk⟩ := mc_argmin (fun k => F k v * b - (k : Int) * t) (fun k => F k v < A) n ⟨0, hn, by rw [F0 v z]; exact hA⟩
      exact ⟨F k v * b - k * t, fun _ => ⟨fun j hj fj => mk j hj fj, k, hk, fk, rfl⟩⟩
    · exact ⟨0, fun h => absurd h z⟩
  have hpot : mc_Pot E (fun u v => w u v * b - t * 1) (fun v => Classical.choose (hd v)) := by
    intro u v e
    obtain ⟨hu, hv⟩ := hE u v e
    obtain ⟨_, k, hk, fk, ek⟩ := Classical.choose_spec (hd u) hu
    obtain ⟨mv, _⟩ := Classical.choose_spec (hd v) hv
    show Classical.choose (hd v) ≤ Classical.choose (hd u) + (w u v * b - t * 1)
    rw [ek]
    obtain ⟨g1, g2⟩ := K1 k u v hk e fk
    have g3 : F (k + 1) v * b ≤ (F k u + w u v) * b := Int.mul_le_mul_of_nonneg_right g1 (by omega)
    rw [Int.add_mul] at g3
    by_cases z : k + 1 < n
    · have g4 := mv (k + 1) z g2
      rw [Int.natCast_add, Int.add_mul, Int.natCast_one, Int.one_mul] at g4
      omega
    · have ekn : n = k + 1 := by omega
      rw [← ekn] at g2 g3
      obtain ⟨k', hk', fk', o⟩ := O1 v hv g2
      have g4 := mv k' hk' fk'
      rw [Int.mul_sub, Int.sub_mul] at o
      have e1 : (n : Int) = (k : Int) + 1 := by omega
      rw [e1, Int.mul_add, Int.mul_one] at o
      rw [Int.mul_comm t (k : Int), Int.mul_comm t (k' : Int)] at o
      omega
  refine ⟨⟨_, hpot⟩, ?_⟩
  obtain ⟨v, hv, fv, ov⟩ := O2
  obtain ⟨p, pn, pb, pe⟩ := mc_walk hE K2 n (Nat.le_refl _) v hv fv
  obtain ⟨i, j, hij, hj, e⟩ := mc_ph n p (fun k hk => (pb k hk).1)
  have key : ∀ r, r ≤ n - j → F (i + r) (p (j + r)) < A ∧ F (i + r) (p (j + r)) ≤ F i (p i) + F (j + r) (p (j + r)) - F j (p j) := by
    intro r
    induction r with
    | zero =>
      intro _
      rw [Nat.add_zero, Nat.add_zero, ← e]
      exact ⟨(pb i (by omega)).2, by omega⟩
    | succ r ih =>
      intro hr
      obtain ⟨a1, a2⟩ := ih (by omega)
      obtain ⟨b1, b2⟩ := pe (j + r) (by omega)
      obtain ⟨c1, c2⟩ := K1 (i + r) _ _ (by omega) b1 a1
      have e1 : i + (r + 1) = i + r + 1 := by omega
      have e2 : j + (r + 1) = j + r + 1 := by omega
      rw [e1, e2]
      exact ⟨c2, by omega⟩
  obtain ⟨a1, a2⟩ := key (n - j) (Nat.le_refl _)
  have e1 : j + (n - j) = n := by omega
  rw [e1, pn] at a1 a2
  have o := ov (i + (n - j)) (by omega) a1
  have e2 : ((n : Nat) : Int) - ((i + (n - j) : Nat) : Int) = ((j - i : Nat) : Int) := by omega
  rw [e2] at o
  have le1 : (F j (p j) - F i (p i)) * b ≤ (F n v - F (i + (n - j)) v) * b := Int.mul_le_mul_of_nonneg_right (by omega) (by omega)
  -- the closed walk from i to j
  have ws : ∀ m, m ≤ j - i → mc_sm (fun x => w (p (i + x)) (p (i + x + 1)) * b - t * 1) m = (F (i + m) (p (i + m)) - F i (p i)) * b - m * t := by
    intro m
    induction m with
    | zero =>
      intro _
      show (0 : Int) = (F (i + 0) (p (i + 0)) - F i (p i)) * b - ((0 : Nat) : Int) * t
      rw [Nat.add_zero, Int.sub_self, Int.zero_mul, Int.natCast_zero, Int.zero_mul]
      omega
    | succ m ih =>
      intro hm
      rw [mc_sm_s, ih (by omega)]
      have b2 := (pe (i + m) (by omega)).2
      have e3 : i + (m + 1) = i + m + 1 := by omega
      rw [e3, b2, Int.natCast_add, Int.natCast_one, Int.add_mul, Int.one_mul, Int.sub_mul, Int.sub_mul, Int.add_mul]
      omega
  have w1 := ws (j - i) (Nat.le_refl _)
  have e3 : i + (j - i) = j := by omega
  rw [e3] at w1
  have slz : mc_sm (fun x => (w (p (i + x)) (p (i + x + 1)) * b - t * 1) + (Classical.choose (hd (p (i + x))) - Classical.choose (hd (p (i + x + 1))))) (j - i) ≤ 0 := by
    have s1 := mc_sm_addf (fun x => w (p (i + x)) (p (i + x + 1)) * b - t * 1) (fun x => Classical.choose (hd (p (i + x))) - Classical.choose (hd (p (i + x + 1)))) (j - i)
    have s2 := mc_sm_tel (fun x => Classical.choose (hd (p (i + x)))) (j - i)
    have s3 : mc_sm (fun x => Classical.choose (hd (p (i + x))) - Classical.choose (hd (p (i + x + 1)))) (j - i) = 0 := by
      have s4 : mc_sm (fun x => Classical.choose (hd (p (i + x))) - Classical.choose (hd (p (i + x + 1)))) (j - i) = Classical.choose (hd (p (i + 0))) - Classical.choose (hd (p (i + (j - i)))) := s2
      rw [s4, e3, Nat.add_zero, e]
      omega
    rw [s1, s3, w1]
    rw [Int.mul_comm t] at o
    omega
  have tight : ∀ x, x < j - i → mc_Ti E (fun u v => w u v * b - t * 1) (fun v => Classical.choose (hd v)) (p (i + x)) (p (i + x + 1)) := by
    intro x hx
    have ex := (pe (i + x) (by omega)).1
    refine ⟨ex, ?_⟩
    have z := mc_sm_z (j - i) (fun y hy => by
      have a3 := hpot _ _ (pe (i + y) (by omega)).1
      have a4 : Classical.choose (hd (p (i + y + 1))) ≤ Classical.choose (hd (p (i + y))) + (w (p (i + y)) (p (i + y + 1)) * b - t * 1) := a3
      show 0 ≤ (w (p (i + y)) (p (i + y + 1)) * b - t * 1) + (Classical.choose (hd (p (i + y))) - Classical.choose (hd (p (i + y + 1))))
      omega) slz x hx
    have z' : (w (p (i + x)) (p (i + x + 1)) * b - t * 1) + (Classical.choose (hd (p (i + x))) - Classical.choose (hd (p (i + x + 1)))) = 0 := z
    show Classical.choose (hd (p (i + x))) + (w (p (i + x)) (p (i + x + 1)) * b - t * 1) = Classical.choose (hd (p (i + x + 1)))
    omega
  have t0 := tight 0 (by omega)
  obtain ⟨K, f, hf, _⟩ := mc_cyc (n := n) (E := mc_Ti E (fun u v => w u v * b - t * 1) (fun v => Classical.choose (hd v))) (fun a b h => hE a b h.1) t0 ⟨j - i - 1, fun x => p (i + x + 1), rfl, by
    show p (i + (j - i - 1) + 1) = p (i + 0)
    have e4 : i + (j - i - 1) + 1 = j := by omega
    rw [e4, Nat.add_zero, e], fun x hx => tight (x + 1) (by omega)⟩
  obtain ⟨g1, g2⟩ := mc_ti_z hf
  exact ⟨K, f, g1, g2⟩
/-- where there is a circle there are walks of every length -/
theorem mc_long {n : Nat} {E : Nat → Nat → Prop} {w : Nat → Nat → Int} {F : Nat → Nat → Int} {A : Int} {K : Nat} {f : Nat → Nat}
    (hA : 0 < A) (F0 : ∀ v, v < n → F 0 v = 0)
    (K1 : ∀ k u v, k < n → E u v → F k u < A → F (k + 1) v ≤ F k u + w u v ∧ F (k + 1) v < A) (h : mc_Cr n E K f) : ∃ v, v < n ∧ F n v < A := by
  obtain ⟨hK, hb, hd, hE⟩ := h
  have key : ∀ m, m ≤ n → ∃ i, i < K ∧ F m (f i) < A := by
    intro m
    induction m with
    | zero => intro _; exact ⟨0, hK, by rw [F0 _ (hb 0 hK)]; exact hA⟩
    | succ m ih =>
      intro hm
      obtain ⟨i, hi, fi⟩ := ih (by omega)
      exact ⟨mc_nx K i, mc_nx_lt hi, (K1 m _ _ (by omega) (hE i hi) fi).2⟩
  obtain ⟨i, hi, fi⟩ := key n (Nat.le_refl _)
  exact ⟨f i, hb i hi, fi⟩
end
section
/-! ===== Int64 and Int32 by their integers; bits; the graph of the arrays ===== -/
def lI (z : Int) : Int64 := Int64.ofInt z
def iI (z : Int) : Int32 := Int32.ofInt z
theorem lI_T {z : Int} (h1 : -4611686018427387904 ≤ z) (h2 : z ≤ 4611686018427387904) : (lI z).toInt = z := Int64.toInt_ofInt_of_le (by omega) (by omega)
theorem iI_T {z : Int} (h1 : -2147483648 ≤ z) (h2 : z ≤ 2147483647) : (iI z).toInt = z := Int32.toInt_ofInt_of_le (by omega) (by omega)
theorem lI_add (a b : Int) : lI a + lI b = lI (a + b) := (Int64.ofInt_add a b).symm
theorem lI_sub (a b : Int) : lI a - lI b = lI (a - b) := (Int64.ofInt_sub a b).symm
theorem lI_mul (a b : Int) : lI a * lI b = lI (a * b) := (Int64.ofInt_mul a b).symm
theorem lI_neg (a : Int) : -lI a = lI (-a) := (Int64.ofInt_neg a).symm
theorem iI_add (a b : Int) : iI a + iI b = iI (a + b) := (Int32.ofInt_add a b).symm
theorem iI_sub (a b : Int) : iI a - iI b = iI (a - b) := (Int32.ofInt_sub a b).symm
theorem iI_mul (a b : Int) : iI a * iI b = iI (a * b) := (Int32.ofInt_mul a b).symm
theorem iI_neg (a : Int) : -iI a = iI (-a) := (Int32.ofInt_neg a).symm
theorem lI_i (x : Int32) : x.toInt64 = lI x.toInt := (Int64.ofInt_int32ToInt x).symm
theorem iI_o (x : Int32) : iI x.toInt = x := Int32.ofInt_toInt x
theorem lI_n (n : Nat) : lN n = lI (n : Int) := Int64.ofInt_eq_ofNat.symm
theorem iI_n (n : Nat) : nI n = iI (n : Int) := Int32.ofInt_eq_ofNat.symm
theorem lI_32 (z : Int) : (lI z).toInt32 = iI z := Int64.toInt32_ofInt
def mc_sml (z : Int) : Prop := -1000000000000000 ≤ z ∧ z ≤ 1000000000000000
theorem lI_lt {a b : Int} (ha : mc_sml a) (hb : mc_sml b) : lI a < lI b ↔ a < b := by
  unfold mc_sml at ha hb
  rw [Int64.lt_iff_toInt_lt, lI_T (by omega) (by omega), lI_T (by omega) (by omega)]
theorem lI_le {a b : Int} (ha : mc_sml a) (hb : mc_sml b) : lI a ≤ lI b ↔ a ≤ b := by
  unfold mc_sml at ha hb
  rw [Int64.le_iff_toInt_le, lI_T (by omega) (by omega), lI_T (by omega) (by omega)]
theorem lI_eq {a b : Int} (ha : mc_sml a) (hb : mc_sml b) : lI a = lI b ↔ a = b := by
  unfold mc_sml at ha hb
  constructor
  · intro h
    have h1 := congrArg Int64.toInt h
    rw [lI_T (by omega) (by omega), lI_T (by omega) (by omega)] at h1
    exact h1
  · intro h; rw [h]
def mc_sm3 (z : Int) : Prop := -2000000000 ≤ z ∧ z ≤ 2000000000
theorem iI_lt {a b : Int} (ha : mc_sm3 a) (hb : mc_sm3 b) : iI a < iI b ↔ a < b := by
  unfold mc_sm3 at ha hb
  rw [Int32.lt_iff_toInt_lt, iI_T (by omega) (by omega), iI_T (by omega) (by omega)]
theorem iI_le {a b : Int} (ha : mc_sm3 a) (hb : mc_sm3 b) : iI a ≤ iI b ↔ a ≤ b := by
  unfold mc_sm3 at ha hb
  rw [Int32.le_iff_toInt_le, iI_T (by omega) (by omega), iI_T (by omega) (by omega)]
theorem iI_eq {a b : Int} (ha : mc_sm3 a) (hb : mc_sm3 b) : iI a = iI b ↔ a = b := by
  unfold mc_sm3 at ha hb
  constructor
  · intro h
    have h1 := congrArg Int32.toInt h
    rw [iI_T (by omega) (by omega), iI_T (by omega) (by omega)] at h1
    exact h1
  · intro h; rw [h]
/-! one bit -/
theorem mc_b1 : ∀ i, i < 32 → bt 1 i = decide (i = 0) := by decide +kernel
theorem mc_bit (x : Int32) {m : Nat} (hm : m < 32) : (x >>> (nI m &&& 31)) &&& 1 = if bt x m = true then 1 else 0 := by
  apply b_ext
  intro i hi
  rw [b_and, b_sshr m hm x hi, mc_b1 i hi]
  by_cases z : i = 0
  · subst z
    rw [Nat.add_zero, if_pos hm]
    by_cases y : bt x m = true
    · rw [if_pos y, mc_b1 0 (by omega), y]; rfl
    · have y' : bt x m = false := by
        cases h : bt x m
        · rfl
        · exact absurd h y
      rw [if_neg y, b_0, y']; rfl
  · rw [decide_eq_false z, Bool.and_false]
    by_cases y : bt x m = true
    · rw [if_pos y, mc_b1 i hi, decide_eq_false z]
    · rw [if_neg y, b_0]
theorem mc_bit0 (x : Int32) {m : Nat} (hm : m < 32) : ((x >>> (nI m &&& 31)) &&& 1 = 0) ↔ ¬ bt x m = true := by
  rw [mc_bit x hm]
  by_cases y : bt x m = true
  · rw [if_pos y]; exact ⟨fun h => absurd h (by decide), fun h => absurd y h⟩
  · rw [if_neg y]; exact ⟨fun _ => y, fun _ => rfl⟩
theorem mc_bit1 (x : Int32) {m : Nat} (hm : m < 32) : ((x >>> (nI m &&& 31)) &&& 1 = 1) ↔ bt x m = true := by
  rw [mc_bit x hm]
  by_cases y : bt x m = true
  · rw [if_pos y]; exact ⟨fun _ => y, fun _ => rfl⟩
  · rw [if_neg y]; exact ⟨fun h => absurd h (by decide), fun h => absurd h y⟩
theorem mc_set (x : Int32) {m : Nat} (hm : m < 32) {i : Nat} (hi : i < 32) : bt (x ||| ((1 : Int32) <<< (nI m &&& 31))) i = true ↔ (bt x i = true ∨ i = m) := by
  rw [b_or, b_shl m hm 1 hi, Bool.or_eq_true, Bool.and_eq_true, decide_eq_true_eq]
  constructor
  · rintro (h | ⟨h1, h2⟩)
    · exact Or.inl h
    · rw [mc_b1 (i - m) (by omega), decide_eq_true_eq] at h2
      exact Or.inr (by omega)
  · rintro (h | h)
    · exact Or.inl h
    · subst h
      refine Or.inr ⟨Nat.le_refl _, ?_⟩
      rw [Nat.sub_self]; decide
theorem mc_ext6 {x y : Int32} (hx : ∀ i, i < 32 → bt x i = true → i < 6) (hy : ∀ i, i < 32 → bt y i = true → i < 6) (h : ∀ i, i < 6 → (bt x i = true ↔ bt y i = true)) : x = y := by
  apply b_ext
  intro i hi
  by_cases z : i < 6
  · have h1 := h i z
    cases hx1 : bt x i with
    | true => rw [hx1] at h1; exact (h1.mp rfl).symm
    | false =>
      cases hy1 : bt y i with
      | true => rw [hx1, hy1] at h1; exact absurd (h1.mpr rfl) (by decide)
      | false => rfl
  · cases hx1 : bt x i with
    | true => exact absurd (hx i hi hx1) z
    | false =>
      cases hy1 : bt y i with
      | true => exact absurd (hy i hi hy1) z
      | false => rfl
/-! the graph -/
def mc_E (th : Nat → Int32) (u v : Nat) : Prop := u < 6 ∧ v < 6 ∧ ¬ th (6 * u + v) = 0
def mc_w (we : Nat → Int32) (u v : Nat) : Int := (we (6 * u + v)).toInt
def mc_z (by' : Int32) (ti : Nat → Int32) (u v : Nat) : Int := if by' = 0 then 1 else (ti (6 * u + v)).toInt
def mc_c (by' : Int32) (we ti : Nat → Int32) (t b : Int) (u v : Nat) : Int := mc_w we u v * b - t * mc_z by' ti u v
def mc_G (n : Nat) (th we ti : Nat → Int32) : Prop := 1 ≤ n ∧ n ≤ 6 ∧ ∀ u v, mc_E th u v →
  u < n ∧ v < n ∧ -20 ≤ mc_w we u v ∧ mc_w we u v ≤ 20 ∧ 1 ≤ mc_w ti u v ∧ mc_w ti u v ≤ 5
theorem mc_E6 {th : Nat → Int32} : ∀ u v, mc_E th u v → u < 6 ∧ v < 6 := fun _ _ h => ⟨h.1, h.2.1⟩
theorem mc_En {n : Nat} {th we ti : Nat → Int32} (G : mc_G n th we ti) : ∀ u v, mc_E th u v → u < n ∧ v < n := fun u v h => ⟨(G.2.2 u v h).1, (G.2.2 u v h).2.1⟩
theorem mc_zb {n : Nat} {th we ti : Nat → Int32} (G : mc_G n th we ti) (by' : Int32) {u v : Nat} (h : mc_E th u v) : 1 ≤ mc_z by' ti u v ∧ mc_z by' ti u v ≤ 5 := by
  have g := G.2.2 u v h
  unfold mc_w at g
  unfold mc_z
  by_cases z : by' = 0
  · rw [if_pos z]; omega
  · rw [if_neg z]; omega
theorem mc_mulb {x y X Y : Int} (h1 : -X ≤ x) (h2 : x ≤ X) (h3 : -Y ≤ y) (h4 : y ≤ Y) : -(X * Y) ≤ x * y ∧ x * y ≤ X * Y := by
  have a1 : 0 ≤ (X - x) * (Y + y) := Int.mul_nonneg (by omega) (by omega)
  have a2 : 0 ≤ (X + x) * (Y - y) := Int.mul_nonneg (by omega) (by omega)
  have a3 : 0 ≤ (X - x) * (Y - y) := Int.mul_nonneg (by omega) (by omega)
  have a4 : 0 ≤ (X + x) * (Y + y) := Int.mul_nonneg (by omega) (by omega)
  rw [Int.sub_mul, Int.mul_add, Int.mul_add] at a1
  rw [Int.add_mul, Int.mul_sub, Int.mul_sub] at a2
  rw [Int.sub_mul, Int.mul_sub, Int.mul_sub] at a3
  rw [Int.add_mul, Int.mul_add, Int.mul_add] at a4
  constructor <;> omega
theorem mc_cb {n : Nat} {th we ti : Nat → Int32} (G : mc_G n th we ti) (by' : Int32) {t b : Int} (ht : -1000 ≤ t ∧ t ≤ 1000) (hb : 0 ≤ b ∧ b ≤ 100) {u v : Nat} (h : mc_E th u v) :
    -10000 ≤ mc_c by' we ti t b u v ∧ mc_c by' we ti t b u v ≤ 10000 := by
  have g := G.2.2 u v h
  have z := mc_zb G by' h
  unfold mc_c
  have m1 := mc_mulb (X := 20) (Y := 100) g.2.2.1 g.2.2.2.1 (by omega) hb.2
  have m2 := mc_mulb (X := 1000) (Y := 5) ht.1 ht.2 (by omega) z.2
  omega
end
section
/-! ===== X: relax ===== -/
theorem mc_x_rw {post : Int64 → Prop} {n : Int32} {t b : Int} {th we ti : Nat → Int32} {W D : Nat → Int64} {C Rc : Nat → Int32} {a : Nat} (ha : a < 36) (by' : Int32)
    (h : post (lI (mc_c by' we ti t b (a / 6) (a % 6)))) : wpX_reducedWeight post (n, lI t, lI b, th, we, ti, W, D, C, Rc) (nI a) by' := by
  have e0 : 6 * (a / 6) + a % 6 = a := Nat.div_add_mod a 6
  have e1 : (nI a).toNatClampNeg = a := nI_clamp (by omega)
  unfold mc_c mc_w mc_z at h
  rw [e0] at h
  have hi : vp_in (nI a) 36 := vp_in_nI ha (by omega)
  unfold wpX_reducedWeight
  dsimp only
  rw [e1, lI_i, lI_i, lI_i]
  refine ⟨hi, fun z => ?_, fun z => ⟨hi, ?_⟩⟩
  · rw [if_pos z] at h
    rw [lI_mul, lI_mul, lI_sub]
    exact h
  · rw [if_neg z] at h
    rw [lI_mul, lI_mul, lI_sub]
    exact h
def mc_RI (E : Nat → Nat → Prop) (c : Nat → Nat → Int) (R a : Nat) (x2 : Int32) (D : Nat → Int64) (C : Nat → Int32) : Prop :=
  ∃ d q L, mc_Rx E c R a d q L ∧ (∀ j, j < 6 → D j = lI (d j)) ∧ (∀ j, d j ≤ 0 ∧ -(10000 * ((36 * R + a : Nat) : Int)) ≤ d j) ∧ (∀ x, 1 ≤ L x → C x = nI (q x)) ∧
    ((x2 = -1 ∧ ∀ x, L x < R) ∨ ∃ v, v < 6 ∧ x2 = nI v ∧ L v = R)
theorem mc_relax45 {post : Int32 → SX → Prop} {J : Int32 → Int32 → (Nat → Int32) → (Nat → Int32) → (Nat → Int32) → (Nat → Int64) → (Nat → Int64) → (Nat → Int32) → (Nat → Int32) → Prop}
    {by' x3 : Int32} {n : Nat} {t b : Int} {th we ti : Nat → Int32} {W : Nat → Int64} {Rc : Nat → Int32} (G : mc_G n th we ti) (ht : -1000 ≤ t ∧ t ≤ 1000) (hb : 0 ≤ b ∧ b ≤ 100) {R : Nat} (hR1 : 1 ≤ R) (hR : R ≤ 7)
    (hJ : ∀ x2 D C, mc_RI (mc_E th) (mc_c by' we ti t b) R 36 x2 D C → J x2 (x3 + 1) th we ti W D C Rc) :
    ∀ k a, a + k = 36 → ∀ m, k < m → ∀ x2 D C, mc_RI (mc_E th) (mc_c by' we ti t b) R a x2 D C →
      wX_relax_45 post J by' x3 (nI n) (lI t) (lI b) m x2 (nI a) th we ti W D C Rc := by
  intro k
  induction k with
  | zero =>
    intro a ha m hm x2 D C I
    obtain ⟨m, rfl⟩ : ∃ m', m = m' + 1 := ⟨m - 1, by omega⟩
    have e : a = 36 := by omega
    subst e
    exact br_t (nI_le (a := 36) (b := 36) (Nat.le_refl _) (by decide)) (nm_e (hJ _ _ _ I))
  | succ k ih =>
    intro a ha m hm x2 D C I
    obtain ⟨m, rfl⟩ : ∃ m', m = m' + 1 := ⟨m - 1, by omega⟩
    have h36 : ¬ (36 : Int32) ≤ nI a := nI_ge (b := 36) (by omega) (by decide)
    have e1 : (nI a).toNatClampNeg = a := nI_clamp (by omega)
    have e2 : nI a / 6 = nI (a / 6) := pk_div (d := 6) (by omega) (by omega) (by omega)
    have e3 : nI a - nI (a / 6) * 6 = nI (a % 6) := by rw [← e2]; exact pk_rem (d := 6) (by omega) (by omega) (by omega)
    have e4 : (nI (a / 6)).toNatClampNeg = a / 6 := nI_clamp (by omega)
    have e5 : (nI (a % 6)).toNatClampNeg = a % 6 := nI_clamp (by omega)
    have e0 : 6 * (a / 6) + a % 6 = a := Nat.div_add_mod a 6
    obtain ⟨d, q, L, rx, hD, hd, hC, hx⟩ := I
    refine br_f h36 ⟨vp_in_nI (by omega) (by omega), ?_⟩
    rw [e1]
    refine br_c (fun z => nm_r (nI_1 a) (ih (a + 1) (by omega) m (by omega) x2 D C ⟨d, q, L, mc_Rx_n mc_E6 rx (fun hE => ?_), hD, ?_, hC, hx⟩)) (fun z => ?_)
    · exfalso
      have := hE.2.2
      rw [e0] at this
      exact this z
    · intro j
      have := hd j
      omega
    · rw [e2, e3]
      refine ⟨by decide, fun x5 h5 => ?_⟩
      subst h5
      rw [e4, e5]
      have hE : mc_E th (a / 6) (a % 6) := ⟨by omega, by omega, by rw [e0]; exact z⟩
      have cb := mc_cb G by' ht hb hE
      refine ⟨by decide, vp_in_nI (by omega) (by omega), mc_x_rw (by omega) by' ?_⟩
      intro x6 h6
      subst h6
      have d1 := hd (a / 6)
      have d2 := hd (a % 6)
      rw [hD (a / 6) (by omega), hD (a % 6) (by omega), lI_add]
      refine ⟨vp_in_nI (by omega) (by omega), br_c (fun y => ?_) (fun y => ?_)⟩
      · rw [lI_lt ⟨by omega, by omega⟩ ⟨by omega, by omega⟩] at y
        refine ⟨vp_in_nI (by omega) (by omega), fun D' hD' => ⟨by decide, vp_in_nI (by omega) (by omega), fun C' hC' => nm_r (nI_1 a) ?_⟩⟩
        subst hD' hC'
        refine ih (a + 1) (by omega) m (by omega) _ _ _ ⟨_, _, _, mc_Rx_u mc_E6 rx e0 hE y, ?_, ?_, ?_, Or.inr ⟨a % 6, by omega, rfl, mc_up_s _ _ _⟩⟩
        · intro j hj
          by_cases w : j = a % 6
          · rw [w, pk_uLs, mc_up_s]
          · rw [pk_uLn w, mc_up_n _ _ w, hD j hj]
        · intro j
          have dj := hd j
          by_cases w : j = a % 6
          · rw [w, mc_up_s]; omega
          · rw [mc_up_n _ _ w]; omega
        · intro x hxL
          by_cases w : x = a % 6
          · rw [w, pk_us, mc_up_s, pk_vb]
            have key : ∀ i, i < 6 → (nI i).toInt8.toInt32 = nI i := by decide +kernel
            exact key _ (by omega)
          · rw [mc_up_n _ _ w] at hxL
            rw [pk_un w, mc_up_n _ _ w, hC x hxL]
      · rw [lI_lt ⟨by omega, by omega⟩ ⟨by omega, by omega⟩] at y
        refine nm_r (nI_1 a) (ih (a + 1) (by omega) m (by omega) x2 D C ⟨d, q, L, mc_Rx_n mc_E6 rx (fun _ => by omega), hD, ?_, hC, hx⟩)
        intro j
        have := hd j
        omega
/-- what relax leaves: a potential, or a point from which the parents lead onto a circle below 0 -/
def mc_RO (n : Nat) (E : Nat → Nat → Prop) (c : Nat → Nat → Int) (x2 : Int32) (D : Nat → Int64) (C : Nat → Int32) : Prop :=
  (x2 = -1 ∧ ∃ d, (∀ j, j < 6 → D j = lI (d j)) ∧ (∀ j, d j ≤ 0 ∧ -10000000 ≤ d j) ∧ mc_Pot E c d) ∨
  (∃ v, v < 6 ∧ x2 = nI v ∧ ∃ q L, L v = n + 1 ∧ (∀ x, 1 ≤ L x → C x = nI (q x) ∧ E (q x) x ∧ L x ≤ L (q x) + 1) ∧ mc_NC c q L)
theorem mc_relax32 {post : Int32 → SX → Prop} {by' : Int32} {n : Nat} {t b : Int} {th we ti : Nat → Int32} {W : Nat → Int64} {Rc : Nat → Int32} (G : mc_G n th we ti) (ht : -1000 ≤ t ∧ t ≤ 1000) (hb : 0 ≤ b ∧ b ≤ 100)
    (H : ∀ x2 D C, mc_RO n (mc_E th) (mc_c by' we ti t b) x2 D C → post x2 (nI n, lI t, lI b, th, we, ti, W, D, C, Rc)) :
    ∀ k r, r + k = n + 1 → ∀ m, k < m → ∀ x2 D C, (r = 0 ∧ (∀ j, j < 6 → D j = 0) ∨ 1 ≤ r ∧ mc_RI (mc_E th) (mc_c by' we ti t b) r 36 x2 D C) →
      wX_relax_32 post by' (nI n) (lI t) (lI b) m x2 (nI r) th we ti W D C Rc := by
  have hn1 := G.1
  have hn := G.2.1
  intro k
  induction k with
  | zero =>
    intro r hr m hm x2 D C I
    obtain ⟨m, rfl⟩ : ∃ m', m = m' + 1 := ⟨m - 1, by omega⟩
    refine br_t (nI_lt (by omega) (by omega)) (H _ _ _ ?_)
    have er : r = n + 1 := by omega
    subst er
    rcases I with ⟨h0, _⟩ | ⟨_, d, q, L, rx, hD, hd, hC, hx⟩
    · omega
    · rcases hx with ⟨hx, hL⟩ | ⟨v, hv, hx, hL⟩
      · refine Or.inl ⟨hx, d, hD, fun j => ?_, fun u v e => ?_⟩
        · have := hd j
          omega
        · have b1 := mc_E6 u v e
          rcases rx.2.2.2.1 u v e (by omega) with g | g
          · exact g
          · have := hL u
            omega
      · exact Or.inr ⟨v, hv, hx, q, L, hL, fun x h1 => ⟨hC x h1, (rx.2.1 x h1).1, (rx.2.1 x h1).2.1⟩, rx.2.2.1⟩
  | succ k ih =>
    intro r hr m hm x2 D C I
    obtain ⟨m, rfl⟩ : ∃ m', m = m' + 1 := ⟨m - 1, by omega⟩
    refine br_f (nI_nlt (by omega) (by omega)) ⟨37, ?_⟩
    refine mc_relax45 G ht hb (R := r + 1) (by omega) (by omega) (fun x2 D C I => ?_) 36 0 rfl 37 (by omega) (-1) D C ?_
    · rw [nI_1]
      exact ih (r + 1) (by omega) m (by omega) x2 D C (Or.inr ⟨by omega, I⟩)
    · rcases I with ⟨h0, hz⟩ | ⟨_, d, q, L, rx, hD, hd, hC, hx⟩
      · subst h0
        refine ⟨fun _ => 0, _, _, mc_Rx_0 _ _ _, fun j hj => hz j hj, fun j => ⟨Int.le_refl _, by show -(10000 * ((36 * (0 + 1) + 0 : Nat) : Int)) ≤ 0; omega⟩, fun x h => absurd h (by show ¬ 1 ≤ 0; omega), Or.inl ⟨rfl, fun x => by show 0 < 0 + 1; omega⟩⟩
      · refine ⟨d, q, L, mc_Rx_r mc_E6 rx, hD, fun j => ?_, hC, Or.inl ⟨rfl, fun x => ?_⟩⟩
        · have := hd j
          omega
        · have := rx.1 x
          omega
theorem mc_relax2 {post : Int32 → SX → Prop} {by' : Int32} {n : Nat} {t b : Int} {th we ti : Nat → Int32} {W : Nat → Int64} {Rc : Nat → Int32} (G : mc_G n th we ti) (ht : -1000 ≤ t ∧ t ≤ 1000) (hb : 0 ≤ b ∧ b ≤ 100)
    (H : ∀ x2 D C, mc_RO n (mc_E th) (mc_c by' we ti t b) x2 D C → post x2 (nI n, lI t, lI b, th, we, ti, W, D, C, Rc)) :
    ∀ k j, j + k = 6 → ∀ m, k < m → ∀ (D : Nat → Int64) C, (∀ i, i < j → D i = 0) →
      wX_relax_2 post by' (nI n) (lI t) (lI b) m (nI j) th we ti W D C Rc := by
  have hn := G.2.1
  intro k
  induction k with
  | zero =>
    intro j hj m hm D C hD
    obtain ⟨m, rfl⟩ : ∃ m', m = m' + 1 := ⟨m - 1, by omega⟩
    have e : j = 6 := by omega
    subst e
    refine br_t (nI_le (a := 6) (b := 6) (Nat.le_refl _) (by decide)) ⟨n + 2, ?_⟩
    exact mc_relax32 G ht hb H (n + 1) 0 (by omega) (n + 2) (by omega) (-1) D C (Or.inl ⟨rfl, hD⟩)
  | succ k ih =>
    intro j hj m hm D C hD
    obtain ⟨m, rfl⟩ : ∃ m', m = m' + 1 := ⟨m - 1, by omega⟩
    have hi : vp_in (nI j) 6 := vp_in_nI (by omega) (by omega)
    refine br_f (nI_ge (b := 6) (by omega) (by decide)) ⟨hi, fun D' hD' => ⟨hi, fun C' hC' => nm_r (nI_1 j) (ih (j + 1) (by omega) m (by omega) D' C' ?_)⟩⟩
    rw [nI_clamp (by omega)] at hD'
    intro i hi
    rw [hD']
    by_cases w : i = j
    · rw [w, pk_uLs]
    · rw [pk_uLn w]; exact hD i (by omega)
theorem mc_relax {post : Int32 → SX → Prop} {by' : Int32} {n : Nat} {t b : Int} {th we ti : Nat → Int32} {W D : Nat → Int64} {C Rc : Nat → Int32} (G : mc_G n th we ti) (ht : -1000 ≤ t ∧ t ≤ 1000) (hb : 0 ≤ b ∧ b ≤ 100)
    (H : ∀ x2 D C, mc_RO n (mc_E th) (mc_c by' we ti t b) x2 D C → post x2 (nI n, lI t, lI b, th, we, ti, W, D, C, Rc)) :
    wpX_relax post (nI n, lI t, lI b, th, we, ti, W, D, C, Rc) by' :=
  ⟨7, mc_relax2 G ht hb H 6 0 rfl 7 (by omega) D C (fun i hi => absurd hi (Nat.not_lt_zero _))⟩
end
section
/-! ===== X: lowest, takeCircle, findRatio ===== -/
theorem lI_div {a b : Int} (ha : mc_sml a) (hb : mc_sml b) : lI a / lI b = lI (a.tdiv b) := by
  unfold mc_sml at ha hb
  have m1 : Int64.minValue.toInt = -9223372036854775808 := by decide
  have m2 : Int64.maxValue.toInt = 9223372036854775807 := by decide
  exact (Int64.ofInt_tdiv (by rw [m1]; omega) (by rw [m2]; omega) (by rw [m1]; omega) (by rw [m2]; omega)).symm
theorem mc_low27 {post : SX → Prop} {n : Int32} {t b : Int} {th we ti : Nat → Int32} {W D : Nat → Int64} {C Rc : Nat → Int32} (ht : -1000000 ≤ t ∧ t ≤ 1000000) (hb : 0 < b ∧ b ≤ 1000000)
    (H : ∀ t' b' g : Int, 0 < g → t = t' * g → b = b' * g → 0 < b' → Nat.gcd t'.natAbs b'.natAbs = 1 → post (n, lI t', lI b', th, we, ti, W, D, C, Rc)) :
    ∀ m x y, x < m → x ≤ 1000000 → y ≤ 1000000 → Nat.gcd x y = Nat.gcd t.natAbs b.natAbs →
      wX_lowest_27 post n (lI t) (lI b) th we ti W D C Rc m (lN x) (lN y) := by
  intro m
  induction m with
  | zero => intro x y h; exact absurd h (Nat.not_lt_zero _)
  | succ m ih =>
    intro x y hx hx2 hy hg
    have gpos : 0 < Nat.gcd t.natAbs b.natAbs := Nat.gcd_pos_of_pos_right _ (by omega)
    by_cases z : x = 0
    · subst z
      rw [Nat.gcd_zero_left] at hg
      have hy0 : ¬ lN y = 0 := by
        show ¬ lN y = lN 0
        rw [lN_eq (by omega) (by omega)]; omega
      obtain ⟨t', et⟩ : ∃ t', t = t' * (y : Int) := by
        have : ((y : Nat) : Int) ∣ t := Int.ofNat_dvd_left.mpr (by rw [hg]; exact Nat.gcd_dvd_left _ _)
        obtain ⟨k, hk⟩ := this
        exact ⟨k, by rw [hk, Int.mul_comm]⟩
      obtain ⟨b', eb⟩ : ∃ b', b = b' * (y : Int) := by
        have : ((y : Nat) : Int) ∣ b := Int.ofNat_dvd_left.mpr (by rw [hg]; exact Nat.gcd_dvd_right _ _)
        obtain ⟨k, hk⟩ := this
        exact ⟨k, by rw [hk, Int.mul_comm]⟩
      have hy1 : (0 : Int) < (y : Int) := by omega
      have q1 : lI t / lN y = lI t' := by
        rw [lI_n, lI_div ⟨by omega, by omega⟩ ⟨by omega, by omega⟩, et, Int.mul_tdiv_cancel _ (by omega)]
      have q2 : lI b / lN y = lI b' := by
        rw [lI_n, lI_div ⟨by omega, by omega⟩ ⟨by omega, by omega⟩, eb, Int.mul_tdiv_cancel _ (by omega)]
      refine br_t rfl ⟨hy0, nm_r q1 ⟨hy0, nm_r q2 (H t' b' y hy1 et eb ?_ ?_)⟩⟩
      · by_cases p : 0 < b'
        · exact p
        · have : b' * (y : Int) ≤ 0 := Int.mul_nonpos_of_nonpos_of_nonneg (by omega) (by omega)
          omega
      · have a1 : t.natAbs = t'.natAbs * y := by rw [et, Int.natAbs_mul]; rfl
        have a2 : b.natAbs = b'.natAbs * y := by rw [eb, Int.natAbs_mul]; rfl
        rw [a1, a2, Nat.gcd_mul_right] at hg
        have a3 : 1 * y = Nat.gcd t'.natAbs b'.natAbs * y := by rw [Nat.one_mul]; exact hg
        exact (Nat.eq_of_mul_eq_mul_right (by omega) a3).symm
    · have hx0 : ¬ lN x = 0 := by
        show ¬ lN x = lN 0
        rw [lN_eq (by omega) (by omega)]; omega
      have lt : y % x < x := Nat.mod_lt _ (by omega)
      refine br_f hx0 ⟨hx0, nm_r (pk_lRem (by omega) (by omega) (by omega)) (ih (y % x) x (by omega) (by omega) (by omega) ?_)⟩
      rw [← hg]
      exact (Nat.gcd_rec x y).symm
theorem mc_lowest {post : SX → Prop} {n : Int32} {t b : Int} {th we ti : Nat → Int32} {W D : Nat → Int64} {C Rc : Nat → Int32} (ht : -1000000 ≤ t ∧ t ≤ 1000000) (hb : 0 < b ∧ b ≤ 1000000)
    (H : ∀ t' b' g : Int, 0 < g → t = t' * g → b = b' * g → 0 < b' → Nat.gcd t'.natAbs b'.natAbs = 1 → post (n, lI t', lI b', th, we, ti, W, D, C, Rc)) :
    wpX_lowest post (n, lI t, lI b, th, we, ti, W, D, C, Rc) := by
  have eb : lI b = lN b.natAbs := by
    rw [lI_n]; exact congrArg lI (by omega)
  have W1 := mc_low27 (post := post) (n := n) (th := th) (we := we) (ti := ti) (W := W) (D := D) (C := C) (Rc := Rc) ht hb H (t.natAbs + 1) t.natAbs b.natAbs (by omega) (by omega) (by omega) rfl
  have e0 : (0 : Int64) = lI 0 := rfl
  by_cases z : 0 ≤ t
  · have et : lI t = lN t.natAbs := by
      rw [lI_n]; exact congrArg lI (by omega)
    have h0 : (0 : Int64) ≤ lI t := by rw [e0, lI_le ⟨by omega, by omega⟩ ⟨by omega, by omega⟩]; exact z
    rw [← et, ← eb] at W1
    exact br_t h0 ⟨_, W1⟩
  · have et : -lI t = lN t.natAbs := by
      rw [lI_n, lI_neg]; exact congrArg lI (by omega)
    have h0 : ¬ (0 : Int64) ≤ lI t := by rw [e0, lI_le ⟨by omega, by omega⟩ ⟨by omega, by omega⟩]; exact z
    rw [← eb] at W1
    exact br_f h0 (nm_r et ⟨_, W1⟩)
theorem mc_ix (u v : Nat) : (6 : Int32) * nI u + nI v = nI (6 * u + v) := by
  show nI 6 * nI u + nI v = _
  rw [pk_mul, nI_add]
/-- the circle's two sums -/
theorem mc_take36 {post : SX → Prop} {n : Int32} {T B : Int64} {th we ti : Nat → Int32} {W D : Nat → Int64} {C Rc : Nat → Int32} {q : Nat → Nat} {on K : Nat}
    (hq : ∀ i, mc_it q i on < 6 ∧ C (mc_it q i on) = nI (mc_it q (i + 1) on)) (hK0 : 0 < K) (hK6 : K ≤ 6) (hK : mc_it q K on = on) (hmin : ∀ j, 0 < j → j < K → mc_it q j on ≠ on)
    (H : wpX_lowest post (n, lI (mc_sm (fun i => mc_w we (mc_it q (i + 1) on) (mc_it q i on)) K), lI (mc_sm (fun i => mc_w ti (mc_it q (i + 1) on) (mc_it q i on)) K), th, we, ti, W, D, C, Rc)) :
    ∀ k i, i + k = K → ∀ m, k < m → wX_takeCircle_36 post (nI on) n T B th we ti W D C Rc m (lI (mc_sm (fun i => mc_w we (mc_it q (i + 1) on) (mc_it q i on)) i)) (lI (mc_sm (fun i => mc_w ti (mc_it q (i + 1) on) (mc_it q i on)) i)) (nI (mc_it q i on)) (nI i) := by
  intro k
  induction k with
  | zero =>
    intro i hi m hm
    obtain ⟨m, rfl⟩ : ∃ m', m = m' + 1 := ⟨m - 1, by omega⟩
    have e : i = K := by omega
    subst e
    refine br_f (nI_ne0 hK0 (by omega)) (br_t (by rw [hK]) H)
  | succ k ih =>
    intro i hi m hm
    obtain ⟨m, rfl⟩ : ∃ m', m = m' + 1 := ⟨m - 1, by omega⟩
    have q1 := hq i
    have q2 := hq (i + 1)
    have step : wX_takeCircle_47 post (wX_takeCircle_36 post (nI on) n T B th we ti W D C Rc m) (nI on) (lI (mc_sm (fun i => mc_w we (mc_it q (i + 1) on) (mc_it q i on)) i)) (lI (mc_sm (fun i => mc_w ti (mc_it q (i + 1) on) (mc_it q i on)) i)) (nI (mc_it q i on)) (nI i) n T B th we ti W D C Rc := by
      unfold wX_takeCircle_47
      rw [nI_clamp (n := mc_it q i on) (by omega), q1.2]
      refine ⟨vp_in_nI q1.1 (by omega), fun x9 h9 => ?_⟩
      subst h9
      rw [mc_ix, nI_clamp (by omega)]
      refine ⟨vp_in_nI (by omega) (by omega), fun x3 h3 => ⟨vp_in_nI (by omega) (by omega), fun x5 h5 => ?_⟩⟩
      subst h3 h5
      rw [lI_i, lI_i, lI_add, lI_add]
      refine nm_r (nI_1 i) ?_
      exact ih (i + 1) (by omega) m (by omega)
    by_cases z : i = 0
    · subst z
      exact br_t rfl step
    · refine br_f (nI_ne0 (by omega) (by omega)) (br_f ?_ step)
      have on6 := (hq 0).1
      have on6' : on < 6 := on6
      rw [nI_eq (by omega) (by omega)]
      exact hmin i (by omega) (by omega)
theorem mc_take4 {post : SX → Prop} {n : Nat} {T B : Int64} {th we ti : Nat → Int32} {W D : Nat → Int64} {C Rc : Nat → Int32} {q : Nat → Nat} {v : Nat} (hn : n ≤ 6)
    (hq : ∀ i, mc_it q i v < 6 ∧ C (mc_it q i v) = nI (mc_it q (i + 1) v))
    (H : ∃ m, wX_takeCircle_36 post (nI (mc_it q n v)) (nI n) T B th we ti W D C Rc m 0 0 (nI (mc_it q n v)) 0) :
    ∀ k i, i + k = n → ∀ m, k < m → wX_takeCircle_4 post (nI n) T B th we ti W D C Rc m (nI (mc_it q i v)) (nI i) := by
  intro k
  induction k with
  | zero =>
    intro i hi m hm
    obtain ⟨m, rfl⟩ : ∃ m', m = m' + 1 := ⟨m - 1, by omega⟩
    have e : i = n := by omega
    subst e
    exact br_t (nI_le (Nat.le_refl _) (by omega)) H
  | succ k ih =>
    intro i hi m hm
    obtain ⟨m, rfl⟩ : ∃ m', m = m' + 1 := ⟨m - 1, by omega⟩
    have q1 := hq i
    refine br_f (nI_ge (by omega) (by omega)) ⟨vp_in_nI q1.1 (by omega), nm_r (e' := nI (mc_it q (i + 1) v)) ?_ (nm_r (nI_1 i) (ih (i + 1) (by omega) m (by omega)))⟩
    rw [nI_clamp (n := mc_it q i v) (by omega)]
    exact q1.2
/-- takeCircle: the sums of a circle below 0, in lowest terms -/
theorem mc_take {post : SX → Prop} {n : Nat} {T B : Int64} {th we ti : Nat → Int32} {W D : Nat → Int64} {C Rc : Nat → Int32} (G : mc_G n th we ti) {c : Nat → Nat → Int} {v : Nat} {q L : Nat → Nat}
    (hv : L v = n + 1) (hq : ∀ x, 1 ≤ L x → C x = nI (q x) ∧ mc_E th (q x) x ∧ L x ≤ L (q x) + 1) (hc : mc_NC c q L)
    (H : ∀ K f, K ≤ 6 → mc_Cy n (mc_E th) K f → mc_S c K f < 0 → wpX_lowest post (nI n, lI (mc_S (mc_w we) K f), lI (mc_S (mc_w ti) K f), th, we, ti, W, D, C, Rc)) :
    wpX_takeCircle post (nI n, T, B, th, we, ti, W, D, C, Rc) (nI v) := by
  have hn := G.2.1
  obtain ⟨hall, K, hK0, hKn, hKe, hKm⟩ := mc_chain (mc_En G) (fun x h => (hq x h).2) hv
  have hall2 : ∀ i, 1 ≤ L (mc_it q i (mc_it q n v)) := fun i => by rw [← mc_it_add]; exact hall _
  obtain ⟨cr, sums⟩ := mc_par (n := n) (E := mc_E th) hK0 hKe hKm (fun i _ => ⟨(mc_En G _ _ (hq _ (hall2 i)).2.1).2, (hq _ (hall2 i)).2.1⟩)
  obtain ⟨f, cy, sf, _⟩ := mc_rot cr
  have neg := hc _ K hK0 (fun i _ => hall2 i) hKe
  rw [← sums c, ← sf c] at neg
  have HH := H K f (by omega) cy neg
  rw [sf, sf, sums, sums] at HH
  exact ⟨n + 1, mc_take4 hn (fun i => ⟨(mc_E6 _ _ (hq _ (hall i)).2.1).2, (hq _ (hall i)).1⟩)
    ⟨K + 1, mc_take36 (fun i => ⟨(mc_E6 _ _ (hq _ (hall2 i)).2.1).2, (hq _ (hall2 i)).1⟩) hK0 (by omega) hKe hKm HH K 0 (by omega) (K + 1) (by omega)⟩ n 0 (by omega) (n + 1) (by omega)⟩
theorem mc_S_lin (by' : Int32) (we ti : Nat → Int32) (t b : Int) (K : Nat) (f : Nat → Nat) : mc_S (mc_c by' we ti t b) K f = mc_S (mc_w we) K f * b - t * mc_S (mc_z by' ti) K f :=
  mc_sm_lin (fun i => mc_w we (f i) (f (mc_nx K i))) (fun i => mc_z by' ti (f i) (f (mc_nx K i))) b t K
theorem mc_z1 (ti : Nat → Int32) : mc_z 1 ti = mc_w ti := by
  funext u v
  unfold mc_z mc_w
  rw [if_neg (by decide)]
theorem mc_Sw_b {n : Nat} {th we ti : Nat → Int32} (G : mc_G n th we ti) {K : Nat} {f : Nat → Nat} (h : mc_Cr n (mc_E th) K f) : -(20 * (K : Int)) ≤ mc_S (mc_w we) K f ∧ mc_S (mc_w we) K f ≤ 20 * (K : Int) := by
  have a1 := mc_sm_le (g := fun i => mc_w we (f i) (f (mc_nx K i))) (B := 20) K (fun i hi => (G.2.2 _ _ (h.2.2.2 i hi)).2.2.2.1)
  have a2 := mc_sm_ge (g := fun i => mc_w we (f i) (f (mc_nx K i))) (B := -20) K (fun i hi => (G.2.2 _ _ (h.2.2.2 i hi)).2.2.1)
  unfold mc_S
  omega
theorem mc_Sz_b {n : Nat} {th we ti : Nat → Int32} (G : mc_G n th we ti) (by' : Int32) {K : Nat} {f : Nat → Nat} (h : mc_Cr n (mc_E th) K f) : (K : Int) ≤ mc_S (mc_z by' ti) K f ∧ mc_S (mc_z by' ti) K f ≤ 5 * (K : Int) := by
  have a1 := mc_sm_le (g := fun i => mc_z by' ti (f i) (f (mc_nx K i))) (B := 5) K (fun i hi => (mc_zb G by' (h.2.2.2 i hi)).2)
  have a2 := mc_sm_ge (g := fun i => mc_z by' ti (f i) (f (mc_nx K i))) (B := 1) K (fun i hi => (mc_zb G by' (h.2.2.2 i hi)).1)
  unfold mc_S
  omega
/-- the answer: lowest terms, a potential, a circle that has it -/
def mc_Opt (n : Nat) (th we ti : Nat → Int32) (by' : Int32) (t b : Int) : Prop :=
  Nat.gcd t.natAbs b.natAbs = 1 ∧ (-1000 ≤ t ∧ t ≤ 1000) ∧ (0 < b ∧ b ≤ 100) ∧ (∃ d, mc_Pot (mc_E th) (mc_c by' we ti t b) d) ∧
    ∃ K f, mc_Cy n (mc_E th) K f ∧ mc_S (mc_c by' we ti t b) K f = 0
/-- the measure of a ratio -/
theorem mc_mea {t b t' b' : Int} (hb : 0 < b ∧ b ≤ 30) (hb' : 0 < b' ∧ b' ≤ 30) (h : t' * b < t * b') : 900 * t' / b' + 1 ≤ 900 * t / b := by
  rw [Int.le_ediv_iff_mul_le hb.1]
  have e1 : 900 * t' / b' * b' ≤ 900 * t' := Int.ediv_mul_le _ (by omega)
  generalize 900 * t' / b' = k at e1 ⊢
  have m := mc_mulb (x := b) (y := b') (X := 30) (Y := 30) (by omega) hb.2 (by omega) hb'.2
  have e2 : k * b' * b ≤ 900 * t' * b := Int.mul_le_mul_of_nonneg_right e1 (by omega)
  have e3 : (k + 1) * b * b' ≤ 900 * t * b' := by
    have a1 : (k + 1) * b * b' = k * b' * b + b * b' := by
      rw [Int.add_mul, Int.one_mul, Int.add_mul, Int.mul_assoc, Int.mul_comm b b', ← Int.mul_assoc]
    have a2 : 900 * t' * b = 900 * (t' * b) := Int.mul_assoc _ _ _
    have a3 : 900 * t * b' = 900 * (t * b') := Int.mul_assoc _ _ _
    rw [a1, a3]
    rw [a2] at e2
    omega
  exact Int.le_of_mul_le_mul_right e3 hb'.1
theorem mc_ratio20 {post : Int32 → SX → Prop} {n : Nat} {th we ti : Nat → Int32} {W : Nat → Int64} {Rc : Nat → Int32} (G : mc_G n th we ti)
    (H0 : (∀ K f, ¬ mc_Cy n (mc_E th) K f) → ∀ T B D C, post 0 (nI n, T, B, th, we, ti, W, D, C, Rc))
    (H1 : ∀ t b D C, mc_Opt n th we ti 1 t b → post 1 (nI n, lI t, lI b, th, we, ti, W, D, C, Rc)) :
    ∀ (m : Nat) (t b : Int) x1 x2 D C, 900 * t / b + 200000 < m → (-120 ≤ t ∧ t ≤ 120) → (0 < b ∧ b ≤ 30) → mc_RO n (mc_E th) (mc_c 1 we ti t b) x2 D C →
      (x1 = 0 ∧ t = 21 ∧ b = 1 ∨ x1 = 1 ∧ Nat.gcd t.natAbs b.natAbs = 1 ∧ ∃ K f, mc_Cy n (mc_E th) K f ∧ mc_S (mc_c 1 we ti t b) K f = 0) →
      wX_findRatio_20 post m x1 x2 (nI n) (lI t) (lI b) th we ti W D C Rc := by
  have hn := G.2.1
  intro m
  induction m with
  | zero =>
    intro t b x1 x2 D C hm ht hb _ _
    exfalso
    have : -200000 ≤ 900 * t / b := by
      rw [Int.le_ediv_iff_mul_le hb.1]
      omega
    omega
  | succ m ih =>
    intro t b x1 x2 D C hm ht hb ro hx
    rcases ro with ⟨rfl, d, hD, hd, hp⟩ | ⟨v, hv, rfl, q, L, hL, hq, hc⟩
    · refine br_t (by decide) ?_
      rcases hx with ⟨rfl, rfl, rfl⟩ | ⟨rfl, hg, K, f, cy, hz⟩
      · refine ⟨rfl, H0 (fun K f cy => ?_) _ _ _ _⟩
        have a1 := mc_pot_nn hp cy.1
        rw [mc_S_lin] at a1
        have a2 := mc_Sw_b G cy.1
        have a3 := mc_Sz_b G 1 cy.1
        have a4 := cy.1.1
        omega
      · exact ⟨rfl, H1 t b D C ⟨hg, ⟨by omega, by omega⟩, ⟨by omega, by omega⟩, ⟨d, hp⟩, K, f, cy, hz⟩⟩
    · refine br_f (nI_pos (by omega)) ?_
      refine mc_take G hL hq hc (fun K f hK cy hneg => ?_)
      have b1 := mc_Sw_b G cy.1
      have b2 := mc_Sz_b G 1 cy.1
      have b3 := cy.1.1
      rw [mc_S_lin] at hneg
      rw [mc_z1] at b2 hneg
      refine mc_lowest ⟨by omega, by omega⟩ ⟨by omega, by omega⟩ (fun t' b' g hg et eb hb' hco => ?_)
      dsimp only
      have tb : -120 ≤ t' ∧ t' ≤ 120 := by
        have c1 : mc_S (mc_w we) K f = t' * g := et
        rw [c1] at b1
        constructor
        · by_cases p : -120 ≤ t'
          · exact p
          · have : (t' + 121) * g ≤ 0 := Int.mul_nonpos_of_nonpos_of_nonneg (by omega) (by omega)
            rw [Int.add_mul] at this
            omega
        · by_cases p : t' ≤ 120
          · exact p
          · have : 0 ≤ (t' - 121) * g := Int.mul_nonneg (by omega) (by omega)
            rw [Int.sub_mul] at this
            omega
      have bb : 0 < b' ∧ b' ≤ 30 := by
        refine ⟨hb', ?_⟩
        by_cases p : b' ≤ 30
        · exact p
        · have : 0 ≤ (b' - 31) * g := Int.mul_nonneg (by omega) (by omega)
          rw [Int.sub_mul] at this
          omega
      have less : t' * b < t * b' := by
        rw [et, eb] at hneg
        have e1 : t' * g * b = t' * b * g := by rw [Int.mul_assoc, Int.mul_comm g b, ← Int.mul_assoc]
        have e2 : t * (b' * g) = t * b' * g := (Int.mul_assoc _ _ _).symm
        rw [e1, e2] at hneg
        exact Int.lt_of_mul_lt_mul_right (a := g) (by omega) (by omega)
      have me := mc_mea hb bb less
      refine mc_relax G ⟨by omega, by omega⟩ ⟨by omega, by omega⟩ (fun x2 D C ro => ?_)
      dsimp only
      refine ih t' b' 1 x2 D C (by omega) tb bb ro (Or.inr ⟨rfl, hco, K, f, cy, ?_⟩)
      rw [mc_S_lin, mc_z1, et, eb, Int.mul_assoc, Int.mul_comm g b']
      omega
theorem mc_ratio {post : Int32 → SX → Prop} {n : Nat} {T B : Int64} {th we ti : Nat → Int32} {W D : Nat → Int64} {C Rc : Nat → Int32} (G : mc_G n th we ti)
    (H0 : (∀ K f, ¬ mc_Cy n (mc_E th) K f) → ∀ T B D C, post 0 (nI n, T, B, th, we, ti, W, D, C, Rc))
    (H1 : ∀ t b D C, mc_Opt n th we ti 1 t b → post 1 (nI n, lI t, lI b, th, we, ti, W, D, C, Rc)) :
    wpX_findRatio post (nI n, T, B, th, we, ti, W, D, C, Rc) := by
  show wpX_relax _ (nI n, lI 21, lI 1, th, we, ti, W, D, C, Rc) 1
  refine mc_relax G ⟨by decide, by decide⟩ ⟨by decide, by decide⟩ (fun x2 D C ro => ?_)
  exact ⟨300000, mc_ratio20 G H0 H1 300000 21 1 0 x2 D C (by decide) ⟨by decide, by decide⟩ ⟨by decide, by decide⟩ ro (Or.inl ⟨rfl, rfl, rfl⟩)⟩
end
section
/-! ===== X: findMean ===== -/
def mc_KI (E : Nat → Nat → Prop) (w : Nat → Nat → Int) (l a : Nat) (g : Nat → Int) : Prop :=
  (∀ v, v < 6 → g v = 0) ∧
  (∀ k u v, E u v → (k < l ∨ (k = l ∧ 6 * u + v < a)) → g (6 * k + u) < 1000000000 → g (6 * (k + 1) + v) ≤ g (6 * k + u) + w u v) ∧
  (∀ k v, v < 6 → k ≤ l → g (6 * (k + 1) + v) = 1000000000 ∨ ∃ u, E u v ∧ g (6 * k + u) < 1000000000 ∧ g (6 * (k + 1) + v) = g (6 * k + u) + w u v) ∧
  (∀ j, 6 * (l + 2) ≤ j → g j = 1000000000) ∧
  (∀ k v, v < 6 → g (6 * k + v) = 1000000000 ∨ (-(20 * (k : Int)) ≤ g (6 * k + v) ∧ g (6 * k + v) ≤ 20 * (k : Int)))
theorem mc_KI_0 (E : Nat → Nat → Prop) (w : Nat → Nat → Int) : mc_KI E w 0 0 (fun j => if j < 6 then 0 else 1000000000) := by
  refine ⟨fun v hv => if_pos hv, fun k u v e h => by omega, fun k v hv hk => Or.inl (if_neg (by omega)), fun j hj => if_neg (by omega), fun k v hv => ?_⟩
  by_cases z : k = 0
  · subst z
    right
    show -(20 * ((0 : Nat) : Int)) ≤ (if 6 * 0 + v < 6 then 0 else 1000000000) ∧ (if 6 * 0 + v < 6 then (0 : Int) else 1000000000) ≤ 20 * ((0 : Nat) : Int)
    rw [if_pos (by omega)]; omega
  · exact Or.inl (if_neg (by omega))
theorem mc_KI_r {E : Nat → Nat → Prop} {w : Nat → Nat → Int} {l : Nat} {g : Nat → Int} (hE : ∀ u v, E u v → u < 6 ∧ v < 6) (h : mc_KI E w l 36 g) : mc_KI E w (l + 1) 0 g := by
  obtain ⟨h1, h2, h3, h4, h5⟩ := h
  refine ⟨h1, fun k u v e hk => h2 k u v e ?_, fun k v hv hk => ?_, fun j hj => h4 j (by omega), h5⟩
  · have := hE u v e
    omega
  · by_cases z : k ≤ l
    · exact h3 k v hv z
    · exact Or.inl (h4 _ (by omega))
theorem mc_KI_n {E : Nat → Nat → Prop} {w : Nat → Nat → Int} {l a : Nat} {g : Nat → Int} (hE : ∀ u v, E u v → u < 6 ∧ v < 6) (h : mc_KI E w l a g)
    (hn : E (a / 6) (a % 6) → g (6 * l + a / 6) < 1000000000 → g (6 * (l + 1) + a % 6) ≤ g (6 * l + a / 6) + w (a / 6) (a % 6)) : mc_KI E w l (a + 1) g := by
  obtain ⟨h1, h2, h3, h4, h5⟩ := h
  refine ⟨h1, fun k u v e hk => ?_, h3, h4, h5⟩
  by_cases z : k < l ∨ (k = l ∧ 6 * u + v < a)
  · exact h2 k u v e z
  · have b := hE u v e
    have e1 : a / 6 = u := by omega
    have e2 : a % 6 = v := by omega
    have e3 : k = l := by omega
    subst e3
    rw [e1, e2] at hn
    exact hn e
theorem mc_KI_u {E : Nat → Nat → Prop} {w : Nat → Nat → Int} {l a u v : Nat} {g : Nat → Int} (hE : ∀ u v, E u v → u < 6 ∧ v < 6) (h : mc_KI E w l a g) (hw : -20 ≤ w u v ∧ w u v ≤ 20)
    (ha : 6 * u + v = a) (e : E u v) (hf : g (6 * l + u) < 1000000000) (hl : g (6 * l + u) + w u v < g (6 * (l + 1) + v)) : mc_KI E w l (a + 1) (mc_up g (6 * (l + 1) + v) (g (6 * l + u) + w u v)) := by
  obtain ⟨h1, h2, h3, h4, h5⟩ := h
  have b := hE u v e
  refine ⟨fun x hx => ?_, fun k x y exy hk => ?_, fun k y hy hk => ?_, fun j hj => ?_, fun k y hy => ?_⟩
  · rw [mc_up_n _ _ (by omega)]; exact h1 x hx
  · have b2 := hE x y exy
    rw [mc_up_n _ _ (show 6 * k + x ≠ 6 * (l + 1) + v by omega)]
    by_cases z : 6 * (k + 1) + y = 6 * (l + 1) + v
    · have e1 : k = l := by omega
      have e2 : y = v := by omega
      subst e1 e2
      rw [mc_up_s]
      intro hlt
      by_cases z2 : 6 * x + y < a
      · have := h2 k x y exy (Or.inr ⟨rfl, z2⟩) hlt
        omega
      · have e3 : x = u := by omega
        subst e3
        exact Int.le_refl _
    · rw [mc_up_n _ _ z]
      exact h2 k x y exy (by omega)
  · by_cases z : 6 * (k + 1) + y = 6 * (l + 1) + v
    · have e1 : k = l := by omega
      have e2 : y = v := by omega
      subst e1 e2
      refine Or.inr ⟨u, e, ?_, ?_⟩
      · rw [mc_up_n _ _ (by omega)]; exact hf
      · rw [mc_up_s, mc_up_n _ _ (by omega)]
    · rw [mc_up_n _ _ z]
      rcases h3 k y hy hk with g1 | ⟨x, ex, g1, g2⟩
      · exact Or.inl g1
      · have b2 := hE x y ex
        refine Or.inr ⟨x, ex, ?_, ?_⟩
        · rw [mc_up_n _ _ (by omega)]; exact g1
        · rw [mc_up_n _ _ (by omega)]; exact g2
  · rw [mc_up_n _ _ (by omega)]; exact h4 j hj
  · by_cases z : 6 * k + y = 6 * (l + 1) + v
    · have e1 : k = l + 1 := by omega
      have e2 : y = v := by omega
      subst e1 e2
      rw [mc_up_s]
      rcases h5 l u b.1 with g1 | g1
      · omega
      · right; omega
    · rw [mc_up_n _ _ z]; exact h5 k y hy
/-- the array of walks by its numbers -/
def mc_WG (W : Nat → Int64) (g : Nat → Int) : Prop := ∀ j, j < 42 → W j = lI (g j)
theorem mc_ext {post : SX → Prop} {N : Int32} {T B : Int64} {n : Nat} {th we ti : Nat → Int32} {W D : Nat → Int64} {C Rc : Nat → Int32} {l a : Nat} {g : Nat → Int} (G : mc_G n th we ti) (hl : l < 6) (ha : a < 36)
    (hw : mc_WG W g) (hk : mc_KI (mc_E th) (mc_w we) l a g) (hE : mc_E th (a / 6) (a % 6))
    (H : ∀ W' g', mc_WG W' g' → mc_KI (mc_E th) (mc_w we) l (a + 1) g' → post (N, T, B, th, we, ti, W', D, C, Rc)) :
    wpX_extendWalk post (N, T, B, th, we, ti, W, D, C, Rc) (nI (l + 1)) (nI (a / 6)) (nI (a % 6)) (we a) := by
  have e0 : 6 * (a / 6) + a % 6 = a := Nat.div_add_mod a 6
  have i1 : (6 : Int32) * nI (l + 1) - 6 + nI (a / 6) = nI (6 * l + a / 6) := by
    show nI 6 * nI (l + 1) - nI 6 + nI (a / 6) = _
    rw [pk_mul, pk_sub (by omega), nI_add]
    exact congrArg nI (by omega)
  have i2 : (6 : Int32) * nI (l + 1) + nI (a % 6) = nI (6 * (l + 1) + a % 6) := mc_ix _ _
  have c1 : (nI (6 * l + a / 6)).toNatClampNeg = 6 * l + a / 6 := nI_clamp (by omega)
  have c2 : (nI (6 * (l + 1) + a % 6)).toNatClampNeg = 6 * (l + 1) + a % 6 := nI_clamp (by omega)
  have we1 : (we a).toInt = mc_w we (a / 6) (a % 6) := by unfold mc_w; rw [e0]
  have gw := G.2.2 _ _ hE
  have eA : (1000000000 : Int64) = lI 1000000000 := rfl
  unfold wpX_extendWalk
  dsimp only
  rw [i1, i2, c1, c2, hw _ (by omega), hw _ (by omega), lI_i, we1, eA]
  have b1 := hk.2.2.2.2 l (a / 6) (by omega)
  have b2 := hk.2.2.2.2 (l + 1) (a % 6) (by omega)
  refine ⟨vp_in_nI (by omega) (by omega), fun x5 h5 => ?_⟩
  subst h5
  rw [lI_le ⟨by omega, by omega⟩ ⟨by omega, by omega⟩]
  refine br_c (fun z => ?_) (fun z => ⟨vp_in_nI (by omega) (by omega), ?_⟩)
  · exact H W g hw (mc_KI_n mc_E6 hk (fun _ h => by omega))
  · rw [lI_add, lI_le ⟨by omega, by omega⟩ ⟨by omega, by omega⟩]
    refine br_c (fun y => ?_) (fun y => ⟨vp_in_nI (by omega) (by omega), fun W' hW' => ?_⟩)
    · exact H W g hw (mc_KI_n mc_E6 hk (fun _ _ => y))
    · subst hW'
      refine H _ _ ?_ (mc_KI_u mc_E6 hk ⟨gw.2.2.1, gw.2.2.2.1⟩ e0 hE (by omega) (by omega))
      intro j hj
      by_cases x : j = 6 * (l + 1) + a % 6
      · rw [x, pk_uLs, mc_up_s]
      · rw [pk_uLn x, mc_up_n _ _ x, hw j hj]
theorem mc_mean45 {post : Int32 → SX → Prop} {J : Int32 → Int32 → Int64 → Int64 → (Nat → Int32) → (Nat → Int32) → (Nat → Int32) → (Nat → Int64) → (Nat → Int64) → (Nat → Int32) → (Nat → Int32) → Prop}
    {N : Int32} {T B : Int64} {n : Nat} {th we ti : Nat → Int32} {D : Nat → Int64} {C Rc : Nat → Int32} {l : Nat} (G : mc_G n th we ti) (hl : l < 6)
    (hJ : ∀ W g, mc_WG W g → mc_KI (mc_E th) (mc_w we) l 36 g → J (nI (l + 2)) N T B th we ti W D C Rc) :
    ∀ k a, a + k = 36 → ∀ m, k < m → ∀ W g, mc_WG W g → mc_KI (mc_E th) (mc_w we) l a g → wX_findMean_45 post J (nI (l + 1)) m (nI a) N T B th we ti W D C Rc := by
  intro k
  induction k with
  | zero =>
    intro a ha m hm W g hw hk
    obtain ⟨m, rfl⟩ : ∃ m', m = m' + 1 := ⟨m - 1, by omega⟩
    have e : a = 36 := by omega
    subst e
    exact br_t (nI_le (a := 36) (b := 36) (Nat.le_refl _) (by decide)) (nm_r (nI_1 (l + 1)) (hJ W g hw hk))
  | succ k ih =>
    intro a ha m hm W g hw hk
    obtain ⟨m, rfl⟩ : ∃ m', m = m' + 1 := ⟨m - 1, by omega⟩
    have h36 : ¬ (36 : Int32) ≤ nI a := nI_ge (b := 36) (by omega) (by decide)
    have e1 : (nI a).toNatClampNeg = a := nI_clamp (by omega)
    have e2 : nI a / 6 = nI (a / 6) := pk_div (d := 6) (by omega) (by omega) (by omega)
    have e3 : nI a - nI (a / 6) * 6 = nI (a % 6) := by rw [← e2]; exact pk_rem (d := 6) (by omega) (by omega) (by omega)
    have e0 : 6 * (a / 6) + a % 6 = a := Nat.div_add_mod a 6
    refine br_f h36 ⟨vp_in_nI (by omega) (by omega), ?_⟩
    rw [e1, e2, e3]
    refine br_c (fun z => nm_r (nI_1 a) (ih (a + 1) (by omega) m (by omega) W g hw (mc_KI_n mc_E6 hk (fun hE => ?_)))) (fun z => ⟨by decide, by decide, vp_in_nI (by omega) (by omega), ?_⟩)
    · exfalso
      have := hE.2.2
      rw [e0] at this
      exact this z
    · refine mc_ext G hl (by omega) hw hk ⟨by omega, by omega, by rw [e0]; exact z⟩ (fun W' g' hw' hk' => ?_)
      dsimp only
      exact nm_r (nI_1 a) (ih (a + 1) (by omega) m (by omega) W' g' hw' hk')
theorem mc_mean35 {post : Int32 → SX → Prop} {T B : Int64} {n : Nat} {th we ti : Nat → Int32} {D : Nat → Int64} {C Rc : Nat → Int32} (G : mc_G n th we ti)
    (H : ∀ W g, mc_WG W g → mc_KI (mc_E th) (mc_w we) n 0 g → ∃ m, wX_findMean_95 post m 0 0 (nI n) T B th we ti W D C Rc) :
    ∀ k l, l + k = n → ∀ m, k < m → ∀ W g, mc_WG W g → mc_KI (mc_E th) (mc_w we) l 0 g → wX_findMean_35 post m (nI (l + 1)) (nI n) T B th we ti W D C Rc := by
  have hn := G.2.1
  intro k
  induction k with
  | zero =>
    intro l hl m hm W g hw hk
    obtain ⟨m, rfl⟩ : ∃ m', m = m' + 1 := ⟨m - 1, by omega⟩
    have e : l = n := by omega
    subst e
    exact br_t (nI_lt (by omega) (by omega)) (H W g hw hk)
  | succ k ih =>
    intro l hl m hm W g hw hk
    obtain ⟨m, rfl⟩ : ∃ m', m = m' + 1 := ⟨m - 1, by omega⟩
    refine br_f (nI_nlt (by omega) (by omega)) ⟨37, mc_mean45 G (by omega) (fun W' g' hw' hk' => ?_) 36 0 rfl 37 (by omega) W g hw hk⟩
    exact ih (l + 1) (by omega) m (by omega) W' g' hw' (mc_KI_r mc_E6 hk')
theorem mc_mean2 {post : Int32 → SX → Prop} {T B : Int64} {n : Nat} {th we ti : Nat → Int32} {D : Nat → Int64} {C Rc : Nat → Int32} (G : mc_G n th we ti)
    (H : ∀ W g, mc_WG W g → mc_KI (mc_E th) (mc_w we) n 0 g → ∃ m, wX_findMean_95 post m 0 0 (nI n) T B th we ti W D C Rc) :
    ∀ k j, j + k = 42 → ∀ m, k < m → ∀ W, (∀ i, i < j → W i = lI (if i < 6 then 0 else 1000000000)) → wX_findMean_2 post (nI n) T B m (nI j) th we ti W D C Rc := by
  have hn := G.2.1
  intro k
  induction k with
  | zero =>
    intro j hj m hm W hw
    obtain ⟨m, rfl⟩ : ∃ m', m = m' + 1 := ⟨m - 1, by omega⟩
    have e : j = 42 := by omega
    subst e
    exact br_t (nI_le (a := 42) (b := 42) (Nat.le_refl _) (by decide)) ⟨n + 1, mc_mean35 G H n 0 (by omega) (n + 1) (by omega) W _ hw (mc_KI_0 _ _)⟩
  | succ k ih =>
    intro j hj m hm W hw
    obtain ⟨m, rfl⟩ : ∃ m', m = m' + 1 := ⟨m - 1, by omega⟩
    have c1 : (nI j).toNatClampNeg = j := nI_clamp (by omega)
    have hi : vp_in (nI j) 42 := vp_in_nI (by omega) (by omega)
    refine br_f (nI_ge (b := 42) (by omega) (by decide)) (pk_le 6 j (fun z => ⟨hi, fun W' hW' => nm_r (nI_1 j) (ih (j + 1) (by omega) m (by omega) W' ?_)⟩) (fun z => ⟨hi, fun W' hW' => nm_r (nI_1 j) (ih (j + 1) (by omega) m (by omega) W' ?_)⟩))
    · rw [c1] at hW'
      subst hW'
      intro i hi
      by_cases w : i = j
      · rw [w, pk_uLs, if_neg (by omega)]; rfl
      · rw [pk_uLn w]; exact hw i (by omega)
    · rw [c1] at hW'
      subst hW'
      intro i hi
      by_cases w : i = j
      · rw [w, pk_uLs, if_pos (by omega)]; rfl
      · rw [pk_uLn w]; exact hw i (by omega)
/-! the greatest mean at a point -/
theorem mc_frac {x y p q m s : Int} (hq : 0 < q) (hs : 0 ≤ s) (hy : 0 ≤ y) (h1 : x * q ≤ p * y) (h2 : p * s ≤ m * q) : x * s ≤ m * y := by
  have a1 : x * q * s ≤ p * y * s := Int.mul_le_mul_of_nonneg_right h1 hs
  have a2 : p * s * y ≤ m * q * y := Int.mul_le_mul_of_nonneg_right h2 hy
  have e1 : x * q * s = x * s * q := by rw [Int.mul_assoc, Int.mul_comm q s, ← Int.mul_assoc]
  have e2 : p * y * s = p * s * y := by rw [Int.mul_assoc, Int.mul_comm y s, ← Int.mul_assoc]
  have e3 : m * q * y = m * y * q := by rw [Int.mul_assoc, Int.mul_comm q y, ← Int.mul_assoc]
  rw [e1, e2] at a1
  rw [e3] at a2
  exact Int.le_of_mul_le_mul_right (Int.le_trans a1 a2) hq
def mc_OM (n : Nat) (g : Nat → Int) (v i : Nat) (bt bb : Int) : Prop :=
  ∃ k, k < i ∧ k < n ∧ g (6 * k + v) < 1000000000 ∧ bt = g (6 * n + v) - g (6 * k + v) ∧ bb = (n : Int) - k ∧
    ∀ j, j < i → g (6 * j + v) < 1000000000 → (g (6 * n + v) - g (6 * j + v)) * bb ≤ bt * ((n : Int) - j)
theorem mc_offer24 {post : SX → Prop} {n : Nat} {cmp : Int32} {t b : Int} {T B : Int64} {th we ti : Nat → Int32} {W D : Nat → Int64} {C Rc : Nat → Int32} {g : Nat → Int} {v : Nat} (hn : 1 ≤ n ∧ n ≤ 6) (hv : v < 6)
    (hw : mc_WG W g) (g0 : g v = 0) (hb : ∀ k v, v < 6 → g (6 * k + v) = 1000000000 ∨ (-(20 * (k : Int)) ≤ g (6 * k + v) ∧ g (6 * k + v) ≤ 20 * (k : Int))) (hf : g (6 * n + v) < 1000000000)
    (hc : cmp = 0 ∨ cmp = 1 ∧ T = lI t ∧ B = lI b ∧ (-1000 ≤ t ∧ t ≤ 1000) ∧ (0 < b ∧ b ≤ 6))
    (H : ∀ bt bb, mc_OM n g v n bt bb → (-1000 ≤ bt ∧ bt ≤ 1000) → (0 < bb ∧ bb ≤ 6) → (cmp = 0 ∨ bt * b < t * bb → post (nI n, lI bt, lI bb, th, we, ti, W, D, C, Rc)) ∧ (cmp = 1 → ¬ bt * b < t * bb → post (nI n, T, B, th, we, ti, W, D, C, Rc))) :
    ∀ k i, i + k = n → ∀ m, k < m → ∀ bt bb : Int, (i = 0 ∧ bt = 0 ∧ bb = 0 ∨ mc_OM n g v i bt bb) →
      wX_offerMean_24 post (nI v) cmp (lI (g (6 * n + v))) (nI n) T B th we ti W D C Rc m (lI bt) (lI bb) (nI i) := by
  have bn := hb n v hv
  have ombd : ∀ i bt bb, mc_OM n g v i bt bb → (-1000 ≤ bt ∧ bt ≤ 1000) ∧ (0 < bb ∧ bb ≤ 6) := by
    intro i bt bb ⟨k, hk, hkn, gk, e1, e2, _⟩
    have bk := hb k v hv
    omega
  intro k
  induction k with
  | zero =>
    intro i hi m hm bt bb I
    obtain ⟨m, rfl⟩ : ∃ m', m = m' + 1 := ⟨m - 1, by omega⟩
    have e : i = n := by omega
    subst e
    refine br_t (nI_le (Nat.le_refl _) (by omega)) ?_
    rcases I with ⟨h0, _⟩ | om
    · omega
    · obtain ⟨bd1, bd2⟩ := ombd i bt bb om
      obtain ⟨H1, H2⟩ := H bt bb om bd1 bd2
      refine br_c (fun z => H1 (Or.inl z)) (fun z => ?_)
      rcases hc with h | ⟨h1, rfl, rfl, h4, h5⟩
      · exact absurd h z
      · have m1 := mc_mulb (x := bt) (y := b) (X := 1000) (Y := 6) bd1.1 bd1.2 (by omega) h5.2
        have m2 := mc_mulb (x := t) (y := bb) (X := 1000) (Y := 6) h4.1 h4.2 (by omega) bd2.2
        rw [lI_mul, lI_mul, lI_lt ⟨by omega, by omega⟩ ⟨by omega, by omega⟩]
        exact br_c (fun y => H1 (Or.inr y)) (fun y => H2 h1 y)
  | succ k ih =>
    intro i hi m hm bt bb I
    obtain ⟨m, rfl⟩ : ∃ m', m = m' + 1 := ⟨m - 1, by omega⟩
    have bi := hb i v hv
    have eA : (1000000000 : Int64) = lI 1000000000 := rfl
    have st : (nI n - nI i).toInt64 = lI ((n : Int) - i) := by
      rw [pk_sub (by omega), nI_l (by omega), lI_n]
      exact congrArg lI (by omega)
    refine br_f (nI_ge (by omega) (by omega)) ?_
    rw [mc_ix, nI_clamp (by omega), hw _ (by omega), eA]
    refine ⟨vp_in_nI (by omega) (by omega), fun x10 h10 => ?_⟩
    subst h10
    rw [lI_lt ⟨by omega, by omega⟩ ⟨by omega, by omega⟩]
    refine br_c (fun z => ?_) (fun z => nm_r (nI_1 i) (ih (i + 1) (by omega) m (by omega) bt bb ?_))
    · intro x12 h12 x14 h14
      subst h12 h14
      rw [st, lI_sub]
      have e0 : (0 : Int64) = lI 0 := rfl
      rw [e0]
      rcases I with ⟨h0, h1, h2⟩ | om
      · subst h0 h1 h2
        refine br_t rfl (nm_r (nI_1 0) (ih 1 (by omega) m (by omega) _ _ (Or.inr ⟨0, by omega, by omega, z, rfl, rfl, fun j hj gj => ?_⟩)))
        have ej : j = 0 := by omega
        subst ej
        exact Int.le_refl _
      · obtain ⟨bd1, bd2⟩ := ombd i bt bb om
        refine br_f ?_ ?_
        · rw [lI_eq ⟨by omega, by omega⟩ ⟨by omega, by omega⟩]; omega
        · have m1 := mc_mulb (x := bt) (y := (n : Int) - i) (X := 1000) (Y := 6) bd1.1 bd1.2 (by omega) (by omega)
          have m2 := mc_mulb (x := g (6 * n + v) - g (6 * i + v)) (y := bb) (X := 1000) (Y := 6) (by omega) (by omega) (by omega) bd2.2
          rw [lI_mul, lI_mul, lI_lt ⟨by omega, by omega⟩ ⟨by omega, by omega⟩]
          obtain ⟨k0, hk0, hkn, gk, e1, e2, hall⟩ := om
          refine br_c (fun y => nm_r (nI_1 i) (ih (i + 1) (by omega) m (by omega) _ _ (Or.inr ⟨i, by omega, by omega, z, rfl, rfl, fun j hj gj => ?_⟩))) (fun y => nm_r (nI_1 i) (ih (i + 1) (by omega) m (by omega) _ _ (Or.inr ⟨k0, by omega, hkn, gk, e1, e2, fun j hj gj => ?_⟩)))
          · by_cases ej : j = i
            · subst ej; exact Int.le_refl _
            · exact mc_frac bd2.1 (by omega) (by omega) (hall j (by omega) gj) (by omega)
          · by_cases ej : j = i
            · subst ej; omega
            · exact hall j (by omega) gj
    · rcases I with ⟨h0, h1, h2⟩ | ⟨k0, hk0, hkn, gk, e1, e2, hall⟩
      · subst h0
        exfalso
        have : g (6 * 0 + v) = 0 := by rw [Nat.mul_zero, Nat.zero_add]; exact g0
        omega
      · refine Or.inr ⟨k0, by omega, hkn, gk, e1, e2, fun j hj gj => ?_⟩
        by_cases ej : j = i
        · subst ej; exact absurd gj z
        · exact hall j (by omega) gj
theorem mc_offer {post : SX → Prop} {n : Nat} {cmp : Int32} {t b : Int} {T B : Int64} {th we ti : Nat → Int32} {W D : Nat → Int64} {C Rc : Nat → Int32} {g : Nat → Int} {v : Nat} (hn : 1 ≤ n ∧ n ≤ 6) (hv : v < 6)
    (hw : mc_WG W g) (g0 : g v = 0) (hb : ∀ k v, v < 6 → g (6 * k + v) = 1000000000 ∨ (-(20 * (k : Int)) ≤ g (6 * k + v) ∧ g (6 * k + v) ≤ 20 * (k : Int))) (hf : g (6 * n + v) < 1000000000)
    (hc : cmp = 0 ∨ cmp = 1 ∧ T = lI t ∧ B = lI b ∧ (-1000 ≤ t ∧ t ≤ 1000) ∧ (0 < b ∧ b ≤ 6))
    (H : ∀ bt bb, mc_OM n g v n bt bb → (-1000 ≤ bt ∧ bt ≤ 1000) → (0 < bb ∧ bb ≤ 6) → (cmp = 0 ∨ bt * b < t * bb → post (nI n, lI bt, lI bb, th, we, ti, W, D, C, Rc)) ∧ (cmp = 1 → ¬ bt * b < t * bb → post (nI n, T, B, th, we, ti, W, D, C, Rc))) :
    wpX_offerMean post (nI n, T, B, th, we, ti, W, D, C, Rc) (nI v) cmp := by
  unfold wpX_offerMean
  dsimp only
  rw [mc_ix, nI_clamp (by omega), hw _ (by omega)]
  refine ⟨vp_in_nI (by omega) (by omega), fun x3 h3 => ?_⟩
  subst h3
  exact ⟨n + 1, mc_offer24 hn hv hw g0 hb hf hc H n 0 (by omega) (n + 1) (by omega) 0 0 (Or.inl ⟨rfl, rfl, rfl⟩)⟩
end
section
/-! ===== X: findMean's answer ===== -/
def mc_MI (n : Nat) (g : Nat → Int) (i : Nat) (t b : Int) : Prop :=
  (-1000 ≤ t ∧ t ≤ 1000) ∧ (0 < b ∧ b ≤ 6) ∧
  (∀ v, v < i → g (6 * n + v) < 1000000000 → ∃ k, k < n ∧ g (6 * k + v) < 1000000000 ∧ t * ((n : Int) - k) ≤ (g (6 * n + v) - g (6 * k + v)) * b) ∧
  ∃ v, v < n ∧ g (6 * n + v) < 1000000000 ∧ ∀ k, k < n → g (6 * k + v) < 1000000000 → (g (6 * n + v) - g (6 * k + v)) * b ≤ t * ((n : Int) - k)
theorem mc_c0 (we ti : Nat → Int32) (t b : Int) : mc_c 0 we ti t b = fun u v => mc_w we u v * b - t * 1 := by
  funext u v
  unfold mc_c mc_z
  rw [if_pos rfl]
theorem mc_mean_opt {n : Nat} {th we ti : Nat → Int32} {g : Nat → Int} {t b t' b' q : Int} (G : mc_G n th we ti) (hk : mc_KI (mc_E th) (mc_w we) n 0 g) (hm : mc_MI n g n t b)
    (hq : 0 < q) (et : t = t' * q) (eb : b = b' * q) (hb' : 0 < b') (hco : Nat.gcd t'.natAbs b'.natAbs = 1) : mc_Opt n th we ti 0 t' b' := by
  obtain ⟨ht, hb, o1, o2⟩ := hm
  obtain ⟨k1, k2, k3, k4, k5⟩ := hk
  have hn1 := G.1
  have hn := G.2.1
  have sc : ∀ x y : Int, t * x ≤ y * b ↔ t' * x ≤ y * b' := by
    intro x y
    have e1 : t * x = t' * x * q := by rw [et, Int.mul_assoc, Int.mul_comm q x, ← Int.mul_assoc]
    have e2 : y * b = y * b' * q := by rw [eb, ← Int.mul_assoc]
    rw [e1, e2]
    exact ⟨fun h => Int.le_of_mul_le_mul_right h hq, fun h => Int.mul_le_mul_of_nonneg_right h (by omega)⟩
  have sc2 : ∀ x y : Int, y * b ≤ t * x ↔ y * b' ≤ t' * x := by
    intro x y
    have e1 : t * x = t' * x * q := by rw [et, Int.mul_assoc, Int.mul_comm q x, ← Int.mul_assoc]
    have e2 : y * b = y * b' * q := by rw [eb, ← Int.mul_assoc]
    rw [e1, e2]
    exact ⟨fun h => Int.le_of_mul_le_mul_right h hq, fun h => Int.mul_le_mul_of_nonneg_right h (by omega)⟩
  have kp := mc_karp (n := n) (E := mc_E th) (w := mc_w we) (F := fun k v => g (6 * k + v)) (A := 1000000000) (t := t') (b := b') hb' (by omega) (mc_En G) (by decide)
    (fun v hv => by show g (6 * 0 + v) = 0; rw [Nat.mul_zero, Nat.zero_add]; exact k1 v (by omega))
    (fun k u v hk e hf => by
      have a1 := k2 k u v e (Or.inl hk) hf
      have a2 := k5 k u (mc_E6 u v e).1
      have a3 := G.2.2 u v e
      have hf' : g (6 * k + u) < 1000000000 := hf
      refine ⟨a1, ?_⟩
      show g (6 * (k + 1) + v) < 1000000000
      omega)
    (fun k v hk hv hf => by
      have hf' : g (6 * (k + 1) + v) < 1000000000 := hf
      rcases k3 k v (by omega) (by omega) with h | h
      · omega
      · exact h)
    (fun v hv hf => by
      obtain ⟨k, hk, fk, o⟩ := o1 v hv hf
      exact ⟨k, hk, fk, (sc _ _).mp o⟩)
    (by
      obtain ⟨v, hv, hf, o⟩ := o2
      exact ⟨v, hv, hf, fun k hk fk => (sc2 _ _).mp (o k hk fk)⟩)
  rw [← mc_c0 we ti t' b'] at kp
  refine ⟨hco, ?_, ?_, kp.1, kp.2⟩
  · rw [et] at ht
    constructor
    · by_cases p : -1000 ≤ t'
      · exact p
      · have : (t' + 1001) * q ≤ 0 := Int.mul_nonpos_of_nonpos_of_nonneg (by omega) (by omega)
        rw [Int.add_mul] at this
        omega
    · by_cases p : t' ≤ 1000
      · exact p
      · have : 0 ≤ (t' - 1001) * q := Int.mul_nonneg (by omega) (by omega)
        rw [Int.sub_mul] at this
        omega
  · refine ⟨hb', ?_⟩
    rw [eb] at hb
    by_cases p : b' ≤ 100
    · exact p
    · have : 0 ≤ (b' - 101) * q := Int.mul_nonneg (by omega) (by omega)
      rw [Int.sub_mul] at this
      omega
theorem mc_mean95 {post : Int32 → SX → Prop} {n : Nat} {th we ti : Nat → Int32} {W D : Nat → Int64} {C Rc : Nat → Int32} {g : Nat → Int} (G : mc_G n th we ti) (hw : mc_WG W g) (hk : mc_KI (mc_E th) (mc_w we) n 0 g)
    (H0 : (∀ K f, ¬ mc_Cy n (mc_E th) K f) → ∀ T B W, post 0 (nI n, T, B, th, we, ti, W, D, C, Rc))
    (H1 : ∀ t b W, mc_Opt n th we ti 0 t b → post 1 (nI n, lI t, lI b, th, we, ti, W, D, C, Rc)) :
    ∀ k i, i + k = n → ∀ m, k < m → ∀ x1 T B, (x1 = 0 ∧ (∀ v, v < i → ¬ g (6 * n + v) < 1000000000) ∨ x1 = 1 ∧ ∃ t b, T = lI t ∧ B = lI b ∧ mc_MI n g i t b) →
      wX_findMean_95 post m x1 (nI i) (nI n) T B th we ti W D C Rc := by
  have hn1 := G.1
  have hn := G.2.1
  intro k
  induction k with
  | zero =>
    intro i hi m hm x1 T B I
    obtain ⟨m, rfl⟩ : ∃ m', m = m' + 1 := ⟨m - 1, by omega⟩
    have e : i = n := by omega
    subst e
    refine br_t (nI_le (Nat.le_refl _) (by omega)) ?_
    rcases I with ⟨rfl, hno⟩ | ⟨rfl, t, b, rfl, rfl, mi⟩
    · refine br_t rfl ⟨rfl, H0 (fun K f cy => ?_) _ _ _⟩
      obtain ⟨k1, k2, k3, k4, k5⟩ := hk
      obtain ⟨v, hv, hf⟩ := mc_long (w := mc_w we) (F := fun k v => g (6 * k + v)) (A := 1000000000) (by decide)
        (fun v hv => by show g (6 * 0 + v) = 0; rw [Nat.mul_zero, Nat.zero_add]; exact k1 v (by omega))
        (fun k u v hk e hf => by
          have a1 := k2 k u v e (Or.inl hk) hf
          have a2 := k5 k u (mc_E6 u v e).1
          have a3 := G.2.2 u v e
          have hf' : g (6 * k + u) < 1000000000 := hf
          refine ⟨a1, ?_⟩
          show g (6 * (k + 1) + v) < 1000000000
          omega) cy.1
      exact hno v hv hf
    · refine br_f (by decide) (mc_lowest ⟨by have := mi.1; omega, by have := mi.1; omega⟩ ⟨mi.2.1.1, by have := mi.2.1; omega⟩ (fun t' b' q hq et eb hb' hco => ?_))
      exact ⟨rfl, H1 t' b' W (mc_mean_opt G hk mi hq et eb hb' hco)⟩
  | succ k ih =>
    intro i hi m hm x1 T B I
    obtain ⟨m, rfl⟩ : ∃ m', m = m' + 1 := ⟨m - 1, by omega⟩
    have eA : (1000000000 : Int64) = lI 1000000000 := rfl
    have bn := hk.2.2.2.2 n i (by omega)
    refine br_f (nI_ge (by omega) (by omega)) ?_
    rw [mc_ix, nI_clamp (by omega), hw _ (by omega), eA, lI_lt ⟨by omega, by omega⟩ ⟨by omega, by omega⟩]
    refine ⟨vp_in_nI (by omega) (by omega), br_c (fun z => ?_) (fun z => nm_r (nI_1 i) (ih (i + 1) (by omega) m (by omega) x1 T B ?_))⟩
    · have nx : ∀ t b, mc_MI n g (i + 1) t b → ∀ x2, x2 = nI i + 1 → wX_findMean_95 post m 1 x2 (nI n) (lI t) (lI b) th we ti W D C Rc := fun t b mi x2 h2 => by
        rw [h2, nI_1]
        exact ih (i + 1) (by omega) m (by omega) 1 _ _ (Or.inr ⟨rfl, t, b, rfl, rfl, mi⟩)
      rcases I with ⟨rfl, hno⟩ | ⟨rfl, t, b, rfl, rfl, ht, hb, o1, o2⟩
      · refine mc_offer (t := 0) (b := 0) ⟨hn1, hn⟩ (by omega) hw (hk.1 i (by omega)) hk.2.2.2.2 z (Or.inl rfl) (fun bt bb om bd1 bd2 => ⟨fun _ => nx bt bb ⟨bd1, bd2, fun v hv hf => ?_, ?_⟩, fun h => absurd h (by decide)⟩)
        · by_cases ev : v = i
          · subst ev
            obtain ⟨k0, hk0, hkn, gk, e1, e2, hall⟩ := om
            refine ⟨k0, hkn, gk, ?_⟩
            rw [← e1, ← e2]
            exact Int.le_refl _
          · exact absurd hf (hno v (by omega))
        · obtain ⟨k0, hk0, hkn, gk, e1, e2, hall⟩ := om
          exact ⟨i, by omega, z, fun k hk gk => hall k hk gk⟩
      · refine mc_offer (t := t) (b := b) ⟨hn1, hn⟩ (by omega) hw (hk.1 i (by omega)) hk.2.2.2.2 z (Or.inr ⟨rfl, rfl, rfl, ht, hb⟩) (fun bt bb om bd1 bd2 => ⟨fun hh => nx bt bb ⟨bd1, bd2, fun v hv hf => ?_, ?_⟩, fun _ hh => nx t b ⟨ht, hb, fun v hv hf => ?_, o2⟩⟩)
        · have hlt : bt * b < t * bb := by
            rcases hh with h | h
            · exact absurd h (by decide)
            · exact h
          by_cases ev : v = i
          · subst ev
            obtain ⟨k0, hk0, hkn, gk, e1, e2, hall⟩ := om
            refine ⟨k0, hkn, gk, ?_⟩
            rw [← e1, ← e2]
            exact Int.le_refl _
          · obtain ⟨k0, hk0, gk, o⟩ := o1 v (by omega) hf
            exact ⟨k0, hk0, gk, mc_frac hb.1 (by omega) (by omega) (by omega) o⟩
        · obtain ⟨k0, hk0, hkn, gk, e1, e2, hall⟩ := om
          exact ⟨i, by omega, z, fun k hk gk => hall k hk gk⟩
        · by_cases ev : v = i
          · subst ev
            obtain ⟨k0, hk0, hkn, gk, e1, e2, hall⟩ := om
            refine ⟨k0, hkn, gk, ?_⟩
            rw [← e1, ← e2]
            omega
          · exact o1 v (by omega) hf
    · rcases I with ⟨h1, hno⟩ | ⟨h1, t, b, hT, hB, ht, hb, o1, o2⟩
      · refine Or.inl ⟨h1, fun v hv => ?_⟩
        by_cases ev : v = i
        · subst ev; exact z
        · exact hno v (by omega)
      · refine Or.inr ⟨h1, t, b, hT, hB, ht, hb, fun v hv hf => ?_, o2⟩
        by_cases ev : v = i
        · subst ev; exact absurd hf z
        · exact o1 v (by omega) hf
theorem mc_mean {post : Int32 → SX → Prop} {n : Nat} {T B : Int64} {th we ti : Nat → Int32} {W D : Nat → Int64} {C Rc : Nat → Int32} (G : mc_G n th we ti)
    (H0 : (∀ K f, ¬ mc_Cy n (mc_E th) K f) → ∀ T B W, post 0 (nI n, T, B, th, we, ti, W, D, C, Rc))
    (H1 : ∀ t b W, mc_Opt n th we ti 0 t b → post 1 (nI n, lI t, lI b, th, we, ti, W, D, C, Rc)) :
    wpX_findMean post (nI n, T, B, th, we, ti, W, D, C, Rc) :=
  ⟨43, mc_mean2 G (fun W g hw hk => ⟨n + 1, mc_mean95 G hw hk H0 H1 n 0 (by omega) (n + 1) (by omega) 0 T B (Or.inl ⟨rfl, fun v hv => absurd hv (Nat.not_lt_zero _)⟩)⟩) 42 0 rfl 43 (by omega) W (fun i hi => absurd hi (Nat.not_lt_zero _))⟩
end
section
/-! ===== X: closeReach, onTightCircle, isTight, findTight, closes, onCircle ===== -/
theorem mc_Pt_b {E : Nat → Nat → Prop} {n u v : Nat} (hE : ∀ u v, E u v → u < n ∧ v < n) (h : mc_Pt E u v) : u < n ∧ v < n := by
  obtain ⟨k, hk, p, p0, pk, pe⟩ := h
  have a := hE _ _ (pe 0 hk)
  have b := hE _ _ (pe (k - 1) (by omega))
  have e : k - 1 + 1 = k := by omega
  rw [e, pk] at b
  rw [p0] at a
  exact ⟨a.1, b.2⟩
def mc_CI (E : Nat → Nat → Prop) (m : Nat) (Rc : Nat → Int32) : Prop :=
  (∀ u v, u < 6 → v < 32 → bt (Rc u) v = true → mc_Pt E u v) ∧ (∀ u v, E u v → bt (Rc u) v = true) ∧
  (∀ k u v, k < m → u < 6 → v < 32 → bt (Rc u) k = true → bt (Rc k) v = true → bt (Rc u) v = true)
theorem mc_CI_s {E : Nat → Nat → Prop} {m : Nat} {S Rc : Nat → Int32} (hE : ∀ u v, E u v → u < 6 ∧ v < 6) (hm : m < 6) (h : mc_CI E m S)
    (e : ∀ u v, u < 6 → v < 32 → (bt (Rc u) v = true ↔ bt (S u) v = true ∨ (bt (S u) m = true ∧ bt (S m) v = true))) : mc_CI E (m + 1) Rc := by
  obtain ⟨h1, h2, h3⟩ := h
  refine ⟨fun u v hu hv hb => ?_, fun u v he => ?_, fun k u v hk hu hv => ?_⟩
  · rcases (e u v hu hv).mp hb with g | ⟨g1, g2⟩
    · exact h1 u v hu hv g
    · exact mc_Pt_t (h1 u m hu (by omega) g1) (h1 m v hm hv g2)
  · have b := hE u v he
    exact (e u v b.1 (by omega)).mpr (Or.inl (h2 u v he))
  · rw [e u k hu (by omega), e k v (by omega) hv, e u v hu hv]
    by_cases z : k = m
    · subst z
      rintro (a | ⟨a1, a2⟩) (b | ⟨b1, b2⟩)
      · exact Or.inr ⟨a, b⟩
      · exact Or.inr ⟨a, b2⟩
      · exact Or.inr ⟨a1, b⟩
      · exact Or.inr ⟨a1, b2⟩
    · have hk' : k < m := by omega
      rintro (a | ⟨a1, a2⟩) (b | ⟨b1, b2⟩)
      · exact Or.inl (h3 k u v hk' hu hv a b)
      · exact Or.inr ⟨h3 k u m hk' hu (by omega) a b1, b2⟩
      · exact Or.inr ⟨a1, h3 k m v hk' hm hv a2 b⟩
      · exact Or.inr ⟨a1, b2⟩
theorem mc_close10 {post : SX → Prop} {J : Int32 → (Nat → Int32) → (Nat → Int32) → (Nat → Int32) → (Nat → Int64) → (Nat → Int64) → (Nat → Int32) → (Nat → Int32) → Prop}
    {N : Int32} {T B : Int64} {th we ti : Nat → Int32} {W D : Nat → Int64} {C S : Nat → Int32} {mid : Nat} (hmid : mid < 6)
    (hJ : ∀ Rc, (∀ u v, u < 6 → v < 32 → (bt (Rc u) v = true ↔ bt (S u) v = true ∨ (bt (S u) mid = true ∧ bt (S mid) v = true))) → J (nI (mid + 1)) th we ti W D C Rc) :
    ∀ k j, j + k = 6 → ∀ m, k < m → ∀ Rc : Nat → Int32, (∀ u v, u < j → v < 32 → (bt (Rc u) v = true ↔ bt (S u) v = true ∨ (bt (S u) mid = true ∧ bt (S mid) v = true))) → (∀ u, j ≤ u → Rc u = S u) →
      wX_closeReach_10 post J (nI mid) N T B m (nI j) th we ti W D C Rc := by
  intro k
  induction k with
  | zero =>
    intro j hj m hm Rc h1 h2
    obtain ⟨m, rfl⟩ : ∃ m', m = m' + 1 := ⟨m - 1, by omega⟩
    have e : j = 6 := by omega
    subst e
    exact br_t (nI_le (a := 6) (b := 6) (Nat.le_refl _) (by decide)) (nm_r (nI_1 mid) (hJ Rc h1))
  | succ k ih =>
    intro j hj m hm Rc h1 h2
    obtain ⟨m, rfl⟩ : ∃ m', m = m' + 1 := ⟨m - 1, by omega⟩
    have hi : vp_in (nI j) 6 := vp_in_nI (by omega) (by omega)
    refine br_f (nI_ge (b := 6) (by omega) (by decide)) ⟨hi, ?_⟩
    rw [nI_clamp (n := j) (by omega), nI_clamp (n := mid) (by omega), mc_bit0 (Rc j) (m := mid) (by omega)]
    have row : ∀ v, v < 32 → (bt (Rc mid) v = true ↔ bt (S mid) v = true) := by
      intro v hv
      by_cases z : mid < j
      · rw [h1 mid v z hv]
        exact ⟨fun h => by rcases h with h | h; exact h; exact h.2, fun h => Or.inl h⟩
      · rw [h2 mid (by omega)]
    have ej := h2 j (Nat.le_refl _)
    refine br_c (fun z => nm_r (nI_1 j) (ih (j + 1) (by omega) m (by omega) Rc (fun u v hu hv => ?_) (fun u hu => h2 u (by omega)))) (fun z => ⟨hi, vp_in_nI hmid (by omega), hi, fun Rc' hR => nm_r (nI_1 j) (ih (j + 1) (by omega) m (by omega) Rc' (fun u v hu hv => ?_) (fun u hu => ?_))⟩)
    · by_cases w : u = j
      · subst w
        rw [ej]
        rw [ej] at z
        exact ⟨fun h => Or.inl h, fun h => by rcases h with h | h; exact h; exact absurd h.1 z⟩
      · exact h1 u v (by omega) hv
    · subst hR
      by_cases w : u = j
      · subst w
        rw [pk_us, b_or, Bool.or_eq_true, row v hv, ej]
        rw [ej] at z
        have z' : bt (S u) mid = true := by
          cases hb : bt (S u) mid
          · exact absurd (by rw [hb]; decide) z
          · rfl
        exact ⟨fun h => by rcases h with h | h; exact Or.inl h; exact Or.inr ⟨z', h⟩, fun h => by rcases h with h | h; exact Or.inl h; exact Or.inr h.2⟩
      · rw [pk_un w]; exact h1 u v (by omega) hv
    · subst hR
      rw [pk_un (by omega)]; exact h2 u (by omega)
theorem mc_close2 {post : SX → Prop} {E : Nat → Nat → Prop} {N : Int32} {T B : Int64} {th we ti : Nat → Int32} {W D : Nat → Int64} {C : Nat → Int32} (hE : ∀ u v, E u v → u < 6 ∧ v < 6)
    (H : ∀ Rc : Nat → Int32, (∀ u v, u < 6 → v < 32 → (bt (Rc u) v = true ↔ mc_Pt E u v)) → post (N, T, B, th, we, ti, W, D, C, Rc)) :
    ∀ k j, j + k = 6 → ∀ m, k < m → ∀ Rc, mc_CI E j Rc → wX_closeReach_2 post N T B m (nI j) th we ti W D C Rc := by
  intro k
  induction k with
  | zero =>
    intro j hj m hm Rc ci
    obtain ⟨m, rfl⟩ : ∃ m', m = m' + 1 := ⟨m - 1, by omega⟩
    have e : j = 6 := by omega
    subst e
    refine br_t (nI_le (a := 6) (b := 6) (Nat.le_refl _) (by decide)) (H Rc (fun u v hu hv => ⟨ci.1 u v hu hv, fun hp => ?_⟩))
    refine mc_Pt_ind (E := E) (T := fun x y => x < 6 → bt (Rc x) y = true) (fun x y e _ => ci.2.1 x y e) (fun x y w hxy hyw hx => ?_) hp hu
    have b := hE y w hyw
    exact ci.2.2 y x w b.1 hx (by omega) (hxy hx) (ci.2.1 y w hyw)
  | succ k ih =>
    intro j hj m hm Rc ci
    obtain ⟨m, rfl⟩ : ∃ m', m = m' + 1 := ⟨m - 1, by omega⟩
    refine br_f (nI_ge (b := 6) (by omega) (by decide)) ⟨7, mc_close10 (S := Rc) (by omega) (fun Rc' e => ?_) 6 0 rfl 7 (by omega) Rc (fun u v hu => absurd hu (Nat.not_lt_zero _)) (fun u _ => rfl)⟩
    exact ih (j + 1) (by omega) m (by omega) Rc' (mc_CI_s hE (by omega) ci e)
theorem mc_close {post : SX → Prop} {E : Nat → Nat → Prop} {N : Int32} {T B : Int64} {th we ti : Nat → Int32} {W D : Nat → Int64} {C Rc : Nat → Int32} (hE : ∀ u v, E u v → u < 6 ∧ v < 6)
    (h : ∀ u v, u < 6 → v < 32 → (bt (Rc u) v = true ↔ E u v))
    (H : ∀ Rc : Nat → Int32, (∀ u v, u < 6 → v < 32 → (bt (Rc u) v = true ↔ mc_Pt E u v)) → post (N, T, B, th, we, ti, W, D, C, Rc)) :
    wpX_closeReach post (N, T, B, th, we, ti, W, D, C, Rc) :=
  ⟨7, mc_close2 hE H 6 0 rfl 7 (by omega) Rc ⟨fun u v hu hv hb => mc_Pt_1 ((h u v hu hv).mp hb), fun u v he => (h u v (hE u v he).1 (by have := hE u v he; omega)).mpr he, fun k u v hk => absurd hk (Nat.not_lt_zero _)⟩⟩
theorem mc_onT4 {post : Int32 → Prop} {n : Nat} {T B : Int64} {th we ti : Nat → Int32} {W D : Nat → Int64} {C Rc : Nat → Int32} (hn : n ≤ 6)
    (H : ∀ r, (∀ i, i < 32 → (bt r i = true ↔ i < n ∧ bt (Rc i) i = true)) → post r) :
    ∀ k j, j + k = n → ∀ m, k < m → ∀ r, (∀ i, i < 32 → (bt r i = true ↔ i < j ∧ bt (Rc i) i = true)) → wX_onTightCircle_4 post (nI n) T B th we ti W D C Rc m r (nI j) := by
  intro k
  induction k with
  | zero =>
    intro j hj m hm r h
    obtain ⟨m, rfl⟩ : ∃ m', m = m' + 1 := ⟨m - 1, by omega⟩
    have e : j = n := by omega
    subst e
    exact br_t (nI_le (Nat.le_refl _) (by omega)) (H r h)
  | succ k ih =>
    intro j hj m hm r h
    obtain ⟨m, rfl⟩ : ∃ m', m = m' + 1 := ⟨m - 1, by omega⟩
    refine br_f (nI_ge (by omega) (by omega)) ⟨vp_in_nI (by omega) (by omega), ?_⟩
    rw [nI_clamp (n := j) (by omega), mc_bit0 (Rc j) (m := j) (by omega)]
    refine br_c (fun z => nm_r (nI_1 j) (ih (j + 1) (by omega) m (by omega) r (fun i hi => ?_))) (fun z => nm_e (nm_r (nI_1 j) (ih (j + 1) (by omega) m (by omega) _ (fun i hi => ?_))))
    · rw [h i hi]
      by_cases w : i = j
      · subst w
        exact ⟨fun g => absurd g.1 (Nat.lt_irrefl _), fun g => absurd g.2 z⟩
      · exact ⟨fun g => ⟨by omega, g.2⟩, fun g => ⟨by omega, g.2⟩⟩
    · rw [mc_set r (by omega) hi, h i hi]
      have z' : bt (Rc j) j = true := by
        cases hb : bt (Rc j) j
        · exact absurd (by rw [hb]; decide) z
        · rfl
      by_cases w : i = j
      · subst w
        exact ⟨fun _ => ⟨by omega, z'⟩, fun _ => Or.inr rfl⟩
      · exact ⟨fun g => by rcases g with g | g; exact ⟨by omega, g.2⟩; exact absurd g w, fun g => Or.inl ⟨by omega, g.2⟩⟩
theorem mc_onT {post : Int32 → Prop} {n : Nat} {T B : Int64} {th we ti : Nat → Int32} {W D : Nat → Int64} {C Rc : Nat → Int32} (hn : n ≤ 6)
    (H : ∀ r, (∀ i, i < 32 → (bt r i = true ↔ i < n ∧ bt (Rc i) i = true)) → post r) : wpX_onTightCircle post (nI n, T, B, th, we, ti, W, D, C, Rc) :=
  ⟨n + 1, mc_onT4 hn H n 0 (by omega) (n + 1) (by omega) 0 (fun i _ => ⟨fun h => absurd h (by rw [b_0]; decide), fun h => absurd h.1 (Nat.not_lt_zero _)⟩)⟩
/-- the distances by their numbers -/
def mc_DG (D : Nat → Int64) (d : Nat → Int) : Prop := (∀ j, j < 6 → D j = lI (d j)) ∧ ∀ j, d j ≤ 0 ∧ -10000000 ≤ d j
theorem mc_isT {post : Int32 → Prop} {N : Int32} {n : Nat} {t b : Int} {th we ti : Nat → Int32} {W D : Nat → Int64} {C Rc : Nat → Int32} {d : Nat → Int} {by' : Int32} (G : mc_G n th we ti) (ht : -1000 ≤ t ∧ t ≤ 1000) (hb : 0 ≤ b ∧ b ≤ 100)
    (hD : mc_DG D d) {u v : Nat} (hu : u < 6) (hv : v < 6) (H1 : mc_Ti (mc_E th) (mc_c by' we ti t b) d u v → post 1) (H0 : ¬ mc_Ti (mc_E th) (mc_c by' we ti t b) d u v → post 0) :
    wpX_isTight post (N, lI t, lI b, th, we, ti, W, D, C, Rc) (nI u) (nI v) by' := by
  have i0 : (6 * u + v) / 6 = u := by omega
  have i1 : (6 * u + v) % 6 = v := by omega
  refine nm_r (mc_ix u v) ?_
  rw [nI_clamp (n := 6 * u + v) (by omega)]
  refine ⟨vp_in_nI (by omega) (by omega), br_c (fun z => H0 (fun h => h.1.2.2 z)) (fun z => ⟨vp_in_nI hu (by omega), mc_x_rw (by omega) by' ?_⟩)⟩
  rw [i0, i1, nI_clamp (n := u) (by omega), nI_clamp (n := v) (by omega), hD.1 u hu, hD.1 v hv]
  intro x5 h5
  subst h5
  have hE : mc_E th u v := ⟨hu, hv, z⟩
  have cb := mc_cb G by' ht hb hE
  have d1 := hD.2 u
  have d2 := hD.2 v
  rw [lI_add, lI_eq ⟨by omega, by omega⟩ ⟨by omega, by omega⟩]
  exact ⟨vp_in_nI hv (by omega), br_c (fun y => H1 ⟨hE, y⟩) (fun y => H0 (fun h => y h.2))⟩
/-- a point that relax answers: a circle below 0 -/
theorem mc_negc {n : Nat} {th we ti : Nat → Int32} {C : Nat → Int32} (G : mc_G n th we ti) {c : Nat → Nat → Int} {v : Nat} {q L : Nat → Nat}
    (hv : L v = n + 1) (hq : ∀ x, 1 ≤ L x → C x = nI (q x) ∧ mc_E th (q x) x ∧ L x ≤ L (q x) + 1) (hc : mc_NC c q L) : ∃ K f, mc_Cy n (mc_E th) K f ∧ mc_S c K f < 0 := by
  obtain ⟨hall, K, hK0, hKn, hKe, hKm⟩ := mc_chain (mc_En G) (fun x h => (hq x h).2) hv
  have hall2 : ∀ i, 1 ≤ L (mc_it q i (mc_it q n v)) := fun i => by rw [← mc_it_add]; exact hall _
  obtain ⟨cr, sums⟩ := mc_par (n := n) (E := mc_E th) hK0 hKe hKm (fun i _ => ⟨(mc_En G _ _ (hq _ (hall2 i)).2.1).2, (hq _ (hall2 i)).2.1⟩)
  obtain ⟨f, cy, sf, _⟩ := mc_rot cr
  have neg := hc _ K hK0 (fun i _ => hall2 i) hKe
  rw [← sums c, ← sf c] at neg
  exact ⟨K, f, cy, neg⟩
theorem mc_row {R E : Nat → Prop} {i : Nat} (h : ∀ v, v < 32 → (R v ↔ E v ∧ v < i)) {R' : Nat → Prop} (hn : (¬ E i ∧ ∀ v, v < 32 → (R' v ↔ R v)) ∨ (E i ∧ ∀ v, v < 32 → (R' v ↔ (R v ∨ v = i)))) :
    ∀ v, v < 32 → (R' v ↔ E v ∧ v < i + 1) := by
  intro v hv
  rcases hn with ⟨he, hr⟩ | ⟨he, hr⟩
  · rw [hr v hv, h v hv]
    by_cases z : v = i
    · subst z
      exact ⟨fun g => absurd g.1 he, fun g => absurd g.1 he⟩
    · exact ⟨fun g => ⟨g.1, by omega⟩, fun g => ⟨g.1, by omega⟩⟩
  · rw [hr v hv, h v hv]
    by_cases z : v = i
    · subst z
      exact ⟨fun _ => ⟨he, by omega⟩, fun _ => Or.inr rfl⟩
    · exact ⟨fun g => by rcases g with g | g; exact ⟨g.1, by omega⟩; exact absurd g z, fun g => Or.inl ⟨g.1, by omega⟩⟩
theorem mc_tight23 {post : SX → Prop} {J : Int32 → (Nat → Int32) → (Nat → Int32) → (Nat → Int32) → (Nat → Int64) → (Nat → Int64) → (Nat → Int32) → (Nat → Int32) → Prop}
    {N : Int32} {n : Nat} {t b : Int} {th we ti : Nat → Int32} {W D : Nat → Int64} {C : Nat → Int32} {d : Nat → Int} {by' : Int32} (G : mc_G n th we ti) (ht : -1000 ≤ t ∧ t ≤ 1000) (hb : 0 ≤ b ∧ b ≤ 100) (hD : mc_DG D d) {u : Nat} (hu : u < 6) {S : Nat → Int32}
    (hJ : ∀ Rc : Nat → Int32, (∀ x, x ≠ u → Rc x = S x) → (∀ v, v < 32 → (bt (Rc u) v = true ↔ mc_Ti (mc_E th) (mc_c by' we ti t b) d u v ∧ v < 6)) → J (nI (u + 1)) th we ti W D C Rc) :
    ∀ k i, i + k = 6 → ∀ m, k < m → ∀ Rc : Nat → Int32, (∀ x, x ≠ u → Rc x = S x) → (∀ v, v < 32 → (bt (Rc u) v = true ↔ mc_Ti (mc_E th) (mc_c by' we ti t b) d u v ∧ v < i)) →
      wX_findTight_23 post J by' (nI u) N (lI t) (lI b) m (nI i) th we ti W D C Rc := by
  intro k
  induction k with
  | zero =>
    intro i hi m hm Rc h1 h2
    obtain ⟨m, rfl⟩ : ∃ m', m = m' + 1 := ⟨m - 1, by omega⟩
    have e : i = 6 := by omega
    subst e
    exact br_t (nI_le (a := 6) (b := 6) (Nat.le_refl _) (by decide)) (nm_r (nI_1 u) (hJ Rc h1 h2))
  | succ k ih =>
    intro i hi m hm Rc h1 h2
    obtain ⟨m, rfl⟩ : ∃ m', m = m' + 1 := ⟨m - 1, by omega⟩
    have hin : vp_in (nI u) 6 := vp_in_nI hu (by omega)
    refine br_f (nI_ge (b := 6) (by omega) (by decide)) (mc_isT G ht hb hD hu (by omega) (fun z => br_f (by decide) ⟨hin, hin, fun Rc' hR => nm_r (nI_1 i) (ih (i + 1) (by omega) m (by omega) Rc' (fun x hx => ?_) (mc_row h2 (Or.inr ⟨z, fun v hv => ?_⟩)))⟩) (fun z => br_t rfl (nm_r (nI_1 i) (ih (i + 1) (by omega) m (by omega) Rc h1 (mc_row h2 (Or.inl ⟨z, fun v _ => Iff.rfl⟩))))))
    · rw [nI_clamp (n := u) (by omega)] at hR
      rw [hR, pk_un hx]; exact h1 x hx
    · rw [nI_clamp (n := u) (by omega)] at hR
      rw [hR, pk_us]
      exact mc_set (Rc u) (by omega) hv
theorem mc_tight8 {post : SX → Prop} {N : Int32} {n : Nat} {t b : Int} {th we ti : Nat → Int32} {W D : Nat → Int64} {C : Nat → Int32} {d : Nat → Int} {by' : Int32} (G : mc_G n th we ti) (ht : -1000 ≤ t ∧ t ≤ 1000) (hb : 0 ≤ b ∧ b ≤ 100) (hD : mc_DG D d)
    (H : ∀ Rc : Nat → Int32, (∀ u v, u < 6 → v < 32 → (bt (Rc u) v = true ↔ mc_Pt (mc_Ti (mc_E th) (mc_c by' we ti t b) d) u v)) → post (N, lI t, lI b, th, we, ti, W, D, C, Rc)) :
    ∀ k u, u + k = 6 → ∀ m, k < m → ∀ Rc : Nat → Int32, (∀ x v, x < u → v < 32 → (bt (Rc x) v = true ↔ mc_Ti (mc_E th) (mc_c by' we ti t b) d x v)) →
      wX_findTight_8 post by' N (lI t) (lI b) m (nI u) th we ti W D C Rc := by
  intro k
  induction k with
  | zero =>
    intro u hu m hm Rc h
    obtain ⟨m, rfl⟩ : ∃ m', m = m' + 1 := ⟨m - 1, by omega⟩
    have e : u = 6 := by omega
    subst e
    exact br_t (nI_le (a := 6) (b := 6) (Nat.le_refl _) (by decide)) (mc_close (fun u v he => mc_E6 u v he.1) h (fun Rc' h' => H Rc' h'))
  | succ k ih =>
    intro u hu m hm Rc h
    obtain ⟨m, rfl⟩ : ∃ m', m = m' + 1 := ⟨m - 1, by omega⟩
    refine br_f (nI_ge (b := 6) (by omega) (by decide)) ⟨vp_in_nI (by omega) (by omega), fun Rc0 hR => ⟨7, mc_tight23 (S := Rc0) G ht hb hD (by omega) (fun Rc' g1 g2 => ?_) 6 0 rfl 7 (by omega) Rc0 (fun x _ => rfl) (fun v hv => ?_)⟩⟩
    · rw [nI_clamp (n := u) (by omega)] at hR
      refine ih (u + 1) (by omega) m (by omega) Rc' (fun x v hx hv => ?_)
      by_cases z : x = u
      · subst z
        rw [g2 v hv]
        exact ⟨fun g => g.1, fun g => ⟨g, (mc_E6 _ _ g.1).2⟩⟩
      · rw [g1 x z, hR, pk_un z]
        exact h x v (by omega) hv
    · rw [nI_clamp (n := u) (by omega)] at hR
      rw [hR, pk_us, b_0]
      exact ⟨fun g => absurd g (by decide), fun g => absurd g.2 (Nat.not_lt_zero _)⟩
theorem mc_tight {post : SX → Prop} {n : Nat} {t b : Int} {th we ti : Nat → Int32} {W D : Nat → Int64} {C Rc : Nat → Int32} {by' : Int32} (G : mc_G n th we ti) (ht : -1000 ≤ t ∧ t ≤ 1000) (hb : 0 ≤ b ∧ b ≤ 100)
    (hp : ∃ d, mc_Pot (mc_E th) (mc_c by' we ti t b) d)
    (H : ∀ D C Rc d, mc_DG D d → mc_Pot (mc_E th) (mc_c by' we ti t b) d → (∀ u v, u < 6 → v < 32 → (bt (Rc u) v = true ↔ mc_Pt (mc_Ti (mc_E th) (mc_c by' we ti t b) d) u v)) → post (nI n, lI t, lI b, th, we, ti, W, D, C, Rc)) :
    wpX_findTight post (nI n, lI t, lI b, th, we, ti, W, D, C, Rc) by' := by
  refine mc_relax G ht hb (fun x2 D C ro => ?_)
  dsimp only
  rcases ro with ⟨_, d, hD, hd, hpot⟩ | ⟨v, hv, _, q, L, hL, hq, hc⟩
  · exact ⟨7, mc_tight8 G ht hb ⟨hD, hd⟩ (fun Rc' h => H D C Rc' d ⟨hD, hd⟩ hpot h) 6 0 rfl 7 (by omega) Rc (fun x v hx => absurd hx (Nat.not_lt_zero _))⟩
  · exfalso
    obtain ⟨d, hd⟩ := hp
    obtain ⟨K, f, cy, neg⟩ := mc_negc G hL hq hc
    have := mc_pot_nn hd cy.1
    omega
theorem mc_closes {post : Int32 → Prop} {N : Int32} {T B : Int64} {th we ti : Nat → Int32} {W D : Nat → Int64} {C Rc : Nat → Int32} {u v : Nat} (hu : u < 6) (hv : v < 6)
    (H1 : u = v ∨ bt (Rc v) u = true → post 1) (H0 : ¬ (u = v ∨ bt (Rc v) u = true) → post 0) : wpX_closes post (N, T, B, th, we, ti, W, D, C, Rc) (nI u) (nI v) := by
  unfold wpX_closes
  dsimp only
  rw [nI_clamp (n := v) (by omega), mc_bit0 (Rc v) (m := u) (by omega), nI_eq (by omega) (by omega)]
  refine br_c (fun z => H1 (Or.inl z)) (fun z => ⟨vp_in_nI hv (by omega), br_c (fun y => H0 (fun h => ?_)) (fun y => H1 (Or.inr ?_))⟩)
  · rcases h with h | h
    · exact z h
    · exact y h
  · cases hb : bt (Rc v) u
    · exact absurd (by rw [hb]; decide) y
    · rfl
theorem mc_onC17 {post : Int32 → SX → Prop} {J : Int32 → (Nat → Int32) → (Nat → Int32) → (Nat → Int32) → (Nat → Int64) → (Nat → Int64) → (Nat → Int32) → (Nat → Int32) → Prop}
    {N : Int32} {T B : Int64} {th we ti : Nat → Int32} {W D : Nat → Int64} {C : Nat → Int32} {u : Nat} (hu : u < 6) {S : Nat → Int32}
    (hJ : ∀ Rc : Nat → Int32, (∀ x, x ≠ u → Rc x = S x) → (∀ v, v < 32 → (bt (Rc u) v = true ↔ ¬ th (6 * u + v) = 0 ∧ v < 6)) → J (nI (u + 1)) th we ti W D C Rc) :
    ∀ k i, i + k = 6 → ∀ m, k < m → ∀ Rc : Nat → Int32, (∀ x, x ≠ u → Rc x = S x) → (∀ v, v < 32 → (bt (Rc u) v = true ↔ ¬ th (6 * u + v) = 0 ∧ v < i)) →
      wX_onCircle_17 post J (nI u) N T B m (nI i) th we ti W D C Rc := by
  intro k
  induction k with
  | zero =>
    intro i hi m hm Rc h1 h2
    obtain ⟨m, rfl⟩ : ∃ m', m = m' + 1 := ⟨m - 1, by omega⟩
    have e : i = 6 := by omega
    subst e
    exact br_t (nI_le (a := 6) (b := 6) (Nat.le_refl _) (by decide)) (nm_r (nI_1 u) (hJ Rc h1 h2))
  | succ k ih =>
    intro i hi m hm Rc h1 h2
    obtain ⟨m, rfl⟩ : ∃ m', m = m' + 1 := ⟨m - 1, by omega⟩
    have hin : vp_in (nI u) 6 := vp_in_nI hu (by omega)
    refine br_f (nI_ge (b := 6) (by omega) (by decide)) ?_
    rw [mc_ix, nI_clamp (n := 6 * u + i) (by omega)]
    refine ⟨vp_in_nI (by omega) (by omega), br_c (fun z => nm_r (nI_1 i) (ih (i + 1) (by omega) m (by omega) Rc h1 (mc_row h2 (Or.inl ⟨fun h => h z, fun v _ => Iff.rfl⟩)))) (fun z => ⟨hin, hin, fun Rc' hR => nm_r (nI_1 i) (ih (i + 1) (by omega) m (by omega) Rc' (fun x hx => ?_) (mc_row h2 (Or.inr ⟨z, fun v hv => ?_⟩)))⟩)⟩
    · rw [nI_clamp (n := u) (by omega)] at hR
      rw [hR, pk_un hx]; exact h1 x hx
    · rw [nI_clamp (n := u) (by omega)] at hR
      rw [hR, pk_us]
      exact mc_set (Rc u) (by omega) hv
theorem mc_onC2 {post : Int32 → SX → Prop} {n : Nat} {T B : Int64} {th we ti : Nat → Int32} {W D : Nat → Int64} {C : Nat → Int32} (hn : n ≤ 6)
    (H : ∀ r Rc, (∀ i, i < 32 → (bt r i = true ↔ i < n ∧ mc_Pt (mc_E th) i i)) → post r (nI n, T, B, th, we, ti, W, D, C, Rc)) :
    ∀ k u, u + k = 6 → ∀ m, k < m → ∀ Rc : Nat → Int32, (∀ x v, x < u → v < 32 → (bt (Rc x) v = true ↔ mc_E th x v)) → wX_onCircle_2 post (nI n) T B m (nI u) th we ti W D C Rc := by
  intro k
  induction k with
  | zero =>
    intro u hu m hm Rc h
    obtain ⟨m, rfl⟩ : ∃ m', m = m' + 1 := ⟨m - 1, by omega⟩
    have e : u = 6 := by omega
    subst e
    refine br_t (nI_le (a := 6) (b := 6) (Nat.le_refl _) (by decide)) (mc_close mc_E6 h (fun Rc' h' => mc_onT hn (fun r hr => H r Rc' (fun i hi => ?_))))
    rw [hr i hi]
    exact ⟨fun g => ⟨g.1, (h' i i (by omega) hi).mp g.2⟩, fun g => ⟨g.1, (h' i i (by omega) hi).mpr g.2⟩⟩
  | succ k ih =>
    intro u hu m hm Rc h
    obtain ⟨m, rfl⟩ : ∃ m', m = m' + 1 := ⟨m - 1, by omega⟩
    refine br_f (nI_ge (b := 6) (by omega) (by decide)) ⟨vp_in_nI (by omega) (by omega), fun Rc0 hR => ⟨7, mc_onC17 (S := Rc0) (by omega) (fun Rc' g1 g2 => ?_) 6 0 rfl 7 (by omega) Rc0 (fun x _ => rfl) (fun v hv => ?_)⟩⟩
    · rw [nI_clamp (n := u) (by omega)] at hR
      refine ih (u + 1) (by omega) m (by omega) Rc' (fun x v hx hv => ?_)
      by_cases z : x = u
      · subst z
        rw [g2 v hv]
        exact ⟨fun g => ⟨by omega, g.2, g.1⟩, fun g => ⟨g.2.2, g.2.1⟩⟩
      · rw [g1 x z, hR, pk_un z]
        exact h x v (by omega) hv
    · rw [nI_clamp (n := u) (by omega)] at hR
      rw [hR, pk_us, b_0]
      exact ⟨fun g => absurd g (by decide), fun g => absurd g.2 (Nat.not_lt_zero _)⟩
theorem mc_xonC {post : Int32 → SX → Prop} {n : Nat} {T B : Int64} {th we ti : Nat → Int32} {W D : Nat → Int64} {C Rc : Nat → Int32} (hn : n ≤ 6)
    (H : ∀ r Rc, (∀ i, i < 32 → (bt r i = true ↔ i < n ∧ mc_Pt (mc_E th) i i)) → post r (nI n, T, B, th, we, ti, W, D, C, Rc)) : wpX_onCircle post (nI n, T, B, th, we, ti, W, D, C, Rc) :=
  ⟨7, mc_onC2 hn H 6 0 rfl 7 (by omega) Rc (fun x v hx => absurd hx (Nat.not_lt_zero _))⟩
end
section
/-! ===== Y: one step, and the counts ===== -/
section
variable {N dp by' fo to bo po mk bd un : Int32} {th we ti way nxt ma : Nat → Int32}
theorem mc_onway2 {post : Int32 → Prop} {d v : Nat} {f : Nat → Nat} (hd : d ≤ 6) (hw : ∀ i, i < d → way i = nI (f i) ∧ f i < 6) (hv : v < 6) (H1 : (∃ i, i < d ∧ f i = v) → post 1) (H0 : ¬ (∃ i, i < d ∧ f i = v) → post 0) :
    ∀ k i, i + k = d → ∀ m, k < m → (∀ x, x < i → f x ≠ v) → wY_isOnWay_2 post (nI v) N (nI d) by' fo to bo po mk bd un th we ti way nxt ma m (nI i) := by
  intro k
  induction k with
  | zero =>
    intro i hi m hm h
    obtain ⟨m, rfl⟩ : ∃ m', m = m' + 1 := ⟨m - 1, by omega⟩
    have e : i = d := by omega
    subst e
    exact br_t (nI_le (Nat.le_refl _) (by omega)) (H0 (fun ⟨x, hx, ex⟩ => h x hx ex))
  | succ k ih =>
    intro i hi m hm h
    obtain ⟨m, rfl⟩ : ∃ m', m = m' + 1 := ⟨m - 1, by omega⟩
    have w := hw i (by omega)
    refine br_f (nI_ge (by omega) (by omega)) ⟨vp_in_nI (by omega) (by omega), ?_⟩
    rw [nI_clamp (n := i) (by omega), w.1, nI_eq (by omega) (by omega)]
    refine br_c (fun z => H1 ⟨i, by omega, z⟩) (fun z => nm_r (nI_1 i) (ih (i + 1) (by omega) m (by omega) (fun x hx => ?_)))
    by_cases e : x = i
    · subst e; exact z
    · exact h x (by omega)
theorem mc_onway {post : Int32 → Prop} {d v : Nat} {f : Nat → Nat} (hd : d ≤ 6) (hw : ∀ i, i < d → way i = nI (f i) ∧ f i < 6) (hv : v < 6) (H1 : (∃ i, i < d ∧ f i = v) → post 1) (H0 : ¬ (∃ i, i < d ∧ f i = v) → post 0) :
    wpY_isOnWay post (N, nI d, by', fo, to, bo, po, mk, bd, un, th, we, ti, way, nxt, ma) (nI v) :=
  ⟨d + 1, mc_onway2 hd hw hv H1 H0 d 0 (by omega) (d + 1) (by omega) (fun x hx => absurd hx (Nat.not_lt_zero _))⟩
theorem mc_go {post : SY → Prop} {n e j : Nat} {f : Nat → Nat} (hn : n ≤ 6) (he : e < n) (hw : ∀ i, i < e + 1 → way i = nI (f i) ∧ f i < n) (hj : nxt e = nI j) (hjn : j ≤ n)
    (h1 : n ≤ j → post (nI n, nI e, by', fo, to, bo, po, mk, bd, un, th, we, ti, way, upd nxt e (nI (j + 1)), ma))
    (h2 : j < n → (¬ mc_E th (f e) j ∨ (j ≠ f 0 ∧ (j < f 0 ∨ ∃ i, i < e + 1 ∧ f i = j))) → post (nI n, nI (e + 1), by', fo, to, bo, po, mk, bd, un, th, we, ti, way, upd nxt e (nI (j + 1)), ma))
    (h3 : j < n → mc_E th (f e) j → j = f 0 → wpY_look post (nI n, nI (e + 1), by', fo, to, bo, po, mk, bd, un, th, we, ti, way, upd nxt e (nI (j + 1)), ma))
    (h4 : j < n → mc_E th (f e) j → f 0 < j → (¬ ∃ i, i < e + 1 ∧ f i = j) → post (nI n, nI (e + 2), by', fo, to, bo, po, mk, bd, un, th, we, ti, upd way (e + 1) (nI j), upd (upd nxt e (nI (j + 1))) (e + 1) 0, ma)) :
    wpY_go post (nI n, nI (e + 1), by', fo, to, bo, po, mk, bd, un, th, we, ti, way, nxt, ma) := by
  have hin : vp_in (nI e) 7 := vp_in_nI (by omega) (by omega)
  have w0 := hw 0 (by omega)
  have we' := hw e (by omega)
  unfold wpY_go
  dsimp only
  rw [nI_pred, nI_clamp (n := e) (by omega), nI_clamp (n := e + 1) (by omega), hj, nI_1, nI_1, we'.1, w0.1]
  refine ⟨hin, fun x1 e1 => ⟨hin, fun x2 e2 => ⟨hin, hin, fun a7 e7 => ?_⟩⟩⟩
  subst e1 e2 e7
  rw [mc_ix, nI_clamp (n := 6 * f e + j) (by omega)]
  refine pk_lt j n (fun z => ⟨vp_in_nI (by omega) (by omega), br_c (fun y => h2 z (Or.inl (fun h => h.2.2 y))) (fun y => ?_)⟩) (fun z => nm_e (h1 z))
  have hE : mc_E th (f e) j := ⟨by omega, by omega, y⟩
  refine pk_eq j (f 0) (fun x => h3 z hE x) (fun x => pk_le j (f 0) (fun q => h2 z (Or.inr ⟨x, Or.inl (by omega)⟩)) (fun q => ?_))
  refine mc_onway (d := e + 1) (f := f) (by omega) (fun i hi => ⟨(hw i hi).1, by have := (hw i hi).2; omega⟩) (by omega) (fun g => br_f (by decide) (h2 z (Or.inr ⟨x, Or.inr g⟩))) (fun g => br_t rfl ⟨vp_in_nI (by omega) (by omega), fun a3 e3 => ⟨vp_in_nI (by omega) (by omega), fun a4 e4 => nm_e ?_⟩⟩)
  subst e3 e4
  exact h4 z hE q g
end
/-! counts -/
def mc_on (f : Nat → Nat) : Nat → Nat → Bool
  | 0, _ => false
  | d + 1, m => mc_on f d m || decide (f d = m)
theorem mc_on_iff (f : Nat → Nat) (m : Nat) : ∀ d, mc_on f d m = true ↔ ∃ i, i < d ∧ f i = m := by
  intro d
  induction d with
  | zero => exact ⟨fun h => absurd h (by show ¬ false = true; decide), fun ⟨i, hi, _⟩ => absurd hi (Nat.not_lt_zero _)⟩
  | succ d ih =>
    show (mc_on f d m || decide (f d = m)) = true ↔ _
    rw [Bool.or_eq_true, ih, decide_eq_true_eq]
    constructor
    · rintro (⟨i, hi, e⟩ | h)
      · exact ⟨i, by omega, e⟩
      · exact ⟨d, by omega, h⟩
    · rintro ⟨i, hi, e⟩
      by_cases z : i = d
      · subst z; exact Or.inr e
      · exact Or.inl ⟨i, by omega, e⟩
def mc_cn (f : Nat → Nat) (d j : Nat) : Nat → Nat
  | 0 => 0
  | m + 1 => mc_cn f d j m + (if j ≤ m ∧ mc_on f d m = false then 1 else 0)
theorem mc_cn_lt (f : Nat → Nat) (d j : Nat) : ∀ m, m ≤ j → mc_cn f d j m = 0 := by
  intro m
  induction m with
  | zero => intro _; rfl
  | succ m ih =>
    intro h
    show mc_cn f d j m + (if j ≤ m ∧ mc_on f d m = false then 1 else 0) = 0
    rw [ih (by omega), if_neg (fun g => by omega)]
theorem mc_cn_j (f : Nat → Nat) (d j : Nat) : ∀ m, j < m → mc_cn f d j m = (if mc_on f d j = false then 1 else 0) + mc_cn f d (j + 1) m := by
  intro m
  induction m with
  | zero => intro h; omega
  | succ m ih =>
    intro h
    show mc_cn f d j m + (if j ≤ m ∧ mc_on f d m = false then 1 else 0) = (if mc_on f d j = false then 1 else 0) + (mc_cn f d (j + 1) m + (if j + 1 ≤ m ∧ mc_on f d m = false then 1 else 0))
    by_cases z : j < m
    · rw [ih z]
      have e : (if j ≤ m ∧ mc_on f d m = false then 1 else 0) = (if j + 1 ≤ m ∧ mc_on f d m = false then 1 else 0) := by
        by_cases y : mc_on f d m = false
        · rw [if_pos ⟨by omega, y⟩, if_pos ⟨by omega, y⟩]
        · rw [if_neg (fun g => y g.2), if_neg (fun g => y g.2)]
      rw [e]; omega
    · have e : j = m := by omega
      subst e
      have e2 : (if j + 1 ≤ j ∧ mc_on f d j = false then 1 else 0) = 0 := if_neg (fun g => absurd g.1 (by omega))
      rw [mc_cn_lt f d j j (Nat.le_refl _), mc_cn_lt f d (j + 1) j (by omega), e2]
      by_cases y : mc_on f d j = false
      · rw [if_pos (show j ≤ j ∧ mc_on f d j = false from ⟨Nat.le_refl _, y⟩), if_pos y]
      · rw [if_neg (show ¬ (j ≤ j ∧ mc_on f d j = false) from fun g => y g.2), if_neg y]
theorem mc_cn_c {f g : Nat → Nat} {d j : Nat} (h : ∀ m, mc_on f d m = mc_on g d m) : ∀ m, mc_cn f d j m = mc_cn g d j m := by
  intro m
  induction m with
  | zero => rfl
  | succ m ih =>
    show mc_cn f d j m + (if j ≤ m ∧ mc_on f d m = false then 1 else 0) = mc_cn g d j m + (if j ≤ m ∧ mc_on g d m = false then 1 else 0)
    rw [ih, h m]
/-- one more on the way: one less free -/
theorem mc_cn_p {f g : Nat → Nat} {d v : Nat} (hg : ∀ i, i < d → g i = f i) (hv : g d = v) (hf : mc_on f d v = false) : ∀ m, mc_cn g (d + 1) 0 m + (if v < m then 1 else 0) = mc_cn f d 0 m := by
  have same : ∀ x, mc_on g d x = mc_on f d x := by
    intro x
    have h1 := mc_on_iff g x d
    have h2 := mc_on_iff f x d
    have h3 : mc_on g d x = true ↔ mc_on f d x = true := by
      rw [h1, h2]
      exact ⟨fun ⟨i, hi, e⟩ => ⟨i, hi, by rw [← hg i hi]; exact e⟩, fun ⟨i, hi, e⟩ => ⟨i, hi, by rw [hg i hi]; exact e⟩⟩
    cases a : mc_on g d x with
    | true => exact (h3.mp a).symm
    | false =>
      cases b : mc_on f d x with
      | true => rw [h3.mpr b] at a; exact absurd a (by decide)
      | false => rfl
  intro m
  induction m with
  | zero => show 0 + (if v < 0 then 1 else 0) = 0; rw [if_neg (by omega)]
  | succ m ih =>
    show mc_cn g (d + 1) 0 m + (if 0 ≤ m ∧ (mc_on g d m || decide (g d = m)) = false then 1 else 0) + (if v < m + 1 then 1 else 0) = mc_cn f d 0 m + (if 0 ≤ m ∧ mc_on f d m = false then 1 else 0)
    rw [← ih, same m, hv]
    by_cases z : v = m
    · subst z
      rw [hf, decide_eq_true (rfl : v = v), if_neg (fun g => absurd g.2 (by decide)), if_pos (by omega), if_neg (by omega), if_pos ⟨Nat.zero_le _, rfl⟩]
    · rw [decide_eq_false z, Bool.or_false]
      by_cases y : v < m
      · rw [if_pos y, if_pos (show v < m + 1 by omega)]; omega
      · rw [if_neg y, if_neg (show ¬ v < m + 1 by omega)]; omega
theorem mc_cn_0 (f : Nat → Nat) : ∀ m, mc_cn f 0 0 m = m := by
  intro m
  induction m with
  | zero => rfl
  | succ m ih =>
    show mc_cn f 0 0 m + (if 0 ≤ m ∧ false = false then 1 else 0) = m + 1
    rw [ih, if_pos ⟨Nat.zero_le _, rfl⟩]
theorem mc_cn_m (f : Nat → Nat) (d j : Nat) : ∀ m, mc_cn f d j m ≤ mc_cn f d 0 m := by
  intro m
  induction m with
  | zero => exact Nat.le_refl _
  | succ m ih =>
    show mc_cn f d j m + (if j ≤ m ∧ mc_on f d m = false then 1 else 0) ≤ mc_cn f d 0 m + (if 0 ≤ m ∧ mc_on f d m = false then 1 else 0)
    by_cases y : mc_on f d m = false
    · rw [if_pos (show 0 ≤ m ∧ mc_on f d m = false from ⟨Nat.zero_le _, y⟩)]
      by_cases z : j ≤ m
      · rw [if_pos ⟨z, y⟩]; omega
      · rw [if_neg (fun g => z g.1)]; omega
    · rw [if_neg (fun g => y g.2), if_neg (fun g => y g.2)]; exact ih
def mc_K : Nat → Nat
  | 0 => 7
  | c + 1 => 7 + (c + 1) * mc_K c
theorem mc_K_v (n c : Nat) (hn : n ≤ 6) : (n + 1) + c * mc_K (c - 1) ≤ mc_K c := by
  cases c with
  | zero => show n + 1 + 0 * mc_K 0 ≤ 7; omega
  | succ c => show n + 1 + (c + 1) * mc_K c ≤ 7 + (c + 1) * mc_K c; omega
theorem mc_K_m {a b : Nat} (h : a ≤ b) : mc_K a ≤ mc_K b := by
  induction b with
  | zero => have e : a = 0 := by omega
            subst e; exact Nat.le_refl _
  | succ b ih =>
    by_cases z : a = b + 1
    · subst z; exact Nat.le_refl _
    · have h1 := ih (by omega)
      have h2 : mc_K b ≤ (b + 1) * mc_K b := Nat.le_mul_of_pos_left _ (by omega)
      show mc_K a ≤ 7 + (b + 1) * mc_K b
      omega
end
section
/-! ===== Y: the search through all circles ===== -/
def mc_Ext (f : Nat → Nat) (e j K : Nat) (g : Nat → Nat) : Prop := e + 1 ≤ K ∧ (∀ i, i < e + 1 → g i = f i) ∧ j ≤ g (mc_nx K e)
def mc_Way (n : Nat) (E : Nat → Nat → Prop) (f : Nat → Nat) (e : Nat) : Prop :=
  (∀ i, i < e + 1 → f i < n) ∧ (∀ i j, i < j → j < e + 1 → f i ≠ f j) ∧ (∀ i, i < e → E (f i) (f (i + 1))) ∧ (∀ i, 0 < i → i < e + 1 → f 0 < f i)
theorem mc_x1 {n : Nat} {E : Nat → Nat → Prop} {f g : Nat → Nat} {e j K : Nat} (hj : n ≤ j) (cy : mc_Cy n E K g) : ¬ mc_Ext f e j K g := by
  rintro ⟨h1, h2, h3⟩
  have := cy.1.2.1 _ (mc_nx_lt (K := K) (i := e) (by omega))
  omega
theorem mc_nx_c {K e : Nat} (h : e + 1 ≤ K) : (e + 1 < K ∧ mc_nx K e = e + 1) ∨ (K = e + 1 ∧ mc_nx K e = 0) := by
  unfold mc_nx
  by_cases z : e + 1 < K
  · exact Or.inl ⟨z, if_pos z⟩
  · exact Or.inr ⟨by omega, if_neg z⟩
theorem mc_x2 {n : Nat} {E : Nat → Nat → Prop} {f g : Nat → Nat} {e j K : Nat} (hs : ¬ E (f e) j ∨ (j ≠ f 0 ∧ (j < f 0 ∨ ∃ i, i < e + 1 ∧ f i = j))) (cy : mc_Cy n E K g) : mc_Ext f e j K g ↔ mc_Ext f e (j + 1) K g := by
  constructor
  · rintro ⟨h1, h2, h3⟩
    refine ⟨h1, h2, ?_⟩
    by_cases z : g (mc_nx K e) = j
    · exfalso
      have a := cy.1.2.2.2 e (by omega)
      rw [z, h2 e (by omega)] at a
      rcases hs with hs | ⟨hs1, hs2⟩
      · exact hs a
      · rcases mc_nx_c h1 with ⟨c1, c2⟩ | ⟨c1, c2⟩
        · rw [c2] at z
          rcases hs2 with hs2 | ⟨i, hi, ei⟩
          · have b := cy.2 (e + 1) (by omega) c1
            rw [h2 0 (by omega)] at b
            omega
          · exact cy.1.2.2.1 i (e + 1) (by omega) c1 (by rw [h2 i hi, ei, z])
        · rw [c2, h2 0 (by omega)] at z
          exact hs1 z.symm
    · omega
  · rintro ⟨h1, h2, h3⟩
    exact ⟨h1, h2, by omega⟩
theorem mc_x3 {n : Nat} {E : Nat → Nat → Prop} {f g : Nat → Nat} {e j K : Nat} (hj : j = f 0) (cy : mc_Cy n E K g) : mc_Ext f e j K g ↔ mc_Ext f e (j + 1) K g ∨ (K = e + 1 ∧ ∀ i, i < e + 1 → g i = f i) := by
  constructor
  · rintro ⟨h1, h2, h3⟩
    by_cases z : g (mc_nx K e) = j
    · right
      rcases mc_nx_c h1 with ⟨c1, c2⟩ | ⟨c1, c2⟩
      · exfalso
        rw [c2] at z
        exact cy.1.2.2.1 0 (e + 1) (by omega) c1 (by rw [h2 0 (by omega), z, hj])
      · exact ⟨c1, h2⟩
    · exact Or.inl ⟨h1, h2, by omega⟩
  · rintro (⟨h1, h2, h3⟩ | ⟨h1, h2⟩)
    · exact ⟨h1, h2, by omega⟩
    · refine ⟨by omega, h2, ?_⟩
      rcases mc_nx_c (K := K) (e := e) (by omega) with ⟨c1, c2⟩ | ⟨c1, c2⟩
      · omega
      · rw [c2, h2 0 (by omega)]; omega
theorem mc_x3c {n : Nat} {E : Nat → Nat → Prop} {f : Nat → Nat} {e : Nat} (w : mc_Way n E f e) (hE : E (f e) (f 0)) : mc_Cy n E (e + 1) f := by
  refine ⟨⟨by omega, w.1, w.2.1, fun i hi => ?_⟩, w.2.2.2⟩
  unfold mc_nx
  by_cases z : i + 1 < e + 1
  · rw [if_pos z]; exact w.2.2.1 i (by omega)
  · have ei : i = e := by omega
    rw [if_neg z, ei]; exact hE
theorem mc_x4 {n : Nat} {E : Nat → Nat → Prop} {f g : Nat → Nat} {e j K : Nat} (hj : f 0 < j) (cy : mc_Cy n E K g) : mc_Ext f e j K g ↔ mc_Ext f e (j + 1) K g ∨ mc_Ext (mc_up f (e + 1) j) (e + 1) 0 K g := by
  constructor
  · rintro ⟨h1, h2, h3⟩
    by_cases z : g (mc_nx K e) = j
    · right
      rcases mc_nx_c h1 with ⟨c1, c2⟩ | ⟨c1, c2⟩
      · rw [c2] at z
        refine ⟨by omega, fun i hi => ?_, Nat.zero_le _⟩
        by_cases y : i = e + 1
        · rw [y, mc_up_s]; exact z
        · rw [mc_up_n _ _ y]; exact h2 i (by omega)
      · rw [c2, h2 0 (by omega)] at z
        omega
    · exact Or.inl ⟨h1, h2, by omega⟩
  · rintro (⟨h1, h2, h3⟩ | ⟨h1, h2, h3⟩)
    · exact ⟨h1, h2, by omega⟩
    · refine ⟨by omega, fun i hi => ?_, ?_⟩
      · have a := h2 i (by omega)
        rw [mc_up_n _ _ (by omega)] at a
        exact a
      · rcases mc_nx_c (K := K) (e := e) (by omega) with ⟨c1, c2⟩ | ⟨c1, c2⟩
        · have a := h2 (e + 1) (by omega)
          rw [mc_up_s] at a
          rw [c2, a]; omega
        · omega
theorem mc_x4w {n : Nat} {E : Nat → Nat → Prop} {f : Nat → Nat} {e j : Nat} (w : mc_Way n E f e) (hjn : j < n) (hE : E (f e) j) (hj : f 0 < j) (hf : ¬ ∃ i, i < e + 1 ∧ f i = j) : mc_Way n E (mc_up f (e + 1) j) (e + 1) := by
  refine ⟨fun i hi => ?_, fun i k hik hk => ?_, fun i hi => ?_, fun i h0 hi => ?_⟩
  · by_cases y : i = e + 1
    · rw [y, mc_up_s]; exact hjn
    · rw [mc_up_n _ _ y]; exact w.1 i (by omega)
  · rw [mc_up_n _ _ (show i ≠ e + 1 by omega)]
    by_cases y : k = e + 1
    · rw [y, mc_up_s]; exact fun h => hf ⟨i, by omega, h⟩
    · rw [mc_up_n _ _ y]; exact w.2.1 i k hik (by omega)
  · rw [mc_up_n _ _ (show i ≠ e + 1 by omega)]
    by_cases y : i = e
    · rw [y, mc_up_s]; exact hE
    · rw [mc_up_n _ _ (show i + 1 ≠ e + 1 by omega)]; exact w.2.2.1 i (by omega)
  · rw [mc_up_n _ _ (show 0 ≠ e + 1 by omega)]
    by_cases y : i = e + 1
    · rw [y, mc_up_s]; exact hj
    · rw [mc_up_n _ _ y]; exact w.2.2.2 i h0 (by omega)
/-- what a look does to an account A of the circles P that were looked at -/
def mc_LK (n : Nat) (by' mk bd : Int32) (th we ti : Nat → Int32) (A : (Nat → (Nat → Nat) → Prop) → Nat → Int32 → Int32 → Int32 → Int32 → Int32 → (Nat → Int32) → Prop) : Prop :=
  ∀ (P : Nat → (Nat → Nat) → Prop) (cc : Nat) (fo to bo po un : Int32) (way nxt ma : Nat → Int32) (e : Nat) (f : Nat → Nat) (post : SY → Prop), cc ≤ 200000 → e < n → mc_Cy n (mc_E th) (e + 1) f → (∀ i, i < e + 1 → way i = nI (f i)) → A P cc fo to bo po un ma →
    (∀ P' fo' to' bo' po' un' ma', (∀ K g, P' K g ↔ P K g ∨ (K = e + 1 ∧ ∀ i, i < e + 1 → g i = f i)) → A P' (cc + 1) fo' to' bo' po' un' ma' → post (nI n, nI (e + 1), by', fo', to', bo', po', mk, bd, un', th, we, ti, way, nxt, ma')) →
    wpY_look post (nI n, nI (e + 1), by', fo, to, bo, po, mk, bd, un, th, we, ti, way, nxt, ma)
section
variable {post : SY → Prop} {J : Int32 → Int32 → Int32 → Int32 → Int32 → Int32 → Int32 → Int32 → Int32 → Int32 → Int32 → (Nat → Int32) → (Nat → Int32) → (Nat → Int32) → (Nat → Int32) → (Nat → Int32) → (Nat → Int32) → Prop}
  {n : Nat} {by' mk bd x1 : Int32} {th we ti : Nat → Int32} {A : (Nat → (Nat → Nat) → Prop) → Nat → Int32 → Int32 → Int32 → Int32 → Int32 → (Nat → Int32) → Prop} {base : Nat}
def mc_DQ (post : SY → Prop) (J : Int32 → Int32 → Int32 → Int32 → Int32 → Int32 → Int32 → Int32 → Int32 → Int32 → Int32 → (Nat → Int32) → (Nat → Int32) → (Nat → Int32) → (Nat → Int32) → (Nat → Int32) → (Nat → Int32) → Prop)
    (n : Nat) (by' mk bd x1 : Int32) (th we ti : Nat → Int32) (A : (Nat → (Nat → Nat) → Prop) → Nat → Int32 → Int32 → Int32 → Int32 → Int32 → (Nat → Int32) → Prop) (base c : Nat) (r : Nat) : Prop :=
  ∀ (e : Nat) (f : Nat → Nat) (j x2 : Nat) (P : Nat → (Nat → Nat) → Prop) (fo to bo po un : Int32) (way nxt ma : Nat → Int32),
    j + r = n + 1 → 1 ≤ r → mc_Way n (mc_E th) f e → (∀ i, i < e + 1 → way i = nI (f i)) → nxt e = nI j → e + 1 + c = n → mc_cn f (e + 1) 0 n = c →
    x2 + (r + mc_cn f (e + 1) j n * mc_K (c - 1)) ≤ 14000 → A P (base + x2) fo to bo po un ma →
    (∀ (x2' : Nat) (P' : Nat → (Nat → Nat) → Prop) (fo' to' bo' po' un' : Int32) (way' nxt' ma' : Nat → Int32), x2 ≤ x2' → x2' ≤ x2 + (r + mc_cn f (e + 1) j n * mc_K (c - 1)) →
      (∀ K g, P' K g ↔ P K g ∨ (mc_Cy n (mc_E th) K g ∧ mc_Ext f e j K g)) → A P' (base + x2') fo' to' bo' po' un' ma' → (∀ i, i < e + 1 → way' i = way i) → (∀ i, i < e → nxt' i = nxt i) →
      wY_goThrough_36 post J x1 (14001 - x2') (nI x2') (nI n) (nI e) by' fo' to' bo' po' mk bd un' th we ti way' nxt' ma') →
    wY_goThrough_36 post J x1 (14001 - x2) (nI x2) (nI n) (nI (e + 1)) by' fo to bo po mk bd un th we ti way nxt ma
theorem mc_dfs_r (hn : n ≤ 6) (hb : base ≤ 100000) (mono : ∀ P c c' fo to bo po un ma, c ≤ c' → A P c fo to bo po un ma → A P c' fo to bo po un ma) (lk : mc_LK n by' mk bd th we ti A)
    (c : Nat) (IH : ∀ c', c' + 1 = c → ∀ r, mc_DQ post J n by' mk bd x1 th we ti A base c' r) : ∀ r, mc_DQ post J n by' mk bd x1 th we ti A base c r := by
  intro r
  induction r with
  | zero => intro e f j x2 P fo to bo po un way nxt ma _ h; omega
  | succ r ih =>
    intro e f j x2 P fo to bo po un way nxt ma hjr _ hway hw hnx hec hcn hx2 hA Hk
    have fuel : 14001 - x2 = (14001 - (x2 + 1)) + 1 := by omega
    rw [fuel]
    have nxs : ∀ i, i < e → upd nxt e (nI (j + 1)) i = nxt i := fun i hi => pk_un (by omega)
    have lastarc : ∀ i, i < e + 1 → way i = nI (f i) ∧ f i < n := fun i hi => ⟨hw i hi, hway.1 i hi⟩
    refine br_f (nI_ge (b := 14000) (by omega) (by decide)) (br_f (nI_nle (by omega) (by omega)) (mc_go (n := n) (e := e) (j := j) (f := f) hn (by omega) lastarc hnx (by omega) (fun z => ?_) (fun z s => ?_) (fun z hE s => ?_) (fun z hE s q => ?_)))
    · -- up
      refine nm_r (nI_1 x2) (Hk (x2 + 1) P fo to bo po un way _ ma (by omega) (by omega) (fun K g => ⟨fun h => Or.inl h, fun h => ?_⟩) (mono _ _ _ _ _ _ _ _ _ (by omega) hA) (fun i _ => rfl) nxs)
      rcases h with h | ⟨cy, ex⟩
      · exact h
      · exact absurd ex (mc_x1 z cy)
    · -- the next point
      have cj := mc_cn_j f (e + 1) j n z
      have cm : mc_cn f (e + 1) (j + 1) n * mc_K (c - 1) ≤ mc_cn f (e + 1) j n * mc_K (c - 1) := Nat.mul_le_mul_right _ (by omega)
      refine nm_r (nI_1 x2) (ih e f (j + 1) (x2 + 1) P fo to bo po un way _ ma (by omega) (by omega) hway hw pk_us hec hcn (by omega) (mono _ _ _ _ _ _ _ _ _ (by omega) hA) ?_)
      intro x2' P' fo' to' bo' po' un' way' nxt' ma' a1 a2 a3 a4 a5 a6
      refine Hk x2' P' fo' to' bo' po' un' way' nxt' ma' (by omega) (by omega) (fun K g => ?_) a4 a5 (fun i hi => by rw [a6 i hi, nxs i hi])
      rw [a3 K g]
      exact ⟨fun h => by rcases h with h | ⟨cy, ex⟩
                         exact Or.inl h
                         exact Or.inr ⟨cy, (mc_x2 s cy).mpr ex⟩,
             fun h => by rcases h with h | ⟨cy, ex⟩
                         exact Or.inl h
                         exact Or.inr ⟨cy, (mc_x2 s cy).mp ex⟩⟩
    · -- a circle
      have cj := mc_cn_j f (e + 1) j n z
      have cm : mc_cn f (e + 1) (j + 1) n * mc_K (c - 1) ≤ mc_cn f (e + 1) j n * mc_K (c - 1) := Nat.mul_le_mul_right _ (by omega)
      have cyf : mc_Cy n (mc_E th) (e + 1) f := mc_x3c hway (by rw [← s]; exact hE)
      refine lk P (base + x2) fo to bo po un way _ ma e f _ (by omega) (by omega) cyf hw hA ?_
      intro P1 fo1 to1 bo1 po1 un1 ma1 p1 A1
      refine nm_r (nI_1 x2) (ih e f (j + 1) (x2 + 1) P1 fo1 to1 bo1 po1 un1 way _ ma1 (by omega) (by omega) hway hw pk_us hec hcn (by omega) A1 ?_)
      intro x2' P' fo' to' bo' po' un' way' nxt' ma' a1 a2 a3 a4 a5 a6
      refine Hk x2' P' fo' to' bo' po' un' way' nxt' ma' (by omega) (by omega) (fun K g => ?_) a4 a5 (fun i hi => by rw [a6 i hi, nxs i hi])
      rw [a3 K g, p1 K g]
      constructor
      · rintro ((h | ⟨h1, h2⟩) | ⟨cy, ex⟩)
        · exact Or.inl h
        · refine Or.inr ?_
          have cyg : mc_Cy n (mc_E th) K g := by
            subst h1
            obtain ⟨⟨k1, k2, k3, k4⟩, k5⟩ := cyf
            refine ⟨⟨k1, fun i hi => by rw [h2 i hi]; exact k2 i hi, fun i k hik hk => by rw [h2 i (by omega), h2 k hk]; exact k3 i k hik hk, fun i hi => by rw [h2 i hi, h2 _ (mc_nx_lt hi)]; exact k4 i hi⟩, fun i h0 hi => by rw [h2 0 (by omega), h2 i hi]; exact k5 i h0 hi⟩
          exact ⟨cyg, (mc_x3 s cyg).mpr (Or.inr ⟨h1, h2⟩)⟩
        · exact Or.inr ⟨cy, (mc_x3 s cy).mpr (Or.inl ex)⟩
      · rintro (h | ⟨cy, ex⟩)
        · exact Or.inl (Or.inl h)
        · rcases (mc_x3 s cy).mp ex with g1 | g1
          · exact Or.inr ⟨cy, g1⟩
          · exact Or.inl (Or.inr g1)
    · -- one deeper
      have hon : mc_on f (e + 1) j = false := by
        cases h : mc_on f (e + 1) j with
        | false => rfl
        | true => exact absurd ((mc_on_iff f j (e + 1)).mp h) q
      have cj := mc_cn_j f (e + 1) j n z
      rw [if_pos hon] at cj
      have cm0 := mc_cn_m f (e + 1) j n
      obtain ⟨c', ec⟩ : ∃ c', c' + 1 = c := ⟨c - 1, by omega⟩
      have ec1 : c - 1 = c' := by omega
      have cp := mc_cn_p (f := f) (g := mc_up f (e + 1) j) (d := e + 1) (v := j) (fun i hi => mc_up_n _ _ (by omega)) (mc_up_s _ _ _) hon n
      rw [if_pos z] at cp
      have kv := mc_K_v n c' hn
      have ecn : mc_cn (mc_up f (e + 1) j) (e + 1 + 1) 0 n = c' := by omega
      rw [cj, ec1, Nat.add_mul, Nat.one_mul] at hx2
      refine nm_r (nI_1 x2) (IH c' ec (n + 1) (e + 1) (mc_up f (e + 1) j) 0 (x2 + 1) P fo to bo po un _ _ ma (by omega) (by omega) (mc_x4w hway z hE s q) (fun i hi => ?_) pk_us (by omega) ecn (by rw [ecn]; omega) (mono _ _ _ _ _ _ _ _ _ (by omega) hA) ?_)
      · by_cases y : i = e + 1
        · rw [y, pk_us, mc_up_s]
        · rw [pk_un y, mc_up_n _ _ y]; exact hw i (by omega)
      · intro x3' P1 fo1 to1 bo1 po1 un1 way1 nxt1 ma1 b1 b2 b3 b4 b5 b6
        rw [ecn] at b2
        refine ih e f (j + 1) x3' P1 fo1 to1 bo1 po1 un1 way1 nxt1 ma1 (by omega) (by omega) hway (fun i hi => ?_) ?_ hec hcn (by rw [ec1]; omega) b4 ?_
        · rw [b5 i (by omega), pk_un (by omega)]; exact hw i hi
        · rw [b6 e (by omega), pk_un (by omega), pk_us]
        · intro x2' P' fo' to' bo' po' un' way' nxt' ma' a1 a2 a3 a4 a5 a6
          rw [ec1] at a2
          refine Hk x2' P' fo' to' bo' po' un' way' nxt' ma' (by omega) (by rw [cj, ec1, Nat.add_mul, Nat.one_mul]; omega) (fun K g => ?_) a4 (fun i hi => by rw [a5 i hi, b5 i (by omega), pk_un (by omega)]) (fun i hi => by rw [a6 i hi, b6 i (by omega), pk_un (by omega), nxs i hi])
          rw [a3 K g, b3 K g]
          constructor
          · rintro ((h | ⟨cy, ex⟩) | ⟨cy, ex⟩)
            · exact Or.inl h
            · exact Or.inr ⟨cy, (mc_x4 s cy).mpr (Or.inr ex)⟩
            · exact Or.inr ⟨cy, (mc_x4 s cy).mpr (Or.inl ex)⟩
          · rintro (h | ⟨cy, ex⟩)
            · exact Or.inl (Or.inl h)
            · rcases (mc_x4 s cy).mp ex with g1 | g1
              · exact Or.inr ⟨cy, g1⟩
              · exact Or.inl (Or.inr ⟨cy, g1⟩)
theorem mc_dfs (hn : n ≤ 6) (hb : base ≤ 100000) (mono : ∀ P c c' fo to bo po un ma, c ≤ c' → A P c fo to bo po un ma → A P c' fo to bo po un ma) (lk : mc_LK n by' mk bd th we ti A) :
    ∀ c r, mc_DQ post J n by' mk bd x1 th we ti A base c r := by
  intro c
  induction c with
  | zero => exact mc_dfs_r hn hb mono lk 0 (fun c' h => by omega)
  | succ c ih => exact mc_dfs_r hn hb mono lk (c + 1) (fun c' h => by have e : c' = c := by omega
                                                                      subst e; exact ih)
end
theorem mc_thr7 {post : SY → Prop} {n : Nat} {by' mk bd : Int32} {th we ti : Nat → Int32} {A : (Nat → (Nat → Nat) → Prop) → Nat → Int32 → Int32 → Int32 → Int32 → Int32 → (Nat → Int32) → Prop}
    (hn : n ≤ 6) (mono : ∀ P c c' fo to bo po un ma, c ≤ c' → A P c fo to bo po un ma → A P c' fo to bo po un ma) (lk : mc_LK n by' mk bd th we ti A)
    (H : ∀ P dp fo to bo po un way nxt ma, (∀ K g, P K g ↔ mc_Cy n (mc_E th) K g) → A P 84000 fo to bo po un ma → post (nI n, dp, by', fo, to, bo, po, mk, bd, un, th, we, ti, way, nxt, ma)) :
    ∀ k i, i + k = n → ∀ m, k < m → ∀ (P : Nat → (Nat → Nat) → Prop) (dp fo to bo po un : Int32) (way nxt ma : Nat → Int32), (∀ K g, P K g ↔ mc_Cy n (mc_E th) K g ∧ g 0 < i) → A P (14000 * i) fo to bo po un ma →
      wY_goThrough_7 post m (nI i) (nI n) dp by' fo to bo po mk bd un th we ti way nxt ma := by
  intro k
  induction k with
  | zero =>
    intro i hi m hm P dp fo to bo po un way nxt ma hP hA
    obtain ⟨m, rfl⟩ : ∃ m', m = m' + 1 := ⟨m - 1, by omega⟩
    have e : i = n := by omega
    subst e
    refine br_t (nI_le (Nat.le_refl _) (by omega)) (H P _ _ _ _ _ _ _ _ _ (fun K g => ?_) (mono _ _ _ _ _ _ _ _ _ (by omega) hA))
    rw [hP K g]
    exact ⟨fun h => h.1, fun h => ⟨h, h.1.2.1 0 h.1.1⟩⟩
  | succ k ih =>
    intro i hi m hm P dp fo to bo po un way nxt ma hP hA
    obtain ⟨m, rfl⟩ : ∃ m', m = m' + 1 := ⟨m - 1, by omega⟩
    refine br_f (nI_ge (by omega) (by omega)) (nm_e (nm_e ⟨14001, ?_⟩))
    have cp := mc_cn_p (f := fun _ => i) (g := fun _ => i) (d := 0) (v := i) (fun x hx => absurd hx (Nat.not_lt_zero _)) rfl rfl n
    rw [if_pos (by omega), mc_cn_0] at cp
    have e0 : (nI 0 : Int32) = 0 := nI_0
    have cn0 : mc_cn (fun _ => i) (0 + 1) 0 n = n - 1 := by omega
    have kv := mc_K_v n (n - 1) hn
    have km : mc_K (n - 1) ≤ mc_K 5 := mc_K_m (by omega)
    have k5 : mc_K 5 = 2282 := by decide
    refine mc_dfs (base := 14000 * i) hn (by omega) mono lk (n - 1) (n + 1) 0 (fun _ => i) 0 0 P fo to bo po un _ _ ma (by omega) (by omega) ⟨fun _ _ => by show i < n; omega, fun a b h1 h2 => by omega, fun a h => absurd h (Nat.not_lt_zero _), fun a h1 h2 => by omega⟩ (fun x hx => ?_) pk_us (by omega) cn0 (by rw [cn0]; omega) hA ?_
    · have ex : x = 0 := by omega
      rw [ex]
      exact pk_us
    · intro x2' P' fo' to' bo' po' un' way' nxt' ma' a1 a2 a3 a4 a5 a6
      rw [cn0] at a2
      have fuel : 14001 - x2' = (14000 - x2') + 1 := by omega
      rw [fuel]
      refine br_f (nI_ge (b := 14000) (by omega) (by decide)) (br_t (by decide) (nm_r (nI_1 i) (ih (i + 1) (by omega) m (by omega) P' _ _ _ _ _ _ _ _ _ (fun K g => ?_) (mono _ _ _ _ _ _ _ _ _ (by omega) a4))))
      rw [a3 K g, hP K g]
      constructor
      · rintro (⟨h1, h2⟩ | ⟨cy, ex⟩)
        · exact ⟨h1, by omega⟩
        · have := ex.2.1 0 (by omega)
          have h3 : g 0 = i := this
          exact ⟨cy, by omega⟩
      · rintro ⟨cy, h⟩
        by_cases z : g 0 < i
        · exact Or.inl ⟨cy, z⟩
        · refine Or.inr ⟨cy, cy.1.1, fun x hx => ?_, Nat.zero_le _⟩
          have ex : x = 0 := by omega
          subst ex
          show g 0 = i
          omega
theorem mc_thr {post : SY → Prop} {n : Nat} {dp by' fo to bo po mk bd un : Int32} {th we ti way nxt ma : Nat → Int32} {A : (Nat → (Nat → Nat) → Prop) → Nat → Int32 → Int32 → Int32 → Int32 → Int32 → (Nat → Int32) → Prop}
    (hn : n ≤ 6) (mono : ∀ P c c' fo to bo po un ma, c ≤ c' → A P c fo to bo po un ma → A P c' fo to bo po un ma) (lk : mc_LK n by' mk bd th we ti A)
    (h0 : A (fun _ _ => False) 0 0 to bo po un ma)
    (H : ∀ P dp fo to bo po un way nxt ma, (∀ K g, P K g ↔ mc_Cy n (mc_E th) K g) → A P 84000 fo to bo po un ma → post (nI n, dp, by', fo, to, bo, po, mk, bd, un, th, we, ti, way, nxt, ma)) :
    wpY_goThrough post (nI n, dp, by', fo, to, bo, po, mk, bd, un, th, we, ti, way, nxt, ma) :=
  ⟨n + 1, mc_thr7 hn mono lk H n 0 (by omega) (n + 1) (by omega) (fun _ _ => False) dp 0 to bo po un way nxt ma (fun K g => ⟨fun h => h.elim, fun h => absurd h.2 (Nat.not_lt_zero _)⟩) h0⟩
end
section
/-! ===== Y: look and mark ===== -/
section
variable {N by' fo to bo po mk bd un : Int32} {th we ti way nxt ma : Nat → Int32}
theorem mc_arcAt {post : Int32 → Prop} {d k : Nat} {f : Nat → Nat} (hd : d ≤ 6) (hk : k < d) (hw : ∀ i, i < d → way i = nI (f i)) (H : post (nI (6 * f k + f (mc_nx d k)))) :
    wpY_arcAt post (N, nI d, by', fo, to, bo, po, mk, bd, un, th, we, ti, way, nxt, ma) (nI k) := by
  unfold wpY_arcAt
  dsimp only
  rw [nI_1, nI_clamp (n := k) (by omega), nI_clamp (n := k + 1) (by omega), hw k hk, hw 0 (by omega), mc_ix]
  refine ⟨vp_in_nI (by omega) (by omega), pk_le d (k + 1) (fun z => ?_) (fun z => ⟨vp_in_nI (by omega) (by omega), ?_⟩)⟩
  · have e : mc_nx d k = 0 := if_neg (by omega)
    rw [e] at H
    exact H
  · have e : mc_nx d k = k + 1 := if_pos (by omega)
    rw [e] at H
    rw [hw (k + 1) (by omega), mc_ix]
    exact H
theorem mc_S_ones (by0 : by' = 0) (ti : Nat → Int32) (K : Nat) (f : Nat → Nat) : mc_S (mc_z by' ti) K f = (K : Int) := by
  have h : mc_S (mc_z by' ti) K f = mc_sm (fun _ => 1) K := mc_sm_c K (fun i _ => by
    show mc_z by' ti _ _ = 1
    unfold mc_z
    rw [if_pos by0])
  rw [h, mc_sm_const, Int.mul_one]
theorem mc_S_t (by0 : ¬ by' = 0) (ti : Nat → Int32) (K : Nat) (f : Nat → Nat) : mc_S (mc_z by' ti) K f = mc_S (mc_w ti) K f :=
  mc_sm_c K (fun i _ => by
    show mc_z by' ti _ _ = mc_w ti _ _
    unfold mc_z mc_w
    rw [if_neg by0])
theorem mc_look6 {post : SY → Prop} {d : Nat} {f : Nat → Nat} (hd : d ≤ 6) (hf : ∀ i, i < d → f i < 6) (hw : ∀ i, i < d → way i = nI (f i))
    (H : wY_look_62 post (iI (mc_S (mc_w we) d f)) (iI (mc_S (mc_w ti) d f)) (iI (mc_S (mc_z by' ti) d f)) N (nI d) by' fo to bo po mk bd un th we ti way nxt ma) :
    ∀ k i, i + k = d → ∀ m, k < m → wY_look_6 post N (nI d) by' fo to bo po mk bd un th we ti way nxt ma m (iI (mc_sm (fun i => mc_w we (f i) (f (mc_nx d i))) i)) (iI (mc_sm (fun i => mc_w ti (f i) (f (mc_nx d i))) i)) (nI i) := by
  intro k
  induction k with
  | zero =>
    intro i hi m hm
    obtain ⟨m, rfl⟩ : ∃ m', m = m' + 1 := ⟨m - 1, by omega⟩
    have e : i = d := by omega
    subst e
    refine br_t (nI_le (Nat.le_refl _) (by omega)) (br_c (fun z => ?_) (fun z => ?_))
    · rw [mc_S_ones z, ← iI_n] at H
      exact H
    · rw [mc_S_t z] at H
      exact H
  | succ k ih =>
    intro i hi m hm
    obtain ⟨m, rfl⟩ : ∃ m', m = m' + 1 := ⟨m - 1, by omega⟩
    have f1 := hf i (by omega)
    have f2 := hf (mc_nx d i) (mc_nx_lt (by omega))
    refine br_f (nI_ge (by omega) (by omega)) (mc_arcAt hd (by omega) hw ?_)
    have e1 : ∀ (a : Nat → Int32) (s : Int), iI s + a (nI (6 * f i + f (mc_nx d i))).toNatClampNeg = iI (s + mc_w a (f i) (f (mc_nx d i))) := by
      intro a s
      rw [nI_clamp (by omega), ← iI_o (a _), iI_add]
      rfl
    refine ⟨vp_in_nI (by omega) (by omega), nm_r (e1 we _) ⟨vp_in_nI (by omega) (by omega), nm_r (e1 ti _) (nm_r (nI_1 i) (ih (i + 1) (by omega) m (by omega)))⟩⟩
theorem mc_look {post : SY → Prop} {d : Nat} {f : Nat → Nat} (hd : d ≤ 6) (hf : ∀ i, i < d → f i < 6) (hw : ∀ i, i < d → way i = nI (f i))
    (H : wY_look_62 post (iI (mc_S (mc_w we) d f)) (iI (mc_S (mc_w ti) d f)) (iI (mc_S (mc_z by' ti) d f)) N (nI d) by' fo to bo po mk bd un th we ti way nxt ma) :
    wpY_look post (N, nI d, by', fo, to, bo, po, mk, bd, un, th, we, ti, way, nxt, ma) :=
  ⟨d + 1, mc_look6 hd hf hw H d 0 (by omega) (d + 1) (by omega)⟩
theorem mc_mark2 {post : SY → Prop} {d : Nat} {f : Nat → Nat} (hd : d ≤ 6) (hf : ∀ i, i < d → f i < 6) (hw : ∀ i, i < d → way i = nI (f i)) {po0 : Int32} {ma0 : Nat → Int32}
    (H : ∀ (po' : Int32) (ma' : Nat → Int32), (∀ a, (ma' a = 1 ↔ ma0 a = 1 ∨ ∃ i, i < d ∧ 6 * f i + f (mc_nx d i) = a) ∧ (ma' a = ma0 a ∨ ma' a = 1)) → (∀ x, x < 32 → (bt po' x = true ↔ bt po0 x = true ∨ ∃ i, i < d ∧ f i = x)) →
      post (N, nI d, by', fo, to, bo, po', mk, bd, un, th, we, ti, way, nxt, ma')) :
    ∀ k i, i + k = d → ∀ m, k < m → ∀ (po : Int32) (ma : Nat → Int32), (∀ a, (ma a = 1 ↔ ma0 a = 1 ∨ ∃ x, x < i ∧ 6 * f x + f (mc_nx d x) = a) ∧ (ma a = ma0 a ∨ ma a = 1)) → (∀ x, x < 32 → (bt po x = true ↔ bt po0 x = true ∨ ∃ y, y < i ∧ f y = x)) →
      wY_mark_2 post N (nI d) by' fo to bo mk bd un m (nI i) po th we ti way nxt ma := by
  intro k
  induction k with
  | zero =>
    intro i hi m hm po ma h1 h2
    obtain ⟨m, rfl⟩ : ∃ m', m = m' + 1 := ⟨m - 1, by omega⟩
    have e : i = d := by omega
    subst e
    exact br_t (nI_le (Nat.le_refl _) (by omega)) (H po ma h1 h2)
  | succ k ih =>
    intro i hi m hm po ma h1 h2
    obtain ⟨m, rfl⟩ : ∃ m', m = m' + 1 := ⟨m - 1, by omega⟩
    have f1 := hf i (by omega)
    have f2 := hf (mc_nx d i) (mc_nx_lt (by omega))
    refine br_f (nI_ge (by omega) (by omega)) (mc_arcAt hd (by omega) hw ?_)
    rw [nI_clamp (n := 6 * f i + f (mc_nx d i)) (by omega), nI_clamp (n := i) (by omega), hw i (by omega)]
    refine ⟨vp_in_nI (by omega) (by omega), fun ma1 e1 => ⟨vp_in_nI (by omega) (by omega), fun po1 e2 => nm_r (nI_1 i) (ih (i + 1) (by omega) m (by omega) po1 ma1 (fun a => ?_) (fun x hx => ?_))⟩⟩
    · have nb : vp_nar .boolean 1 = 1 := rfl
      rw [e1, nb]
      by_cases z : a = 6 * f i + f (mc_nx d i)
      · rw [z, pk_us]
        exact ⟨⟨fun _ => Or.inr ⟨i, by omega, rfl⟩, fun _ => rfl⟩, Or.inr rfl⟩
      · rw [pk_un z]
        refine ⟨?_, (h1 a).2⟩
        rw [(h1 a).1]
        refine ⟨fun h => ?_, fun h => ?_⟩
        · rcases h with h | ⟨x, hx, ex⟩
          · exact Or.inl h
          · exact Or.inr ⟨x, by omega, ex⟩
        · rcases h with h | ⟨x, hx, ex⟩
          · exact Or.inl h
          · by_cases y : x = i
            · subst y; exact absurd ex.symm z
            · exact Or.inr ⟨x, by omega, ex⟩
    · rw [e2, mc_set po (by omega) hx, h2 x hx]
      refine ⟨fun h => ?_, fun h => ?_⟩
      · rcases h with (h | ⟨y, hy, ey⟩) | h
        · exact Or.inl h
        · exact Or.inr ⟨y, by omega, ey⟩
        · exact Or.inr ⟨i, by omega, h.symm⟩
      · rcases h with h | ⟨y, hy, ey⟩
        · exact Or.inl (Or.inl h)
        · by_cases z : y = i
          · subst z; exact Or.inr ey.symm
          · exact Or.inl (Or.inr ⟨y, by omega, ey⟩)
theorem mc_mark {post : SY → Prop} {d : Nat} {f : Nat → Nat} (hd : d ≤ 6) (hf : ∀ i, i < d → f i < 6) (hw : ∀ i, i < d → way i = nI (f i))
    (H : ∀ (po' : Int32) (ma' : Nat → Int32), (∀ a, (ma' a = 1 ↔ ma a = 1 ∨ ∃ i, i < d ∧ 6 * f i + f (mc_nx d i) = a) ∧ (ma' a = ma a ∨ ma' a = 1)) → (∀ x, x < 32 → (bt po' x = true ↔ bt po x = true ∨ ∃ i, i < d ∧ f i = x)) →
      post (N, nI d, by', fo, to, bo, po', mk, bd, un, th, we, ti, way, nxt, ma')) : wpY_mark post (N, nI d, by', fo, to, bo, po, mk, bd, un, th, we, ti, way, nxt, ma) :=
  ⟨d + 1, mc_mark2 hd hf hw H d 0 (by omega) (d + 1) (by omega) po ma (fun a => ⟨⟨fun h => Or.inl h, fun h => by rcases h with h | ⟨x, hx, _⟩; exact h; exact absurd hx (Nat.not_lt_zero _)⟩, Or.inl rfl⟩)
    (fun x _ => ⟨fun h => Or.inl h, fun h => by rcases h with h | ⟨y, hy, _⟩; exact h; exact absurd hy (Nat.not_lt_zero _)⟩)⟩
end
theorem mc_S_c {c : Nat → Nat → Int} {K : Nat} {f g : Nat → Nat} (h : ∀ i, i < K → g i = f i) : mc_S c K g = mc_S c K f :=
  mc_sm_c K (fun i hi => by
    show c (g i) (g (mc_nx K i)) = c (f i) (f (mc_nx K i))
    rw [h i hi, h _ (mc_nx_lt hi)])
/-- the account of a search that doesn't mark -/
def mc_A0 (n : Nat) (th we ti : Nat → Int32) (by' : Int32) (bz : Int) (u0 : Int32) (P : Nat → (Nat → Nat) → Prop) (c : Nat) (fo to bo _po un : Int32) (_ma : Nat → Int32) : Prop :=
  (∃ k, k ≤ c ∧ fo = nI k ∧ (k = 0 ↔ ∀ K g, ¬ P K g)) ∧
  (∃ t b, to = iI t ∧ bo = iI b ∧ (-1000 ≤ t ∧ t ≤ 1000) ∧ (0 < b ∧ b ≤ 100) ∧
    ((∃ K g, P K g) → (∃ K g, mc_Cy n (mc_E th) K g ∧ t = mc_S (mc_w we) K g ∧ b = mc_S (mc_z by' ti) K g) ∧ ∀ K g, P K g → 0 ≤ mc_S (mc_z by' ti) K g ∧ t * mc_S (mc_z by' ti) K g ≤ mc_S (mc_w we) K g * b)) ∧
  (un = 0 ↔ u0 = 0 ∧ ∀ K g, P K g → bz * mc_S (mc_w ti) K g ≤ mc_S (mc_w we) K g)
theorem mc_A0_m {n : Nat} {th we ti : Nat → Int32} {by' : Int32} {bz : Int} {u0 : Int32} : ∀ P c c' fo to bo po un ma, c ≤ c' → mc_A0 n th we ti by' bz u0 P c fo to bo po un ma → mc_A0 n th we ti by' bz u0 P c' fo to bo po un ma := by
  intro P c c' fo to bo po un ma h ⟨⟨k, hk, a⟩, b⟩
  exact ⟨⟨k, by omega, a⟩, b⟩
theorem mc_A0_lk {n : Nat} {th we ti : Nat → Int32} (by' : Int32) {bz : Int} (u0 : Int32) (G : mc_G n th we ti) (hbz : -1000 ≤ bz ∧ bz ≤ 1000) : mc_LK n by' 0 (iI bz) th we ti (mc_A0 n th we ti by' bz u0) := by
  intro P cc fo to bo po un way nxt ma e f post hcc hen cy hw hA H
  have hn := G.2.1
  have d6 : e + 1 ≤ 6 := by omega
  obtain ⟨⟨k, hk, rfl, k0⟩, ⟨t, b, rfl, rfl, ht, hb, best⟩, hu⟩ := hA
  have bw := mc_Sw_b G cy.1
  have bt1 := mc_Sz_b G 1 cy.1
  rw [mc_z1] at bt1
  have bz1 := mc_Sz_b G by' cy.1
  refine mc_look d6 (fun i hi => by have := cy.1.2.1 i hi; omega) hw ?_
  have p1 : ∃ K g, (P K g ∨ (K = e + 1 ∧ ∀ i, i < e + 1 → g i = f i)) := ⟨e + 1, f, Or.inr ⟨rfl, fun _ _ => rfl⟩⟩
  have cnt : ∃ k', k' ≤ cc + 1 ∧ nI (k + 1) = nI k' ∧ (k' = 0 ↔ ∀ K g, ¬ (P K g ∨ (K = e + 1 ∧ ∀ i, i < e + 1 → g i = f i))) :=
    ⟨k + 1, by omega, rfl, ⟨fun h => by omega, fun h => absurd (Or.inr ⟨rfl, fun _ _ => rfl⟩) (h (e + 1) f)⟩⟩
  have key : ∀ un', (un' = 0 ↔ u0 = 0 ∧ ∀ K g, (P K g ∨ (K = e + 1 ∧ ∀ i, i < e + 1 → g i = f i)) → bz * mc_S (mc_w ti) K g ≤ mc_S (mc_w we) K g) →
      wY_look_78 post (iI (mc_S (mc_w we) (e + 1) f)) (iI (mc_S (mc_z by' ti) (e + 1) f)) (nI n) (nI (e + 1)) by' (nI k) (iI t) (iI b) po 0 (iI bz) un' th we ti way nxt ma := by
    intro un' hun
    have m1 := mc_mulb (x := t) (y := mc_S (mc_z by' ti) (e + 1) f) (X := 1000) (Y := 100) ht.1 ht.2 (by omega) (by omega)
    have m2 := mc_mulb (x := mc_S (mc_w we) (e + 1) f) (y := b) (X := 1000) (Y := 100) (by omega) (by omega) (by omega) (by omega)
    refine br_t rfl (br_t rfl ?_)
    by_cases z : k = 0
    · subst z
      refine br_t rfl (nm_r (nI_1 0) (H (fun K g => P K g ∨ (K = e + 1 ∧ ∀ i, i < e + 1 → g i = f i)) _ _ _ _ _ _ (fun K g => Iff.rfl) ⟨cnt, ⟨_, _, rfl, rfl, ⟨by omega, by omega⟩, ⟨by omega, by omega⟩, fun _ => ⟨⟨e + 1, f, cy, rfl, rfl⟩, fun K g hg => ?_⟩⟩, hun⟩))
      rcases hg with hg | ⟨rfl, hg⟩
      · exact absurd hg (k0.mp rfl K g)
      · rw [mc_S_c hg, mc_S_c hg]
        exact ⟨by omega, Int.le_refl _⟩
    · refine br_f (nI_ne0 (by omega) (by omega)) ?_
      obtain ⟨best1, best2⟩ := best (by
        by_cases y : ∃ K g, P K g
        · exact y
        · exact absurd (k0.mpr (fun K g hg => y ⟨K, g, hg⟩)) z)
      rw [iI_mul, iI_mul, iI_le ⟨by omega, by omega⟩ ⟨by omega, by omega⟩]
      refine br_c (fun y => nm_r (nI_1 k) (H (fun K g => P K g ∨ (K = e + 1 ∧ ∀ i, i < e + 1 → g i = f i)) _ _ _ _ _ _ (fun K g => Iff.rfl) ⟨cnt, ⟨t, b, rfl, rfl, ht, hb, fun _ => ⟨best1, fun K g hg => ?_⟩⟩, hun⟩)) (fun y => nm_r (nI_1 k) (H (fun K g => P K g ∨ (K = e + 1 ∧ ∀ i, i < e + 1 → g i = f i)) _ _ _ _ _ _ (fun K g => Iff.rfl) ⟨cnt, ⟨_, _, rfl, rfl, ⟨by omega, by omega⟩, ⟨by omega, by omega⟩, fun _ => ⟨⟨e + 1, f, cy, rfl, rfl⟩, fun K g hg => ?_⟩⟩, hun⟩))
      · rcases hg with hg | ⟨rfl, hg⟩
        · exact best2 K g hg
        · rw [mc_S_c hg, mc_S_c hg]
          exact ⟨by omega, y⟩
      · rcases hg with hg | ⟨rfl, hg⟩
        · have b2 := best2 K g hg
          exact ⟨b2.1, mc_frac hb.1 b2.1 (by omega) (by omega) b2.2⟩
        · rw [mc_S_c hg, mc_S_c hg]
          exact ⟨by omega, Int.le_refl _⟩
  have m3 := mc_mulb (x := bz) (y := mc_S (mc_w ti) (e + 1) f) (X := 1000) (Y := 100) hbz.1 hbz.2 (by omega) (by omega)
  unfold wY_look_62
  rw [iI_mul, iI_le ⟨by omega, by omega⟩ ⟨by omega, by omega⟩]
  refine br_c (fun z => key un ?_) (fun z => key 1 ?_)
  · rw [hu]
    refine ⟨fun h => ⟨h.1, fun K g hg => ?_⟩, fun h => ⟨h.1, fun K g hg => h.2 K g (Or.inl hg)⟩⟩
    rcases hg with hg | ⟨rfl, hg⟩
    · exact h.2 K g hg
    · rw [mc_S_c hg, mc_S_c hg]; exact z
  · refine ⟨fun h => absurd h (by decide), fun h => absurd (h.2 (e + 1) f (Or.inr ⟨rfl, fun _ _ => rfl⟩)) z⟩
/-- the account of a search that marks -/
def mc_Tg (we ti : Nat → Int32) (by' : Int32) (t b : Int) (K : Nat) (g : Nat → Nat) : Prop := mc_S (mc_w we) K g * b = t * mc_S (mc_z by' ti) K g
def mc_A1 (we ti : Nat → Int32) (by' : Int32) (t b : Int) (P : Nat → (Nat → Nat) → Prop) (c : Nat) (fo to bo po _un : Int32) (ma : Nat → Int32) : Prop :=
  (∃ k, k ≤ c ∧ fo = nI k ∧ (k = 0 ↔ ∀ K g, ¬ P K g)) ∧ to = iI t ∧ bo = iI b ∧
  (∀ a, a < 36 → (ma a = 1 ↔ ∃ K g, P K g ∧ mc_Tg we ti by' t b K g ∧ ∃ i, i < K ∧ 6 * g i + g (mc_nx K i) = a) ∧ (ma a = 0 ∨ ma a = 1)) ∧
  (∀ x, x < 32 → (bt po x = true ↔ ∃ K g, P K g ∧ mc_Tg we ti by' t b K g ∧ ∃ i, i < K ∧ g i = x))
theorem mc_A1_m {we ti : Nat → Int32} {by' : Int32} {t b : Int} : ∀ P c c' fo to bo po un ma, c ≤ c' → mc_A1 we ti by' t b P c fo to bo po un ma → mc_A1 we ti by' t b P c' fo to bo po un ma := by
  intro P c c' fo to bo po un ma h ⟨⟨k, hk, a⟩, b⟩
  exact ⟨⟨k, by omega, a⟩, b⟩
theorem mc_A1_lk {n : Nat} {th we ti : Nat → Int32} (by' : Int32) {t b bz : Int} (G : mc_G n th we ti) (hbz : -1000 ≤ bz ∧ bz ≤ 1000) (ht : -1000 ≤ t ∧ t ≤ 1000) (hb : 0 < b ∧ b ≤ 100) : mc_LK n by' 1 (iI bz) th we ti (mc_A1 we ti by' t b) := by
  intro P cc fo to bo po un way nxt ma e f post hcc hen cy hw hA H
  have hn := G.2.1
  have d6 : e + 1 ≤ 6 := by omega
  obtain ⟨⟨k, hk, rfl, k0⟩, rfl, rfl, hm, hp⟩ := hA
  have bw := mc_Sw_b G cy.1
  have bz1 := mc_Sz_b G by' cy.1
  have hf6 : ∀ i, i < e + 1 → f i < 6 := fun i hi => by have := cy.1.2.1 i hi; omega
  refine mc_look d6 hf6 hw ?_
  have cnt : ∃ k', k' ≤ cc + 1 ∧ nI (k + 1) = nI k' ∧ (k' = 0 ↔ ∀ K g, ¬ (P K g ∨ (K = e + 1 ∧ ∀ i, i < e + 1 → g i = f i))) :=
    ⟨k + 1, by omega, rfl, ⟨fun h => by omega, fun h => absurd (Or.inr ⟨rfl, fun _ _ => rfl⟩) (h (e + 1) f)⟩⟩
  have fin : ∀ un' po' ma', (∀ a, a < 36 → (ma' a = 1 ↔ ∃ K g, (P K g ∨ (K = e + 1 ∧ ∀ i, i < e + 1 → g i = f i)) ∧ mc_Tg we ti by' t b K g ∧ ∃ i, i < K ∧ 6 * g i + g (mc_nx K i) = a) ∧ (ma' a = 0 ∨ ma' a = 1)) →
      (∀ x, x < 32 → (bt po' x = true ↔ ∃ K g, (P K g ∨ (K = e + 1 ∧ ∀ i, i < e + 1 → g i = f i)) ∧ mc_Tg we ti by' t b K g ∧ ∃ i, i < K ∧ g i = x)) →
      wY_look_104 post (iI (mc_S (mc_w we) (e + 1) f)) (iI (mc_S (mc_z by' ti) (e + 1) f)) (nI n) (nI (e + 1)) by' (nI k) (iI t) (iI b) po' 1 (iI bz) un' th we ti way nxt ma' := by
    intro un' po' ma' h1 h2
    exact br_f (by decide) (nm_r (nI_1 k) (H (fun K g => P K g ∨ (K = e + 1 ∧ ∀ i, i < e + 1 → g i = f i)) _ _ _ _ _ _ (fun K g => Iff.rfl) ⟨cnt, rfl, rfl, h1, h2⟩))
  have key : ∀ un', wY_look_78 post (iI (mc_S (mc_w we) (e + 1) f)) (iI (mc_S (mc_z by' ti) (e + 1) f)) (nI n) (nI (e + 1)) by' (nI k) (iI t) (iI b) po 1 (iI bz) un' th we ti way nxt ma := by
    intro un'
    have m1 := mc_mulb (x := t) (y := mc_S (mc_z by' ti) (e + 1) f) (X := 1000) (Y := 100) ht.1 ht.2 (by omega) (by omega)
    have m2 := mc_mulb (x := mc_S (mc_w we) (e + 1) f) (y := b) (X := 1000) (Y := 100) (by omega) (by omega) (by omega) (by omega)
    refine br_f (by decide) ?_
    rw [iI_mul, iI_mul, iI_eq ⟨by omega, by omega⟩ ⟨by omega, by omega⟩]
    refine br_c (fun z => mc_mark d6 hf6 hw (fun po' ma' h1 h2 => fin un' po' ma' (fun a ha => ⟨?_, ?_⟩) (fun x hx => ?_))) (fun z => fin un' po ma (fun a ha => ⟨?_, (hm a ha).2⟩) (fun x hx => ?_))
    · rw [(h1 a).1, (hm a ha).1]
      refine ⟨fun h => ?_, fun h => ?_⟩
      · rcases h with ⟨K, g, hg, tg, hi⟩ | hi
        · exact ⟨K, g, Or.inl hg, tg, hi⟩
        · exact ⟨e + 1, f, Or.inr ⟨rfl, fun _ _ => rfl⟩, z, hi⟩
      · obtain ⟨K, g, hg | ⟨rfl, hg⟩, tg, i, hi, ei⟩ := h
        · exact Or.inl ⟨K, g, hg, tg, i, hi, ei⟩
        · rw [hg i hi, hg _ (mc_nx_lt hi)] at ei
          exact Or.inr ⟨i, hi, ei⟩
    · rcases (h1 a).2 with h | h
      · rw [h]; exact (hm a ha).2
      · exact Or.inr h
    · rw [h2 x hx, hp x hx]
      refine ⟨fun h => ?_, fun h => ?_⟩
      · rcases h with ⟨K, g, hg, tg, hi⟩ | hi
        · exact ⟨K, g, Or.inl hg, tg, hi⟩
        · exact ⟨e + 1, f, Or.inr ⟨rfl, fun _ _ => rfl⟩, z, hi⟩
      · obtain ⟨K, g, hg | ⟨rfl, hg⟩, tg, i, hi, ei⟩ := h
        · exact Or.inl ⟨K, g, hg, tg, i, hi, ei⟩
        · rw [hg i hi] at ei
          exact Or.inr ⟨i, hi, ei⟩
    · rw [(hm a ha).1]
      refine ⟨fun ⟨K, g, hg, tg, hi⟩ => ⟨K, g, Or.inl hg, tg, hi⟩, fun h => ?_⟩
      obtain ⟨K, g, hg | ⟨rfl, hg⟩, tg, hi⟩ := h
      · exact ⟨K, g, hg, tg, hi⟩
      · exfalso
        unfold mc_Tg at tg
        rw [mc_S_c hg, mc_S_c hg] at tg
        exact z tg
    · rw [hp x hx]
      refine ⟨fun ⟨K, g, hg, tg, hi⟩ => ⟨K, g, Or.inl hg, tg, hi⟩, fun h => ?_⟩
      obtain ⟨K, g, hg | ⟨rfl, hg⟩, tg, hi⟩ := h
      · exact ⟨K, g, hg, tg, hi⟩
      · exfalso
        unfold mc_Tg at tg
        rw [mc_S_c hg, mc_S_c hg] at tg
        exact z tg
  exact br_c (fun _ => key un) (fun _ => key 1)
end
section
/-! ===== Y: search, common, answer, comesBack ===== -/
/-- what a search leaves -/
def mc_SR (n : Nat) (th we ti : Nat → Int32) (by' fo to bo po : Int32) (ma : Nat → Int32) : Prop :=
  ∃ t b, to = iI t ∧ bo = iI b ∧ (-1000 ≤ t ∧ t ≤ 1000) ∧ (0 < b ∧ b ≤ 100) ∧ (fo = 0 ↔ ∀ K g, ¬ mc_Cy n (mc_E th) K g) ∧
    ((∃ K g, mc_Cy n (mc_E th) K g) → (∃ K g, mc_Cy n (mc_E th) K g ∧ t = mc_S (mc_w we) K g ∧ b = mc_S (mc_z by' ti) K g) ∧ ∀ K g, mc_Cy n (mc_E th) K g → t * mc_S (mc_z by' ti) K g ≤ mc_S (mc_w we) K g * b) ∧
    (∀ a, a < 36 → (ma a = 1 ↔ ∃ K g, mc_Cy n (mc_E th) K g ∧ mc_Tg we ti by' t b K g ∧ ∃ i, i < K ∧ 6 * g i + g (mc_nx K i) = a) ∧ (ma a = 0 ∨ ma a = 1)) ∧
    (∀ x, x < 32 → (bt po x = true ↔ ∃ K g, mc_Cy n (mc_E th) K g ∧ mc_Tg we ti by' t b K g ∧ ∃ i, i < K ∧ g i = x))
theorem mc_m1000 : iI (-1000) = (-1000 : Int32) := by decide
theorem mc_sea43 {post : SY → Prop} {n : Nat} {dp by' fo un : Int32} {t b : Int} {th we ti way nxt : Nat → Int32} (G : mc_G n th we ti) (ht : -1000 ≤ t ∧ t ≤ 1000) (hb : 0 < b ∧ b ≤ 100)
    (hbest : (∃ K g, mc_Cy n (mc_E th) K g) → (∃ K g, mc_Cy n (mc_E th) K g ∧ t = mc_S (mc_w we) K g ∧ b = mc_S (mc_z by' ti) K g) ∧ ∀ K g, mc_Cy n (mc_E th) K g → t * mc_S (mc_z by' ti) K g ≤ mc_S (mc_w we) K g * b)
    (H : ∀ dp fo to bo po mk bd un way nxt ma, mc_SR n th we ti by' fo to bo po ma → post (nI n, dp, by', fo, to, bo, po, mk, bd, un, th, we, ti, way, nxt, ma)) :
    ∀ k j, j + k = 36 → ∀ m, k < m → ∀ ma : Nat → Int32, (∀ a, a < j → ma a = 0) → wY_search_43 post (nI n) dp by' fo (iI t) (iI b) 0 1 (-1000) un m (nI j) th we ti way nxt ma := by
  intro k
  induction k with
  | zero =>
    intro j hj m hm ma hma
    obtain ⟨m, rfl⟩ : ∃ m', m = m' + 1 := ⟨m - 1, by omega⟩
    have e : j = 36 := by omega
    subst e
    refine br_t (nI_le (a := 36) (b := 36) (Nat.le_refl _) (by decide)) ?_
    have lk := mc_A1_lk (bz := -1000) by' G ⟨by decide, by decide⟩ ht hb
    rw [mc_m1000] at lk
    refine mc_thr (A := mc_A1 we ti by' t b) G.2.1 mc_A1_m lk ⟨⟨0, Nat.le_refl _, rfl, ⟨fun _ _ _ h => h, fun _ => rfl⟩⟩, rfl, rfl, fun a ha => ?_, fun x _ => ?_⟩ ?_
    · rw [hma a ha]
      exact ⟨⟨fun h => absurd h (by decide), fun ⟨_, _, h, _⟩ => h.elim⟩, Or.inl rfl⟩
    · rw [b_0]
      exact ⟨fun h => absurd h (by decide), fun ⟨_, _, h, _⟩ => h.elim⟩
    · intro P dp fo to bo po un way nxt ma hP hA
      obtain ⟨⟨k, hk, hfo, k0⟩, hto, hbo, h1, h2⟩ := hA
      refine H _ _ _ _ _ _ _ _ _ _ _ ⟨t, b, hto, hbo, ht, hb, ?_, hbest, fun a ha => ⟨?_, (h1 a ha).2⟩, fun x hx => ?_⟩
      · rw [hfo]
        have e1 : nI k = 0 ↔ k = 0 := by
          show nI k = nI 0 ↔ k = 0
          exact nI_eq (by omega) (by omega)
        rw [e1, k0]
        exact ⟨fun h K g cy => h K g ((hP K g).mpr cy), fun h K g hp => h K g ((hP K g).mp hp)⟩
      · rw [(h1 a ha).1]
        exact ⟨fun ⟨K, g, p, q⟩ => ⟨K, g, (hP K g).mp p, q⟩, fun ⟨K, g, p, q⟩ => ⟨K, g, (hP K g).mpr p, q⟩⟩
      · rw [h2 x hx]
        exact ⟨fun ⟨K, g, p, q⟩ => ⟨K, g, (hP K g).mp p, q⟩, fun ⟨K, g, p, q⟩ => ⟨K, g, (hP K g).mpr p, q⟩⟩
  | succ k ih =>
    intro j hj m hm ma hma
    obtain ⟨m, rfl⟩ : ∃ m', m = m' + 1 := ⟨m - 1, by omega⟩
    refine br_f (nI_ge (b := 36) (by omega) (by decide)) ⟨vp_in_nI (by omega) (by omega), fun ma' e => nm_r (nI_1 j) (ih (j + 1) (by omega) m (by omega) ma' (fun a ha => ?_))⟩
    rw [nI_clamp (by omega)] at e
    have nb : vp_nar .boolean 0 = 0 := rfl
    rw [e, nb]
    by_cases z : a = j
    · rw [z, pk_us]
    · rw [pk_un z]; exact hma a (by omega)
theorem mc_sea {post : SY → Prop} {n : Nat} {dp by0 by' fo to bo po mk bd un : Int32} {th we ti way nxt ma : Nat → Int32} (G : mc_G n th we ti) (hby : by' = 0 ∨ by' = 1)
    (H : ∀ dp fo to bo po mk bd un way nxt ma, mc_SR n th we ti by' fo to bo po ma → post (nI n, dp, by', fo, to, bo, po, mk, bd, un, th, we, ti, way, nxt, ma)) :
    wpY_search post (nI n, dp, by0, fo, to, bo, po, mk, bd, un, th, we, ti, way, nxt, ma) by' := by
  refine ⟨by rcases hby with h | h <;> rw [h] <;> rfl, by rcases hby with h | h <;> rw [h] <;> rfl, ?_⟩
  have lk := mc_A0_lk (bz := -1000) by' un G ⟨by decide, by decide⟩
  rw [mc_m1000] at lk
  refine mc_thr (A := mc_A0 n th we ti by' (-1000) un) G.2.1 mc_A0_m lk ⟨⟨0, Nat.le_refl _, rfl, ⟨fun _ _ _ h => h, fun _ => rfl⟩⟩, ⟨0, 1, rfl, rfl, ⟨by decide, by decide⟩, ⟨by decide, by decide⟩, fun ⟨_, _, h⟩ => h.elim⟩, ⟨fun h => ⟨h, fun _ _ h => h.elim⟩, fun h => h.1⟩⟩ ?_
  intro P dp fo to bo po un way nxt ma hP hA
  obtain ⟨_, ⟨t, b, rfl, rfl, ht, hb, best⟩, _⟩ := hA
  refine ⟨37, mc_sea43 G ht hb (fun ⟨K, g, cy⟩ => ?_) H 36 0 rfl 37 (by omega) ma (fun a ha => absurd ha (Nat.not_lt_zero _))⟩
  obtain ⟨b1, b2⟩ := best ⟨K, g, (hP K g).mpr cy⟩
  exact ⟨b1, fun K g cy => (b2 K g ((hP K g).mpr cy)).2⟩
/-! common -/
def mc_gd : Nat → Nat → Nat → Prop
  | 0, x, _ => x = 0
  | m + 1, x, y => x = 0 ∨ mc_gd m (y % x) x
theorem mc_gd_ok : ∀ m x y, x < 2 ^ m → mc_gd (2 * m) x y := by
  intro m
  induction m with
  | zero => intro x y h; show x = 0; omega
  | succ m ih =>
    intro x y h
    have e : 2 * (m + 1) = 2 * m + 1 + 1 := by omega
    rw [e]
    by_cases z : x = 0
    · exact Or.inl z
    · refine Or.inr ?_
      have r1 : y % x < x := Nat.mod_lt _ (by omega)
      by_cases w : y % x = 0
      · exact Or.inl w
      · refine Or.inr (ih _ _ ?_)
        have r2 : x % (y % x) < y % x := Nat.mod_lt _ (by omega)
        have r3 : x % (y % x) + (y % x) ≤ x := by
          have d := Nat.div_add_mod x (y % x)
          have p : 0 < x / (y % x) := Nat.div_pos (by omega) (by omega)
          have q : y % x ≤ (y % x) * (x / (y % x)) := Nat.le_mul_of_pos_right _ p
          omega
        rw [Nat.pow_succ] at h
        omega
section
variable {N dp by' fo to bo po mk bd un : Int32} {th we ti way nxt ma : Nat → Int32}
theorem mc_com27 {post : Int32 → Prop} {g : Nat} (hg : 0 < g ∧ g ≤ 1000) (H : post (nI g)) :
    ∀ k i, i + k = 20 → ∀ m, k < m → ∀ x y, x ≤ 1000 → y ≤ 1000 → Nat.gcd x y = g → mc_gd k x y → wY_common_27 post N dp by' fo to bo po mk bd un th we ti way nxt ma m (nI x) (nI y) (nI i) := by
  intro k
  induction k with
  | zero =>
    intro i hi m hm x y hx hy e gd
    obtain ⟨m, rfl⟩ : ∃ m', m = m' + 1 := ⟨m - 1, by omega⟩
    have ei : i = 20 := by omega
    subst ei
    have x0 : x = 0 := gd
    subst x0
    rw [Nat.gcd_zero_left] at e
    subst e
    exact br_t (nI_le (a := 20) (b := 20) (Nat.le_refl _) (by decide)) (br_t (nI_le (a := 1) (by omega) (by omega)) H)
  | succ k ih =>
    intro i hi m hm x y hx hy e gd
    obtain ⟨m, rfl⟩ : ∃ m', m = m' + 1 := ⟨m - 1, by omega⟩
    refine br_f (nI_ge (b := 20) (by omega) (by decide)) ?_
    by_cases z : x = 0
    · subst z
      refine br_t rfl (nm_r (nI_1 i) (ih (i + 1) (by omega) m (by omega) 0 y hx hy e ?_))
      cases k with
      | zero => exact rfl
      | succ k => exact Or.inl rfl
    · have hx0 : ¬ nI x = 0 := nI_ne0 (by omega) (by omega)
      have lt : y % x < x := Nat.mod_lt _ (by omega)
      refine br_f hx0 (br_f hx0 ⟨hx0, nm_r (pk_rem (by omega) (by omega) (by omega)) (nm_r (nI_1 i) (ih (i + 1) (by omega) m (by omega) (y % x) x (by omega) hx ?_ ?_))⟩)
      · rw [← e]; exact (Nat.gcd_rec x y).symm
      · rcases gd with h | h
        · exact absurd h z
        · exact h
theorem mc_com {post : Int32 → Prop} {t b : Int} (ht : -1000 ≤ t ∧ t ≤ 1000) (hb : 0 < b ∧ b ≤ 100) (H : post (nI (Nat.gcd t.natAbs b.natAbs))) :
    wpY_common post (N, dp, by', fo, iI t, iI b, po, mk, bd, un, th, we, ti, way, nxt, ma) := by
  have gp : 0 < Nat.gcd t.natAbs b.natAbs := Nat.gcd_pos_of_pos_right _ (by omega)
  have gl : Nat.gcd t.natAbs b.natAbs ≤ b.natAbs := Nat.gcd_le_right _ (by omega)
  have W1 := mc_com27 (post := post) (N := N) (dp := dp) (by' := by') (fo := fo) (to := iI t) (bo := iI b) (po := po) (mk := mk) (bd := bd) (un := un) (th := th) (we := we) (ti := ti) (way := way) (nxt := nxt) (ma := ma) ⟨gp, by omega⟩ H 20 0 rfl 21 (by omega) t.natAbs b.natAbs (by omega) (by omega) rfl (mc_gd_ok 10 _ _ (by omega))
  have eb : iI b = nI b.natAbs := by
    rw [iI_n]; exact congrArg iI (by omega)
  have e0 : (0 : Int32) = iI 0 := rfl
  rw [← eb] at W1
  by_cases z : 0 ≤ t
  · have et : iI t = nI t.natAbs := by
      rw [iI_n]; exact congrArg iI (by omega)
    have h0 : (0 : Int32) ≤ iI t := by rw [e0, iI_le ⟨by omega, by omega⟩ ⟨by omega, by omega⟩]; exact z
    rw [← et] at W1
    exact br_t h0 ⟨21, W1⟩
  · have et : -iI t = nI t.natAbs := by
      rw [iI_n, iI_neg]; exact congrArg iI (by omega)
    have h0 : ¬ (0 : Int32) ≤ iI t := by rw [e0, iI_le ⟨by omega, by omega⟩ ⟨by omega, by omega⟩]; exact z
    exact br_f h0 (nm_r et ⟨21, W1⟩)
end
theorem iI_div {a b : Int} (ha : mc_sm3 a) (hb : mc_sm3 b) : iI a / iI b = iI (a.tdiv b) := by
  unfold mc_sm3 at ha hb
  have m1 : Int32.minValue.toInt = -2147483648 := by decide
  have m2 : Int32.maxValue.toInt = 2147483647 := by decide
  exact (Int32.ofInt_tdiv (by rw [m1]; omega) (by rw [m2]; omega) (by rw [m1]; omega) (by rw [m2]; omega)).symm
theorem mc_yans {post : Int32 → SY → Prop} {n : Nat} {dp by0 by' fo to bo po mk bd un p1 : Int32} {th we ti way nxt ma : Nat → Int32} (G : mc_G n th we ti) (hby : by' = 0 ∨ by' = 1)
    (H0 : (∀ K g, ¬ mc_Cy n (mc_E th) K g) → ∀ dp fo to bo po mk bd un way nxt ma, post (-1000) (nI n, dp, by', fo, to, bo, po, mk, bd, un, th, we, ti, way, nxt, ma))
    (H1 : ∀ t b, Nat.gcd t.natAbs b.natAbs = 1 → 0 < b → (∃ K g, mc_Cy n (mc_E th) K g ∧ mc_S (mc_w we) K g * b = t * mc_S (mc_z by' ti) K g) → (∀ K g, mc_Cy n (mc_E th) K g → t * mc_S (mc_z by' ti) K g ≤ mc_S (mc_w we) K g * b) →
      ∀ dp fo to bo po mk bd un way nxt ma, post (if p1 = 0 then iI b else iI t) (nI n, dp, by', fo, to, bo, po, mk, bd, un, th, we, ti, way, nxt, ma)) :
    wpY_answer post (nI n, dp, by0, fo, to, bo, po, mk, bd, un, th, we, ti, way, nxt, ma) by' p1 := by
  unfold wpY_answer
  dsimp only
  refine mc_sea G hby (fun dp fo to bo po mk bd un way nxt ma sr => ?_)
  obtain ⟨t, b, rfl, rfl, ht, hb, hfo, best, _, _⟩ := sr
  refine br_c (fun z => H0 (hfo.mp z) _ _ _ _ _ _ _ _ _ _ _) (fun z => mc_com ht hb ?_)
  have ex : ∃ K g, mc_Cy n (mc_E th) K g := by
    by_cases y : ∃ K g, mc_Cy n (mc_E th) K g
    · exact y
    · exact absurd (hfo.mpr (fun K g cy => y ⟨K, g, cy⟩)) z
  obtain ⟨⟨K, g, cy, et0, eb0⟩, bl⟩ := best ex
  have gp : 0 < Nat.gcd t.natAbs b.natAbs := Nat.gcd_pos_of_pos_right _ (by omega)
  have gl : Nat.gcd t.natAbs b.natAbs ≤ b.natAbs := Nat.gcd_le_right _ (by omega)
  have d1 : ((Nat.gcd t.natAbs b.natAbs : Nat) : Int) ∣ t := Int.ofNat_dvd_left.mpr (Nat.gcd_dvd_left _ _)
  have d2 : ((Nat.gcd t.natAbs b.natAbs : Nat) : Int) ∣ b := Int.ofNat_dvd_left.mpr (Nat.gcd_dvd_right _ _)
  generalize hq : Nat.gcd t.natAbs b.natAbs = q at gp gl d1 d2
  obtain ⟨t', et⟩ := d1
  obtain ⟨b', eb⟩ := d2
  rw [Int.mul_comm] at et eb
  have q0 : ¬ nI q = 0 := nI_ne0 gp (by omega)
  have q1 : iI t / nI q = iI t' := by
    rw [iI_n, iI_div ⟨by omega, by omega⟩ ⟨by omega, by omega⟩, et, Int.mul_tdiv_cancel _ (by omega)]
  have q2 : iI b / nI q = iI b' := by
    rw [iI_n, iI_div ⟨by omega, by omega⟩ ⟨by omega, by omega⟩, eb, Int.mul_tdiv_cancel _ (by omega)]
  have hb' : 0 < b' := by
    by_cases p : 0 < b'
    · exact p
    · have : b' * (q : Int) ≤ 0 := Int.mul_nonpos_of_nonpos_of_nonneg (by omega) (by omega)
      omega
  have hco : Nat.gcd t'.natAbs b'.natAbs = 1 := by
    have a1 : t.natAbs = t'.natAbs * q := by rw [et, Int.natAbs_mul]; rfl
    have a2 : b.natAbs = b'.natAbs * q := by rw [eb, Int.natAbs_mul]; rfl
    rw [a1, a2, Nat.gcd_mul_right] at hq
    have a3 : Nat.gcd t'.natAbs b'.natAbs * q = 1 * q := by rw [Nat.one_mul]; exact hq
    exact Nat.eq_of_mul_eq_mul_right (by omega) a3
  have HH := H1 t' b' hco hb' ⟨K, g, cy, by
    rw [← et0, ← eb0, et, eb, Int.mul_assoc, Int.mul_comm (q : Int) b']⟩ (fun K g cy => by
    have l := bl K g cy
    have e1 : t * mc_S (mc_z by' ti) K g = t' * mc_S (mc_z by' ti) K g * q := by rw [et, Int.mul_assoc, Int.mul_comm (q : Int), ← Int.mul_assoc]
    have e2 : mc_S (mc_w we) K g * b = mc_S (mc_w we) K g * b' * q := by rw [eb, ← Int.mul_assoc]
    rw [e1, e2] at l
    exact Int.le_of_mul_le_mul_right l (by omega))
  rw [q1, q2]
  refine br_c (fun y => ⟨q0, ?_⟩) (fun y => ⟨q0, ?_⟩)
  · have h := HH dp fo (iI t) (iI b) po mk bd un way nxt ma
    rw [if_pos y] at h
    exact h
  · have h := HH dp fo (iI t) (iI b) po mk bd un way nxt ma
    rw [if_neg y] at h
    exact h
/-! comesBack -/
theorem mc_K_n {n : Nat} {E : Nat → Nat → Prop} {K : Nat} {f : Nat → Nat} (h : mc_Cr n E K f) : K ≤ n := by
  by_cases z : K ≤ n
  · exact z
  · exfalso
    obtain ⟨i, j, hij, hj, e⟩ := mc_ph n f (fun i hi => h.2.1 i (by omega))
    exact h.2.2.1 i j hij (by omega) e
theorem mc_short {n : Nat} {E : Nat → Nat → Prop} (hE : ∀ u v, E u v → u < n ∧ v < n) {u : Nat} (h : mc_Pt E u u) : ∃ k, 0 < k ∧ k ≤ n ∧ mc_P E k u u := by
  obtain ⟨w, hw, hp⟩ := mc_Pt_i h
  obtain ⟨K, f, cy, i, hi, e1, e2⟩ := mc_cyc hE hw hp
  have b := mc_back cy.1 hi
  rw [e1, e2] at b
  have kn := mc_K_n cy.1
  refine ⟨1 + (K - 1), by omega, by have := cy.1.1; omega, mc_P_t (mc_P_1 hw) b⟩
def mc_Le (E : Nat → Nat → Prop) (r u x : Nat) : Prop := ∃ k, 0 < k ∧ k ≤ r ∧ mc_P E k u x
def mc_BI (E : Nat → Nat → Prop) (u r a : Nat) (s : Int32) : Prop :=
  (∀ x, x < 32 → bt s x = true → mc_Pt E u x) ∧ (∀ x, mc_Le E r u x → bt s x = true) ∧ (∀ y x, E y x → 6 * y + x < a → mc_Le E r u y → bt s x = true)
section
variable {N dp by' fo to bo po mk bd un : Int32} {th we ti way nxt ma : Nat → Int32}
theorem mc_cb49 {post : Int32 → Prop} {J : Int32 → Int32 → Prop} {x1 x3 : Int32} {u r : Nat} (hJ : ∀ s, mc_BI (mc_E th) u r 36 s → J s (x3 + 1)) :
    ∀ k a, a + k = 36 → ∀ m, k < m → ∀ s, mc_BI (mc_E th) u r a s → wY_comesBack_49 post J x1 x3 N dp by' fo to bo po mk bd un th we ti way nxt ma m s (nI a) := by
  intro k
  induction k with
  | zero =>
    intro a ha m hm s I
    obtain ⟨m, rfl⟩ : ∃ m', m = m' + 1 := ⟨m - 1, by omega⟩
    have e : a = 36 := by omega
    subst e
    exact br_t (nI_le (a := 36) (b := 36) (Nat.le_refl _) (by decide)) (nm_e (hJ s I))
  | succ k ih =>
    intro a ha m hm s I
    obtain ⟨m, rfl⟩ : ∃ m', m = m' + 1 := ⟨m - 1, by omega⟩
    have e1 : (nI a).toNatClampNeg = a := nI_clamp (by omega)
    have e2 : nI a / 6 = nI (a / 6) := pk_div (d := 6) (by omega) (by omega) (by omega)
    have e3 : nI a - nI (a / 6) * 6 = nI (a % 6) := by rw [← e2]; exact pk_rem (d := 6) (by omega) (by omega) (by omega)
    have e0 : 6 * (a / 6) + a % 6 = a := Nat.div_add_mod a 6
    obtain ⟨i1, i2, i3⟩ := I
    refine br_f (nI_ge (b := 36) (by omega) (by decide)) ⟨vp_in_nI (by omega) (by omega), ?_⟩
    rw [e1, e2, e3, mc_bit1 s (m := a / 6) (by omega)]
    have ext : ∀ y x, mc_E th y x → 6 * y + x < a + 1 → 6 * y + x < a ∨ (y = a / 6 ∧ x = a % 6) := by
      intro y x he h
      have b := mc_E6 y x he
      omega
    refine br_c (fun z => nm_r (nI_1 a) (ih (a + 1) (by omega) m (by omega) s ⟨i1, i2, fun y x he h hl => ?_⟩)) (fun z => ⟨by decide, br_c (fun w => ⟨by decide, nm_e (nm_r (nI_1 a) (ih (a + 1) (by omega) m (by omega) _ ⟨fun x hx hb => ?_, fun x hl => ?_, fun y x he h hl => ?_⟩))⟩) (fun w => nm_r (nI_1 a) (ih (a + 1) (by omega) m (by omega) s ⟨i1, i2, fun y x he h hl => ?_⟩))⟩)
    · rcases ext y x he h with h | ⟨h1, h2⟩
      · exact i3 y x he h hl
      · exfalso
        subst h1 h2
        have := he.2.2
        rw [e0] at this
        exact this z
    · rcases (mc_set s (by omega) hx).mp hb with h | h
      · exact i1 x hx h
      · subst h
        exact mc_Pt_t (i1 (a / 6) (by omega) w) (mc_Pt_1 ⟨by omega, by omega, by rw [e0]; exact z⟩)
    · have b := i2 x hl
      have hx : x < 32 := by
        by_cases q : x < 32
        · exact q
        · rw [b_big (by omega)] at b
          exact absurd b (by decide)
      exact (mc_set s (by omega) hx).mpr (Or.inl b)
    · have bx := mc_E6 y x he
      rcases ext y x he h with h | ⟨h1, h2⟩
      · exact (mc_set s (by omega) (by omega)).mpr (Or.inl (i3 y x he h hl))
      · exact (mc_set s (by omega) (by omega)).mpr (Or.inr h2)
    · rcases ext y x he h with h | ⟨h1, h2⟩
      · exact i3 y x he h hl
      · exfalso
        subst h1 h2
        exact w (i2 _ hl)
theorem mc_cb40 {post : Int32 → Prop} {u n : Nat} (hn : n ≤ 6) (hu : u < n) (hE : ∀ u v, mc_E th u v → u < n ∧ v < n) (H1 : mc_Pt (mc_E th) u u → post 1) (H0 : ¬ mc_Pt (mc_E th) u u → post 0) :
    ∀ k r, r + k = 6 → ∀ m, k < m → ∀ s, mc_BI (mc_E th) u (r + 1) 0 s → wY_comesBack_40 post (nI u) N dp by' fo to bo po mk bd un th we ti way nxt ma m s (nI r) := by
  intro k
  induction k with
  | zero =>
    intro r hr m hm s I
    obtain ⟨m, rfl⟩ : ∃ m', m = m' + 1 := ⟨m - 1, by omega⟩
    have e : r = 6 := by omega
    subst e
    refine br_t (nI_le (a := 6) (b := 6) (Nat.le_refl _) (by decide)) ?_
    rw [mc_bit1 s (m := u) (by omega)]
    refine br_c (fun z => H1 (I.1 u (by omega) z)) (fun z => H0 (fun hp => z (I.2.1 u ?_)))
    obtain ⟨k, k0, kn, pk⟩ := mc_short hE hp
    exact ⟨k, k0, by omega, pk⟩
  | succ k ih =>
    intro r hr m hm s I
    obtain ⟨m, rfl⟩ : ∃ m', m = m' + 1 := ⟨m - 1, by omega⟩
    refine br_f (nI_ge (b := 6) (by omega) (by decide)) ⟨37, mc_cb49 (fun s' I' => ?_) 36 0 rfl 37 (by omega) s I⟩
    rw [nI_1]
    refine ih (r + 1) (by omega) m (by omega) s' ⟨I'.1, fun x hl => ?_, fun y x _ h => by omega⟩
    obtain ⟨k', k0, kn, pk⟩ := hl
    by_cases z : k' ≤ r + 1
    · exact I'.2.1 x ⟨k', k0, z, pk⟩
    · have ek : k' = r + 1 + 1 := by omega
      subst ek
      obtain ⟨p, p0, pk, pe⟩ := pk
      have he := pe (r + 1) (by omega)
      rw [pk] at he
      have b := mc_E6 _ _ he
      exact I'.2.2 (p (r + 1)) x he (by omega) ⟨r + 1, by omega, Nat.le_refl _, p, p0, rfl, fun i hi => pe i (by omega)⟩
theorem mc_cb4 {post : Int32 → Prop} {u n : Nat} (hn : n ≤ 6) (hu : u < n) (hE : ∀ u v, mc_E th u v → u < n ∧ v < n) (H1 : mc_Pt (mc_E th) u u → post 1) (H0 : ¬ mc_Pt (mc_E th) u u → post 0) :
    ∀ k i, i + k = n → ∀ m, k < m → ∀ s, (∀ x, x < 32 → (bt s x = true ↔ mc_E th u x ∧ x < i)) → wY_comesBack_4 post (nI u) (nI n) dp by' fo to bo po mk bd un th we ti way nxt ma m s (nI i) := by
  intro k
  induction k with
  | zero =>
    intro i hi m hm s I
    obtain ⟨m, rfl⟩ : ∃ m', m = m' + 1 := ⟨m - 1, by omega⟩
    have e : i = n := by omega
    subst e
    refine br_t (nI_le (Nat.le_refl _) (by omega)) ⟨7, mc_cb40 hn hu hE H1 H0 6 0 rfl 7 (by omega) s ⟨fun x hx hb => mc_Pt_1 ((I x hx).mp hb).1, fun x hl => ?_, fun y x _ h => by omega⟩⟩
    obtain ⟨k, k0, kn, p, p0, pk, pe⟩ := hl
    have ek : k = 1 := by omega
    subst ek
    have he := pe 0 (by omega)
    rw [p0, Nat.zero_add, pk] at he
    have b := hE _ _ he
    exact (I x (by omega)).mpr ⟨he, b.2⟩
  | succ k ih =>
    intro i hi m hm s I
    obtain ⟨m, rfl⟩ : ∃ m', m = m' + 1 := ⟨m - 1, by omega⟩
    refine br_f (nI_ge (by omega) (by omega)) ?_
    rw [mc_ix, nI_clamp (n := 6 * u + i) (by omega)]
    refine ⟨vp_in_nI (by omega) (by omega), br_c (fun z => nm_r (nI_1 i) (ih (i + 1) (by omega) m (by omega) s (mc_row I (Or.inl ⟨fun h => h.2.2 z, fun _ _ => Iff.rfl⟩)))) (fun z => nm_e (nm_r (nI_1 i) (ih (i + 1) (by omega) m (by omega) _ (mc_row I (Or.inr ⟨⟨by omega, by omega, z⟩, fun x hx => mc_set s (by omega) hx⟩)))))⟩
theorem mc_cb' {post : Int32 → Prop} {u n : Nat} (hn : n ≤ 6) (hu : u < n) (hE : ∀ u v, mc_E th u v → u < n ∧ v < n) (H1 : mc_Pt (mc_E th) u u → post 1) (H0 : ¬ mc_Pt (mc_E th) u u → post 0) :
    wpY_comesBack post (nI n, dp, by', fo, to, bo, po, mk, bd, un, th, we, ti, way, nxt, ma) (nI u) :=
  ⟨n + 1, mc_cb4 hn hu hE H1 H0 n 0 (by omega) (n + 1) (by omega) 0 (fun x _ => ⟨fun h => absurd h (by rw [b_0]; decide), fun h => absurd h.2 (Nat.not_lt_zero _)⟩)⟩
theorem mc_yonC4 {post : Int32 → Prop} {n : Nat} (hn : n ≤ 6) (hE : ∀ u v, mc_E th u v → u < n ∧ v < n) (H : ∀ r, (∀ i, i < 32 → (bt r i = true ↔ i < n ∧ mc_Pt (mc_E th) i i)) → post r) :
    ∀ k j, j + k = n → ∀ m, k < m → ∀ r, (∀ i, i < 32 → (bt r i = true ↔ mc_Pt (mc_E th) i i ∧ i < j)) → wY_onCircle_4 post (nI n) dp by' fo to bo po mk bd un th we ti way nxt ma m r (nI j) := by
  intro k
  induction k with
  | zero =>
    intro j hj m hm r h
    obtain ⟨m, rfl⟩ : ∃ m', m = m' + 1 := ⟨m - 1, by omega⟩
    have e : j = n := by omega
    subst e
    refine br_t (nI_le (Nat.le_refl _) (by omega)) (H r (fun i hi => ?_))
    rw [h i hi]
    exact ⟨fun g => ⟨g.2, g.1⟩, fun g => ⟨g.2, g.1⟩⟩
  | succ k ih =>
    intro j hj m hm r h
    obtain ⟨m, rfl⟩ : ∃ m', m = m' + 1 := ⟨m - 1, by omega⟩
    refine br_f (nI_ge (by omega) (by omega)) (mc_cb' hn (by omega) hE (fun z => br_f (by decide) (nm_e (nm_r (nI_1 j) (ih (j + 1) (by omega) m (by omega) _ (mc_row h (Or.inr ⟨z, fun x hx => mc_set r (by omega) hx⟩)))))) (fun z => br_t rfl (nm_r (nI_1 j) (ih (j + 1) (by omega) m (by omega) r (mc_row h (Or.inl ⟨z, fun _ _ => Iff.rfl⟩))))))
theorem mc_yonC {post : Int32 → Prop} {n : Nat} (hn : n ≤ 6) (hE : ∀ u v, mc_E th u v → u < n ∧ v < n) (H : ∀ r, (∀ i, i < 32 → (bt r i = true ↔ i < n ∧ mc_Pt (mc_E th) i i)) → post r) :
    wpY_onCircle post (nI n, dp, by', fo, to, bo, po, mk, bd, un, th, we, ti, way, nxt, ma) :=
  ⟨n + 1, mc_yonC4 hn hE H n 0 (by omega) (n + 1) (by omega) 0 (fun i _ => ⟨fun h => absurd h (by rw [b_0]; decide), fun h => absurd h.2 (Nat.not_lt_zero _)⟩)⟩
end
end
section
/-! ===== where the two meet ===== -/
theorem mc_cop {t b T B : Int} (hb : 0 < b) (hB : 0 < B) (h1 : Nat.gcd t.natAbs b.natAbs = 1) (h2 : Nat.gcd T.natAbs B.natAbs = 1) (h : t * B = T * b) : t = T ∧ b = B := by
  have e : t.natAbs * B.natAbs = T.natAbs * b.natAbs := by rw [← Int.natAbs_mul, ← Int.natAbs_mul, h]
  have d1 : b.natAbs ∣ B.natAbs := by
    have c1 : Nat.Coprime b.natAbs t.natAbs := by rw [Nat.coprime_comm]; exact h1
    exact Nat.Coprime.dvd_of_dvd_mul_left c1 ⟨T.natAbs, by rw [e, Nat.mul_comm]⟩
  have d2 : B.natAbs ∣ b.natAbs := by
    have c1 : Nat.Coprime B.natAbs T.natAbs := by rw [Nat.coprime_comm]; exact h2
    exact Nat.Coprime.dvd_of_dvd_mul_left c1 ⟨t.natAbs, by rw [← e, Nat.mul_comm]⟩
  have e2 : b.natAbs = B.natAbs := Nat.dvd_antisymm d1 d2
  have e3 : b = B := by omega
  subst e3
  exact ⟨Int.eq_of_mul_eq_mul_right (by omega) h, rfl⟩
/-- no circle has a smaller ratio -/
def mc_Best (n : Nat) (th we ti : Nat → Int32) (by' : Int32) (K : Nat) (g : Nat → Nat) : Prop :=
  ∀ K' g', mc_Cy n (mc_E th) K' g' → mc_S (mc_w we) K g * mc_S (mc_z by' ti) K' g' ≤ mc_S (mc_w we) K' g' * mc_S (mc_z by' ti) K g
section
variable {n : Nat} {th we ti : Nat → Int32} {by' : Int32} {t b : Int}
theorem mc_Sz_pos (G : mc_G n th we ti) (by' : Int32) {K : Nat} {g : Nat → Nat} (cy : mc_Cy n (mc_E th) K g) : 0 < mc_S (mc_z by' ti) K g := by
  have h := mc_Sz_b G by' cy.1
  have := cy.1.1
  omega
theorem mc_opt_le (o : mc_Opt n th we ti by' t b) {K : Nat} {g : Nat → Nat} (cy : mc_Cy n (mc_E th) K g) : t * mc_S (mc_z by' ti) K g ≤ mc_S (mc_w we) K g * b := by
  obtain ⟨_, _, _, ⟨d, hd⟩, _⟩ := o
  have h := mc_pot_nn hd cy.1
  rw [mc_S_lin] at h
  omega
theorem mc_opt_best (G : mc_G n th we ti) (o : mc_Opt n th we ti by' t b) {K : Nat} {g : Nat → Nat} (cy : mc_Cy n (mc_E th) K g) : mc_S (mc_c by' we ti t b) K g = 0 ↔ mc_Best n th we ti by' K g := by
  have hb := o.2.2.1.1
  have le := mc_opt_le o cy
  rw [mc_S_lin]
  constructor
  · intro h K' g' cy'
    have p' := mc_Sz_pos G by' cy'
    have p := mc_Sz_pos G by' cy
    exact mc_frac hb (by omega) (by omega) (by omega) (mc_opt_le o cy')
  · intro h
    obtain ⟨_, _, _, _, K0, g0, cy0, z0⟩ := o
    rw [mc_S_lin] at z0
    have p0 := mc_Sz_pos G by' cy0
    have p := mc_Sz_pos G by' cy
    have := mc_frac p0 (by omega) (by omega) (h K0 g0 cy0) (show mc_S (mc_w we) K0 g0 * b ≤ t * mc_S (mc_z by' ti) K0 g0 by omega)
    omega
theorem mc_opt_eq (G : mc_G n th we ti) (o : mc_Opt n th we ti by' t b) {T B : Int} (hg : Nat.gcd T.natAbs B.natAbs = 1) (hB : 0 < B) (h1 : ∃ K g, mc_Cy n (mc_E th) K g ∧ mc_S (mc_w we) K g * B = T * mc_S (mc_z by' ti) K g)
    (h2 : ∀ K g, mc_Cy n (mc_E th) K g → T * mc_S (mc_z by' ti) K g ≤ mc_S (mc_w we) K g * B) : t = T ∧ b = B := by
  have hb := o.2.2.1.1
  refine mc_cop hb hB o.1 hg ?_
  obtain ⟨K1, g1, cy1, e1⟩ := h1
  have le1 := mc_opt_le o cy1
  have p1 := mc_Sz_pos G by' cy1
  have a1 : t * B ≤ T * b := mc_frac p1 (by omega) (by omega) le1 (by omega)
  obtain ⟨_, _, _, _, K0, g0, cy0, z0⟩ := o
  rw [mc_S_lin] at z0
  have le0 := h2 K0 g0 cy0
  have p0 := mc_Sz_pos G by' cy0
  have a2 : T * b ≤ t * B := mc_frac p0 (by omega) (by omega) le0 (by omega)
  omega
theorem mc_sr_best (G : mc_G n th we ti) (hb : 0 < b) (h1 : ∃ K g, mc_Cy n (mc_E th) K g ∧ t = mc_S (mc_w we) K g ∧ b = mc_S (mc_z by' ti) K g)
    (h2 : ∀ K g, mc_Cy n (mc_E th) K g → t * mc_S (mc_z by' ti) K g ≤ mc_S (mc_w we) K g * b) {K : Nat} {g : Nat → Nat} (cy : mc_Cy n (mc_E th) K g) : mc_Tg we ti by' t b K g ↔ mc_Best n th we ti by' K g := by
  unfold mc_Tg
  have le := h2 K g cy
  constructor
  · intro h K' g' cy'
    have p' := mc_Sz_pos G by' cy'
    have p := mc_Sz_pos G by' cy
    exact mc_frac hb (by omega) (by omega) (by omega) (h2 K' g' cy')
  · intro h
    obtain ⟨K0, g0, cy0, e1, e2⟩ := h1
    have := h K0 g0 cy0
    rw [← e1, ← e2] at this
    omega
/-- X's test of an arc -/
theorem mc_tq (G : mc_G n th we ti) (o : mc_Opt n th we ti by' t b) {d : Nat → Int} (hd : mc_Pot (mc_E th) (mc_c by' we ti t b) d) (u v : Nat) :
    (mc_Ti (mc_E th) (mc_c by' we ti t b) d u v ∧ (u = v ∨ mc_Pt (mc_Ti (mc_E th) (mc_c by' we ti t b) d) v u)) ↔
      ∃ K g, mc_Cy n (mc_E th) K g ∧ mc_Best n th we ti by' K g ∧ ∃ i, i < K ∧ g i = u ∧ g (mc_nx K i) = v := by
  constructor
  · rintro ⟨h1, h2⟩
    obtain ⟨K, g, cy, i, hi, e1, e2⟩ := mc_cyc (n := n) (fun a b h => mc_En G a b h.1) h1 (by
      rcases h2 with h | ⟨k, _, hk⟩
      · subst h; exact ⟨0, mc_P_0 _ _⟩
      · exact ⟨k, hk⟩)
    obtain ⟨cy', z⟩ := mc_ti_z cy
    exact ⟨K, g, cy', (mc_opt_best G o cy').mp z, i, hi, e1, e2⟩
  · rintro ⟨K, g, cy, best, i, hi, e1, e2⟩
    have z := (mc_opt_best G o cy).mpr best
    have ct := mc_pot_z hd cy (by omega)
    have a := ct.1.2.2.2 i hi
    have p := mc_back ct.1 hi
    rw [e1, e2] at a p
    refine ⟨a, ?_⟩
    by_cases q : K - 1 = 0
    · rw [q] at p
      obtain ⟨r, r0, r1, _⟩ := p
      exact Or.inl (by rw [← r1, r0])
    · exact Or.inr ⟨K - 1, by omega, p⟩
theorem mc_pq (G : mc_G n th we ti) (o : mc_Opt n th we ti by' t b) {d : Nat → Int} (hd : mc_Pot (mc_E th) (mc_c by' we ti t b) d) (x : Nat) :
    mc_Pt (mc_Ti (mc_E th) (mc_c by' we ti t b) d) x x ↔ ∃ K g, mc_Cy n (mc_E th) K g ∧ mc_Best n th we ti by' K g ∧ ∃ i, i < K ∧ g i = x := by
  constructor
  · intro h
    obtain ⟨w, hw, hp⟩ := mc_Pt_i h
    obtain ⟨K, g, cy, i, hi, e1, e2⟩ := mc_cyc (n := n) (fun a b h => mc_En G a b h.1) hw hp
    obtain ⟨cy', z⟩ := mc_ti_z cy
    exact ⟨K, g, cy', (mc_opt_best G o cy').mp z, i, hi, e1⟩
  · rintro ⟨K, g, cy, best, i, hi, e1⟩
    have z := (mc_opt_best G o cy).mpr best
    have ct := mc_pot_z hd cy (by omega)
    have r := mc_round ct.1 hi
    rw [e1] at r
    exact r
end
/-- what Y's search marks, without its numbers -/
theorem mc_sr_m {n : Nat} {th we ti : Nat → Int32} {by' fo to bo po : Int32} {ma : Nat → Int32} (G : mc_G n th we ti) (sr : mc_SR n th we ti by' fo to bo po ma) :
    (∀ u v, u < n → v < n → (ma (6 * u + v) = 1 ↔ ∃ K g, mc_Cy n (mc_E th) K g ∧ mc_Best n th we ti by' K g ∧ ∃ i, i < K ∧ g i = u ∧ g (mc_nx K i) = v) ∧ (ma (6 * u + v) = 0 ∨ ma (6 * u + v) = 1)) ∧
    (∀ x, x < 32 → (bt po x = true ↔ ∃ K g, mc_Cy n (mc_E th) K g ∧ mc_Best n th we ti by' K g ∧ ∃ i, i < K ∧ g i = x)) := by
  have hn := G.2.1
  obtain ⟨t, b, _, _, ht, hb, hfo, best, hm, hp⟩ := sr
  have key : ∀ K g, mc_Cy n (mc_E th) K g → (mc_Tg we ti by' t b K g ↔ mc_Best n th we ti by' K g) := fun K g cy => by
    obtain ⟨b1, b2⟩ := best ⟨K, g, cy⟩
    exact mc_sr_best G hb.1 b1 b2 cy
  refine ⟨fun u v hu hv => ⟨?_, (hm _ (by omega)).2⟩, fun x hx => ?_⟩
  · rw [(hm (6 * u + v) (by omega)).1]
    constructor
    · rintro ⟨K, g, cy, tg, i, hi, e⟩
      have c1 := cy.1.2.1 i hi
      have c2 := cy.1.2.1 _ (mc_nx_lt hi)
      exact ⟨K, g, cy, (key K g cy).mp tg, i, hi, by omega, by omega⟩
    · rintro ⟨K, g, cy, bs, i, hi, e1, e2⟩
      exact ⟨K, g, cy, (key K g cy).mpr bs, i, hi, by rw [e1, e2]⟩
  · rw [hp x hx]
    constructor
    · rintro ⟨K, g, cy, tg, hi⟩
      exact ⟨K, g, cy, (key K g cy).mp tg, hi⟩
    · rintro ⟨K, g, cy, bs, hi⟩
      exact ⟨K, g, cy, (key K g cy).mpr bs, hi⟩
/-! points and arcs -/
theorem mc_xip {post : Int32 → Prop} {n : Nat} {T B : Int64} {th we ti : Nat → Int32} {W D : Nat → Int64} {C Rc : Nat → Int32} (hn : n ≤ 6) {p : Int32}
    (H1 : ∀ a, a < n → p = nI a → post 1) (H0 : (¬ ∃ a, a < n ∧ p = nI a) → post 0) : wpX_isPoint post (nI n, T, B, th, we, ti, W, D, C, Rc) p := by
  have no1 : p < 0 → ¬ ∃ a, a < n ∧ p = nI a := by
    rintro h ⟨a, ha, rfl⟩
    exact nI_pos (by omega) h
  have no2 : nI n ≤ p → ¬ ∃ a, a < n ∧ p = nI a := by
    rintro h ⟨a, ha, rfl⟩
    exact nI_ge ha (by omega) h
  refine br_c (fun z => H0 (no1 z)) (fun z => br_c (fun y => H0 (no2 y)) (fun y => ?_))
  rcases pk_ix p (n := n) (by omega) with h | h | ⟨j, hj, h⟩
  · exact absurd h z
  · exact absurd h y
  · exact H1 j hj h
theorem mc_yip {post : Int32 → Prop} {n : Nat} {dp by' fo to bo po mk bd un : Int32} {th we ti way nxt ma : Nat → Int32} (hn : n ≤ 6) {p : Int32}
    (H1 : ∀ a, a < n → p = nI a → post 1) (H0 : (¬ ∃ a, a < n ∧ p = nI a) → post 0) : wpY_isPoint post (nI n, dp, by', fo, to, bo, po, mk, bd, un, th, we, ti, way, nxt, ma) p := by
  have no1 : p < 0 → ¬ ∃ a, a < n ∧ p = nI a := by
    rintro h ⟨a, ha, rfl⟩
    exact nI_pos (by omega) h
  have no2 : nI n ≤ p → ¬ ∃ a, a < n ∧ p = nI a := by
    rintro h ⟨a, ha, rfl⟩
    exact nI_ge ha (by omega) h
  refine br_c (fun z => H0 (no1 z)) (fun z => br_c (fun y => H0 (no2 y)) (fun y => ?_))
  rcases pk_ix p (n := n) (by omega) with h | h | ⟨j, hj, h⟩
  · exact absurd h z
  · exact absurd h y
  · exact H1 j hj h
theorem mc_inj {a b : Nat} (ha : a < 7) (hb : b < 7) (h : nI a = nI b) : a = b := (nI_eq (by omega) (by omega)).mp h
def mc_arcOk (n : Nat) (p0 p1 p2 p3 : Int32) : Prop := (∃ a, a < n ∧ p0 = nI a) ∧ (∃ a, a < n ∧ p1 = nI a) ∧ ¬ p2 < (-20) ∧ ¬ 20 < p2 ∧ ¬ p3 < 1 ∧ p3 ≤ 5
theorem mc_xarc {post : Int32 → SX → Prop} {n : Nat} {T B : Int64} {th we ti : Nat → Int32} {W D : Nat → Int64} {C Rc : Nat → Int32} (hn : n ≤ 6) {p0 p1 p2 p3 : Int32}
    (H0 : ¬ mc_arcOk n p0 p1 p2 p3 → post 0 (nI n, T, B, th, we, ti, W, D, C, Rc))
    (H1 : mc_arcOk n p0 p1 p2 p3 → ∀ a b, a < n → b < n → p0 = nI a → p1 = nI b → post 1 (nI n, T, B, upd th (6 * a + b) 1, upd we (6 * a + b) p2, upd ti (6 * a + b) p3, W, D, C, Rc)) :
    wpX_arc post (nI n, T, B, th, we, ti, W, D, C, Rc) p0 p1 p2 p3 := by
  unfold wpX_arc
  dsimp only
  refine mc_xip hn (fun a ha ea => br_f (by decide) ?_) (fun h => br_t rfl (H0 (fun h' => h h'.1)))
  refine mc_xip hn (fun b hb eb => br_f (by decide) ?_) (fun h => br_t rfl (H0 (fun h' => h h'.2.1)))
  refine br_c (fun z => H0 (fun h => h.2.2.1 z)) (fun z1 => br_c (fun z => H0 (fun h => h.2.2.2.1 z)) (fun z2 => br_c (fun z => H0 (fun h => h.2.2.2.2.1 z)) (fun z3 => br_c (fun z4 => ?_) (fun z => H0 (fun h => z h.2.2.2.2.2)))))
  have ok : mc_arcOk n p0 p1 p2 p3 := ⟨⟨a, ha, ea⟩, ⟨b, hb, eb⟩, z1, z2, z3, z4⟩
  have HH := H1 ok a b ha hb ea eb
  have l1 : (-20 : Int32).toInt = -20 := by decide
  have l2 : (20 : Int32).toInt = 20 := by decide
  have l3 : (1 : Int32).toInt = 1 := by decide
  have l4 : (5 : Int32).toInt = 5 := by decide
  rw [Int32.lt_iff_toInt_lt, l1] at z1
  rw [Int32.lt_iff_toInt_lt, l2] at z2
  rw [Int32.lt_iff_toInt_lt, l3] at z3
  rw [Int32.le_iff_toInt_le, l4] at z4
  have w1 : vp_nar .byte p2.toInt8.toInt32 = p2 := by rw [pk_vb]; exact lg_i2b_small (by omega) (by omega)
  have w2 : vp_nar .byte p3.toInt8.toInt32 = p3 := by rw [pk_vb]; exact lg_i2b_small (by omega) (by omega)
  have w3 : vp_nar .boolean 1 = 1 := rfl
  have ix : (6 : Int32) * p0 + p1 = nI (6 * a + b) := by rw [ea, eb]; exact mc_ix a b
  rw [ix, nI_clamp (by omega), w1, w2, w3]
  have hi : vp_in (nI (6 * a + b)) 36 := vp_in_nI (by omega) (by omega)
  exact ⟨hi, nm_e ⟨hi, nm_e ⟨hi, nm_e HH⟩⟩⟩
theorem mc_yarc {post : Int32 → SY → Prop} {n : Nat} {dp by' fo to bo po mk bd un : Int32} {th we ti way nxt ma : Nat → Int32} (hn : n ≤ 6) {p0 p1 p2 p3 : Int32}
    (H0 : ¬ mc_arcOk n p0 p1 p2 p3 → post 0 (nI n, dp, by', fo, to, bo, po, mk, bd, un, th, we, ti, way, nxt, ma))
    (H1 : mc_arcOk n p0 p1 p2 p3 → ∀ a b, a < n → b < n → p0 = nI a → p1 = nI b → post 1 (nI n, dp, by', fo, to, bo, po, mk, bd, un, upd th (6 * a + b) 1, upd we (6 * a + b) p2, upd ti (6 * a + b) p3, way, nxt, ma)) :
    wpY_arc post (nI n, dp, by', fo, to, bo, po, mk, bd, un, th, we, ti, way, nxt, ma) p0 p1 p2 p3 := by
  unfold wpY_arc
  dsimp only
  refine mc_yip hn (fun a ha ea => br_f (by decide) ?_) (fun h => br_t rfl (H0 (fun h' => h h'.1)))
  refine mc_yip hn (fun b hb eb => br_f (by decide) ?_) (fun h => br_t rfl (H0 (fun h' => h h'.2.1)))
  refine br_c (fun z => H0 (fun h => h.2.2.1 z)) (fun z1 => br_c (fun z => H0 (fun h => h.2.2.2.1 z)) (fun z2 => br_c (fun z => H0 (fun h => h.2.2.2.2.1 z)) (fun z3 => br_c (fun z4 => ?_) (fun z => H0 (fun h => z h.2.2.2.2.2)))))
  have ok : mc_arcOk n p0 p1 p2 p3 := ⟨⟨a, ha, ea⟩, ⟨b, hb, eb⟩, z1, z2, z3, z4⟩
  have HH := H1 ok a b ha hb ea eb
  have w3 : vp_nar .boolean 1 = 1 := rfl
  have ix : (6 : Int32) * p0 + p1 = nI (6 * a + b) := by rw [ea, eb]; exact mc_ix a b
  rw [ix, nI_clamp (by omega), w3]
  have hi : vp_in (nI (6 * a + b)) 36 := vp_in_nI (by omega) (by omega)
  exact ⟨hi, nm_e ⟨hi, nm_e ⟨hi, nm_e HH⟩⟩⟩
theorem mc_G_arc {n : Nat} {th we ti : Nat → Int32} (G : mc_G n th we ti) {p0 p1 p2 p3 : Int32} (ok : mc_arcOk n p0 p1 p2 p3) {a b : Nat} (ha : a < n) (hb : b < n) :
    mc_G n (upd th (6 * a + b) 1) (upd we (6 * a + b) p2) (upd ti (6 * a + b) p3) := by
  obtain ⟨_, _, z1, z2, z3, z4⟩ := ok
  have l1 : (-20 : Int32).toInt = -20 := by decide
  have l2 : (20 : Int32).toInt = 20 := by decide
  have l3 : (1 : Int32).toInt = 1 := by decide
  have l4 : (5 : Int32).toInt = 5 := by decide
  rw [Int32.lt_iff_toInt_lt, l1] at z1
  rw [Int32.lt_iff_toInt_lt, l2] at z2
  rw [Int32.lt_iff_toInt_lt, l3] at z3
  rw [Int32.le_iff_toInt_le, l4] at z4
  have hn := G.2.1
  refine ⟨G.1, hn, fun u v he => ?_⟩
  unfold mc_w
  by_cases q : 6 * u + v = 6 * a + b
  · have b1 := mc_E6 _ _ he
    rw [q, pk_us, pk_us]
    exact ⟨by omega, by omega, by omega, by omega, by omega, by omega⟩
  · rw [pk_un q, pk_un q]
    have he' : mc_E th u v := ⟨he.1, he.2.1, by have := he.2.2; rw [pk_un q] at this; exact this⟩
    exact G.2.2 u v he'
theorem mc_G_cut {n : Nat} {th we ti : Nat → Int32} (G : mc_G n th we ti) (a : Nat) : mc_G n (upd th a 0) we ti := by
  refine ⟨G.1, G.2.1, fun u v he => G.2.2 u v ⟨he.1, he.2.1, ?_⟩⟩
  have h := he.2.2
  by_cases q : 6 * u + v = a
  · rw [q, pk_us] at h
    exact absurd rfl h
  · rw [pk_un q] at h
    exact h
end
section
/-! ===== the owed names ===== -/
/-- the two graphs are the same, and well formed -/
def i_Rel (_ : Nat) (u : SX) (v : SY) : Prop := match u, v with
  | (N, _, _, th, we, ti, _, _, _, _), (N', _, _, _, _, _, _, _, _, _, th', we', ti', _, _, _) => ∃ n, N = nI n ∧ N' = nI n ∧ th' = th ∧ we' = we ∧ ti' = ti ∧ mc_G n th we ti
theorem mc_in {k n : Nat} {T B : Int64} {th we ti : Nat → Int32} {W D : Nat → Int64} {C Rc : Nat → Int32} {dp by' fo to bo po mk bd un : Int32} {way nxt ma : Nat → Int32} (G : mc_G n th we ti) :
    i_Rel k (nI n, T, B, th, we, ti, W, D, C, Rc) (nI n, dp, by', fo, to, bo, po, mk, bd, un, th, we, ti, way, nxt, ma) := ⟨n, rfl, rfl, rfl, rfl, rfl, G⟩
theorem mc_el {k : Nat} {u : SX} {v : SY} {P : SX → SY → Prop} (I : i_Rel k u v)
    (h : ∀ (n : Nat) (T B : Int64) (th we ti : Nat → Int32) (W D : Nat → Int64) (C Rc : Nat → Int32) (dp by' fo to bo po mk bd un : Int32) (way nxt ma : Nat → Int32), mc_G n th we ti →
      P (nI n, T, B, th, we, ti, W, D, C, Rc) (nI n, dp, by', fo, to, bo, po, mk, bd, un, th, we, ti, way, nxt, ma)) : P u v := by
  obtain ⟨N, T, B, th, we, ti, W, D, C, Rc⟩ := u
  obtain ⟨N', dp, by', fo, to, bo, po, mk, bd, un, th', we', ti', way, nxt, ma⟩ := v
  obtain ⟨n, h1, h2, h3, h4, h5, G⟩ := I
  subst h1 h2 h3 h4 h5
  exact h _ _ _ _ _ _ _ _ _ _ _ _ _ _ _ _ _ _ _ _ _ _ G
theorem i_up {k : Nat} {u : SX} {v : SY} (h : i_Rel k u v) : i_Rel (k + 5) u v := h
theorem mc_G_0 {n : Nat} (h1 : 1 ≤ n) (h6 : n ≤ 6) : mc_G n (fun _ => 0) (fun _ => 0) (fun _ => 0) := ⟨h1, h6, fun u v he => absurd rfl he.2.2⟩
theorem i_vc0 (k0 : Int32) : wpX_init (fun u => wpY_init (fun v => i_Rel 1 u v) k0) k0 := by
  unfold wpX_init wpY_init
  refine br_c (fun z => br_c (fun y => br_t z (br_t y ?_)) (fun y => br_t z (br_f y ?_))) (fun z => br_f z ?_)
  · have z0 : ¬ k0 < 0 := by
      rw [Int32.le_iff_toInt_le] at z
      rw [Int32.lt_iff_toInt_lt]
      have l1 : (1 : Int32).toInt = 1 := by decide
      have l0 : (0 : Int32).toInt = 0 := by decide
      omega
    obtain ⟨j, hj, rfl⟩ := nI_of z0
    have a1 : 1 ≤ j := (nI_leI (a := 1) (by omega) hj).mp z
    have a2 : j ≤ 6 := (nI_leI (b := 6) hj (by omega)).mp y
    exact mc_in (mc_G_0 a1 a2)
  · exact mc_in (n := 6) (mc_G_0 (by omega) (by omega))
  · exact mc_in (n := 1) (mc_G_0 (by omega) (by omega))
theorem i_vc_arc {k : Nat} {u : SX} {v : SY} (I : i_Rel k u v) (hk : k + 5 ≤ 2561) (v1 : Int32) (v2 : Int32) (v3 : Int32) (v4 : Int32) : wpX_arc (fun r u' => wpY_arc (fun r' v' => r' = r ∧ i_Rel (k + 5) u' v') v v1 v2 v3 v4) u v1 v2 v3 v4 := by
  refine mc_el (P := fun u v => wpX_arc (fun r u' => wpY_arc (fun r' v' => r' = r ∧ i_Rel (k + 5) u' v') v v1 v2 v3 v4) u v1 v2 v3 v4) I ?_
  intro n T B th we ti W D C Rc dp by' fo to bo po mk bd un way nxt ma G
  have hn := G.2.1
  refine mc_xarc hn (fun h => mc_yarc hn (fun _ => ⟨rfl, mc_in G⟩) (fun h' => absurd h' h)) (fun h a b ha hb ea eb => mc_yarc hn (fun h' => absurd h h') (fun _ a' b' ha' hb' ea' eb' => ?_))
  have e1 : a' = a := mc_inj (by omega) (by omega) (by rw [← ea, ← ea'])
  have e2 : b' = b := mc_inj (by omega) (by omega) (by rw [← eb, ← eb'])
  subst e1 e2
  exact ⟨rfl, mc_in (mc_G_arc G h ha hb)⟩
theorem i_vc_cut {k : Nat} {u : SX} {v : SY} (I : i_Rel k u v) (hk : k + 5 ≤ 2561) (v1 : Int32) (v2 : Int32) : wpX_cut (fun r u' => wpY_cut (fun r' v' => r' = r ∧ i_Rel (k + 5) u' v') v v1 v2) u v1 v2 := by
  refine mc_el (P := fun u v => wpX_cut (fun r u' => wpY_cut (fun r' v' => r' = r ∧ i_Rel (k + 5) u' v') v v1 v2) u v1 v2) I ?_
  intro n T B th we ti W D C Rc dp by' fo to bo po mk bd un way nxt ma G
  have hn := G.2.1
  unfold wpX_cut wpY_cut
  dsimp only
  refine mc_xip hn (fun a ha ea => br_f (by decide) ?_) (fun h => br_t rfl (mc_yip hn (fun a ha ea => absurd ⟨a, ha, ea⟩ h) (fun _ => br_t rfl ⟨rfl, mc_in G⟩)))
  refine mc_xip hn (fun b hb eb => br_f (by decide) ?_) (fun h => br_t rfl (mc_yip hn (fun _ _ _ => br_f (by decide) (mc_yip hn (fun b hb eb => absurd ⟨b, hb, eb⟩ h) (fun _ => br_t rfl ⟨rfl, mc_in G⟩))) (fun h' => absurd ⟨a, ha, ea⟩ h')))
  have ix : (6 : Int32) * v1 + v2 = nI (6 * a + b) := by rw [ea, eb]; exact mc_ix a b
  have w3 : vp_nar .boolean 0 = 0 := rfl
  have hi : vp_in (nI (6 * a + b)) 36 := vp_in_nI (by omega) (by omega)
  rw [ix, nI_clamp (n := 6 * a + b) (by omega), w3]
  refine ⟨hi, br_c (fun z => ?_) (fun z => ⟨hi, nm_e ?_⟩)⟩
  · exact mc_yip hn (fun _ _ _ => br_f (by decide) (mc_yip hn (fun _ _ _ => br_f (by decide) ⟨hi, br_t z ⟨rfl, mc_in G⟩⟩) (fun h' => absurd ⟨b, hb, eb⟩ h'))) (fun h' => absurd ⟨a, ha, ea⟩ h')
  · exact mc_yip hn (fun _ _ _ => br_f (by decide) (mc_yip hn (fun _ _ _ => br_f (by decide) ⟨hi, br_f z ⟨hi, nm_e ⟨rfl, mc_in (mc_G_cut G _)⟩⟩⟩) (fun h' => absurd ⟨b, hb, eb⟩ h'))) (fun h' => absurd ⟨a, ha, ea⟩ h')
theorem i_vc_meanTop {k : Nat} {u : SX} {v : SY} (I : i_Rel k u v) (hk : k + 5 ≤ 2561) : wpX_meanTop (fun r u' => wpY_meanTop (fun r' v' => r' = r ∧ i_Rel (k + 5) u' v') v) u := by
  refine mc_el (P := fun u v => wpX_meanTop (fun r u' => wpY_meanTop (fun r' v' => r' = r ∧ i_Rel (k + 5) u' v') v) u) I ?_
  intro n T B th we ti W D C Rc dp by' fo to bo po mk bd un way nxt ma G
  unfold wpX_meanTop wpY_meanTop
  dsimp only
  refine mc_mean G (fun hno T B W => br_t rfl ?_) (fun t b W o => br_f (by decide) ?_)
  · refine mc_yans G (Or.inl rfl) (fun _ dp fo to bo po mk bd un way nxt ma => ⟨rfl, mc_in G⟩) (fun t b _ _ h _ => ?_)
    obtain ⟨K, g, cy, _⟩ := h
    exact absurd cy (hno K g)
  · refine mc_yans G (Or.inl rfl) (fun hno => ?_) (fun t' b' hg hb h1 h2 dp fo to bo po mk bd un way nxt ma => ?_)
    · obtain ⟨_, _, _, _, K, g, cy, _⟩ := o
      exact absurd cy (hno K g)
    · obtain ⟨e1, e2⟩ := mc_opt_eq G o hg hb h1 h2
      subst e1 e2
      refine ⟨?_, mc_in G⟩
      rw [if_neg (by decide), lI_32]
theorem i_vc_meanBottom {k : Nat} {u : SX} {v : SY} (I : i_Rel k u v) (hk : k + 5 ≤ 2561) : wpX_meanBottom (fun r u' => wpY_meanBottom (fun r' v' => r' = r ∧ i_Rel (k + 5) u' v') v) u := by
  refine mc_el (P := fun u v => wpX_meanBottom (fun r u' => wpY_meanBottom (fun r' v' => r' = r ∧ i_Rel (k + 5) u' v') v) u) I ?_
  intro n T B th we ti W D C Rc dp by' fo to bo po mk bd un way nxt ma G
  unfold wpX_meanBottom wpY_meanBottom
  dsimp only
  refine mc_mean G (fun hno T B W => br_t rfl ?_) (fun t b W o => br_f (by decide) ?_)
  · refine mc_yans G (Or.inl rfl) (fun _ dp fo to bo po mk bd un way nxt ma => ⟨rfl, mc_in G⟩) (fun t b _ _ h _ => ?_)
    obtain ⟨K, g, cy, _⟩ := h
    exact absurd cy (hno K g)
  · refine mc_yans G (Or.inl rfl) (fun hno => ?_) (fun t' b' hg hb h1 h2 dp fo to bo po mk bd un way nxt ma => ?_)
    · obtain ⟨_, _, _, _, K, g, cy, _⟩ := o
      exact absurd cy (hno K g)
    · obtain ⟨e1, e2⟩ := mc_opt_eq G o hg hb h1 h2
      subst e1 e2
      refine ⟨?_, mc_in G⟩
      rw [if_pos rfl, lI_32]
theorem i_vc_ratioTop {k : Nat} {u : SX} {v : SY} (I : i_Rel k u v) (hk : k + 5 ≤ 2561) : wpX_ratioTop (fun r u' => wpY_ratioTop (fun r' v' => r' = r ∧ i_Rel (k + 5) u' v') v) u := by
  refine mc_el (P := fun u v => wpX_ratioTop (fun r u' => wpY_ratioTop (fun r' v' => r' = r ∧ i_Rel (k + 5) u' v') v) u) I ?_
  intro n T B th we ti W D C Rc dp by' fo to bo po mk bd un way nxt ma G
  unfold wpX_ratioTop wpY_ratioTop
  dsimp only
  refine mc_ratio G (fun hno T B D C => br_t rfl ?_) (fun t b D C o => br_f (by decide) ?_)
  · refine mc_yans G (Or.inr rfl) (fun _ dp fo to bo po mk bd un way nxt ma => ⟨rfl, mc_in G⟩) (fun t b _ _ h _ => ?_)
    obtain ⟨K, g, cy, _⟩ := h
    exact absurd cy (hno K g)
  · refine mc_yans G (Or.inr rfl) (fun hno => ?_) (fun t' b' hg hb h1 h2 dp fo to bo po mk bd un way nxt ma => ?_)
    · obtain ⟨_, _, _, _, K, g, cy, _⟩ := o
      exact absurd cy (hno K g)
    · obtain ⟨e1, e2⟩ := mc_opt_eq G o hg hb h1 h2
      subst e1 e2
      refine ⟨?_, mc_in G⟩
      rw [if_neg (by decide), lI_32]
theorem i_vc_ratioBottom {k : Nat} {u : SX} {v : SY} (I : i_Rel k u v) (hk : k + 5 ≤ 2561) : wpX_ratioBottom (fun r u' => wpY_ratioBottom (fun r' v' => r' = r ∧ i_Rel (k + 5) u' v') v) u := by
  refine mc_el (P := fun u v => wpX_ratioBottom (fun r u' => wpY_ratioBottom (fun r' v' => r' = r ∧ i_Rel (k + 5) u' v') v) u) I ?_
  intro n T B th we ti W D C Rc dp by' fo to bo po mk bd un way nxt ma G
  unfold wpX_ratioBottom wpY_ratioBottom
  dsimp only
  refine mc_ratio G (fun hno T B D C => br_t rfl ?_) (fun t b D C o => br_f (by decide) ?_)
  · refine mc_yans G (Or.inr rfl) (fun _ dp fo to bo po mk bd un way nxt ma => ⟨rfl, mc_in G⟩) (fun t b _ _ h _ => ?_)
    obtain ⟨K, g, cy, _⟩ := h
    exact absurd cy (hno K g)
  · refine mc_yans G (Or.inr rfl) (fun hno => ?_) (fun t' b' hg hb h1 h2 dp fo to bo po mk bd un way nxt ma => ?_)
    · obtain ⟨_, _, _, _, K, g, cy, _⟩ := o
      exact absurd cy (hno K g)
    · obtain ⟨e1, e2⟩ := mc_opt_eq G o hg hb h1 h2
      subst e1 e2
      refine ⟨?_, mc_in G⟩
      rw [if_pos rfl, lI_32]
theorem i_vc_meanArc {k : Nat} {u : SX} {v : SY} (I : i_Rel k u v) (hk : k + 5 ≤ 2561) (v1 : Int32) (v2 : Int32) : wpX_meanArc (fun r u' => wpY_meanArc (fun r' v' => r' = r ∧ i_Rel (k + 5) u' v') v v1 v2) u v1 v2 := by
  refine mc_el (P := fun u v => wpX_meanArc (fun r u' => wpY_meanArc (fun r' v' => r' = r ∧ i_Rel (k + 5) u' v') v v1 v2) u v1 v2) I ?_
  intro n T B th we ti W D C Rc dp by' fo to bo po mk bd un way nxt ma G
  have hn := G.2.1
  unfold wpX_meanArc
  dsimp only
  refine mc_xip hn (fun a ha ea => br_f (by decide) ?_) (fun h => br_t rfl ?_)
  · refine mc_xip hn (fun b hb eb => br_f (by decide) ?_) (fun h => br_t rfl ?_)
    · have ix : (6 : Int32) * v1 + v2 = nI (6 * a + b) := by rw [ea, eb]; exact mc_ix a b
      have hi : vp_in (nI (6 * a + b)) 36 := vp_in_nI (by omega) (by omega)
      -- Y's answer
      have hY : ∀ (r : Int32) (u' : SX), (r = 1 ∧ (∃ K g, mc_Cy n (mc_E th) K g ∧ mc_Best n th we ti 0 K g ∧ ∃ i, i < K ∧ g i = a ∧ g (mc_nx K i) = b) ∨ r = 0 ∧ ¬ (∃ K g, mc_Cy n (mc_E th) K g ∧ mc_Best n th we ti 0 K g ∧ ∃ i, i < K ∧ g i = a ∧ g (mc_nx K i) = b)) →
          (∀ dp fo to bo po mk bd un way nxt ma, i_Rel (k + 5) u' (nI n, dp, 0, fo, to, bo, po, mk, bd, un, th, we, ti, way, nxt, ma)) →
          wpY_meanArc (fun r' v' => r' = r ∧ i_Rel (k + 5) u' v') (nI n, dp, by', fo, to, bo, po, mk, bd, un, th, we, ti, way, nxt, ma) v1 v2 := by
        intro r u' hr hrel
        unfold wpY_meanArc
        dsimp only
        refine mc_yip hn (fun _ _ _ => br_f (by decide) ?_) (fun h' => absurd ⟨a, ha, ea⟩ h')
        refine mc_yip hn (fun _ _ _ => br_f (by decide) ?_) (fun h' => absurd ⟨b, hb, eb⟩ h')
        refine mc_sea G (Or.inl rfl) (fun dp fo to bo po mk bd un way nxt ma sr => ?_)
        dsimp only
        rw [ix, nI_clamp (n := 6 * a + b) (by omega)]
        obtain ⟨s1, s2⟩ := (mc_sr_m G sr).1 a b ha hb
        refine ⟨hi, ?_, ?_, hrel _ _ _ _ _ _ _ _ _ _ _⟩
        · rcases s2 with h | h <;> rw [h] <;> rfl
        · rcases hr with ⟨h1, h2⟩ | ⟨h1, h2⟩
          · rw [h1]; exact s1.mpr h2
          · rw [h1]
            rcases s2 with h | h
            · exact h
            · exact absurd (s1.mp h) h2
      rw [ix, nI_clamp (n := 6 * a + b) (by omega)]
      refine ⟨hi, br_c (fun z => hY _ _ (Or.inr ⟨rfl, ?_⟩) (fun _ _ _ _ _ _ _ _ _ _ _ => mc_in G)) (fun z => ?_)⟩
      · rintro ⟨K, g, cy, _, i, hi, e1, e2⟩
        have h := (cy.1.2.2.2 i hi).2.2
        rw [e1, e2] at h
        exact h z
      · refine mc_mean G (fun hno T B W => br_t rfl (hY _ _ (Or.inr ⟨rfl, ?_⟩) (fun _ _ _ _ _ _ _ _ _ _ _ => mc_in G))) (fun t b' W o => br_f (by decide) ?_)
        · rintro ⟨K, g, cy, _⟩
          exact hno K g cy
        · have b0 := o.2.2.1
          refine mc_tight G o.2.1 ⟨by omega, b0.2⟩ o.2.2.2.1 (fun D C Rc d hD hd hR => ?_)
          dsimp only
          have tq := mc_tq G o hd a b
          rw [ea, eb]
          rw [ea, eb] at hY
          refine mc_isT G o.2.1 ⟨by omega, b0.2⟩ hD (by omega) (by omega) (fun ht => br_f (by decide) ?_) (fun ht => br_t rfl (hY _ _ (Or.inr ⟨rfl, ?_⟩) (fun _ _ _ _ _ _ _ _ _ _ _ => mc_in G)))
          · refine mc_closes (by omega) (by omega) (fun hc => br_f (by decide) (hY _ _ (Or.inl ⟨rfl, ?_⟩) (fun _ _ _ _ _ _ _ _ _ _ _ => mc_in G))) (fun hc => br_t rfl (hY _ _ (Or.inr ⟨rfl, ?_⟩) (fun _ _ _ _ _ _ _ _ _ _ _ => mc_in G)))
            · rw [hR b a (by omega) (by omega)] at hc
              exact tq.mp ⟨ht, hc⟩
            · rw [hR b a (by omega) (by omega)] at hc
              exact fun h => hc (tq.mpr h).2
          · exact fun h => ht (tq.mpr h).1
    · unfold wpY_meanArc
      dsimp only
      refine mc_yip hn (fun _ _ _ => br_f (by decide) ?_) (fun h' => absurd ⟨a, ha, ea⟩ h')
      exact mc_yip hn (fun b hb eb => absurd ⟨b, hb, eb⟩ h) (fun _ => br_t rfl ⟨rfl, mc_in G⟩)
  · unfold wpY_meanArc
    dsimp only
    exact mc_yip hn (fun a ha ea => absurd ⟨a, ha, ea⟩ h) (fun _ => br_t rfl ⟨rfl, mc_in G⟩)
theorem i_vc_ratioArc {k : Nat} {u : SX} {v : SY} (I : i_Rel k u v) (hk : k + 5 ≤ 2561) (v1 : Int32) (v2 : Int32) : wpX_ratioArc (fun r u' => wpY_ratioArc (fun r' v' => r' = r ∧ i_Rel (k + 5) u' v') v v1 v2) u v1 v2 := by
  refine mc_el (P := fun u v => wpX_ratioArc (fun r u' => wpY_ratioArc (fun r' v' => r' = r ∧ i_Rel (k + 5) u' v') v v1 v2) u v1 v2) I ?_
  intro n T B th we ti W D C Rc dp by' fo to bo po mk bd un way nxt ma G
  have hn := G.2.1
  unfold wpX_ratioArc
  dsimp only
  refine mc_xip hn (fun a ha ea => br_f (by decide) ?_) (fun h => br_t rfl ?_)
  · refine mc_xip hn (fun b hb eb => br_f (by decide) ?_) (fun h => br_t rfl ?_)
    · have ix : (6 : Int32) * v1 + v2 = nI (6 * a + b) := by rw [ea, eb]; exact mc_ix a b
      have hi : vp_in (nI (6 * a + b)) 36 := vp_in_nI (by omega) (by omega)
      -- Y's answer
      have hY : ∀ (r : Int32) (u' : SX), (r = 1 ∧ (∃ K g, mc_Cy n (mc_E th) K g ∧ mc_Best n th we ti 1 K g ∧ ∃ i, i < K ∧ g i = a ∧ g (mc_nx K i) = b) ∨ r = 0 ∧ ¬ (∃ K g, mc_Cy n (mc_E th) K g ∧ mc_Best n th we ti 1 K g ∧ ∃ i, i < K ∧ g i = a ∧ g (mc_nx K i) = b)) →
          (∀ dp fo to bo po mk bd un way nxt ma, i_Rel (k + 5) u' (nI n, dp, 1, fo, to, bo, po, mk, bd, un, th, we, ti, way, nxt, ma)) →
          wpY_ratioArc (fun r' v' => r' = r ∧ i_Rel (k + 5) u' v') (nI n, dp, by', fo, to, bo, po, mk, bd, un, th, we, ti, way, nxt, ma) v1 v2 := by
        intro r u' hr hrel
        unfold wpY_ratioArc
        dsimp only
        refine mc_yip hn (fun _ _ _ => br_f (by decide) ?_) (fun h' => absurd ⟨a, ha, ea⟩ h')
        refine mc_yip hn (fun _ _ _ => br_f (by decide) ?_) (fun h' => absurd ⟨b, hb, eb⟩ h')
        refine mc_sea G (Or.inr rfl) (fun dp fo to bo po mk bd un way nxt ma sr => ?_)
        dsimp only
        rw [ix, nI_clamp (n := 6 * a + b) (by omega)]
        obtain ⟨s1, s2⟩ := (mc_sr_m G sr).1 a b ha hb
        refine ⟨hi, ?_, ?_, hrel _ _ _ _ _ _ _ _ _ _ _⟩
        · rcases s2 with h | h <;> rw [h] <;> rfl
        · rcases hr with ⟨h1, h2⟩ | ⟨h1, h2⟩
          · rw [h1]; exact s1.mpr h2
          · rw [h1]
            rcases s2 with h | h
            · exact h
            · exact absurd (s1.mp h) h2
      rw [ix, nI_clamp (n := 6 * a + b) (by omega)]
      refine ⟨hi, br_c (fun z => hY _ _ (Or.inr ⟨rfl, ?_⟩) (fun _ _ _ _ _ _ _ _ _ _ _ => mc_in G)) (fun z => ?_)⟩
      · rintro ⟨K, g, cy, _, i, hi, e1, e2⟩
        have h := (cy.1.2.2.2 i hi).2.2
        rw [e1, e2] at h
        exact h z
      · refine mc_ratio G (fun hno T B D C => br_t rfl (hY _ _ (Or.inr ⟨rfl, ?_⟩) (fun _ _ _ _ _ _ _ _ _ _ _ => mc_in G))) (fun t b' D C o => br_f (by decide) ?_)
        · rintro ⟨K, g, cy, _⟩
          exact hno K g cy
        · have b0 := o.2.2.1
          refine mc_tight G o.2.1 ⟨by omega, b0.2⟩ o.2.2.2.1 (fun D C Rc d hD hd hR => ?_)
          dsimp only
          have tq := mc_tq G o hd a b
          rw [ea, eb]
          rw [ea, eb] at hY
          refine mc_isT G o.2.1 ⟨by omega, b0.2⟩ hD (by omega) (by omega) (fun ht => br_f (by decide) ?_) (fun ht => br_t rfl (hY _ _ (Or.inr ⟨rfl, ?_⟩) (fun _ _ _ _ _ _ _ _ _ _ _ => mc_in G)))
          · refine mc_closes (by omega) (by omega) (fun hc => br_f (by decide) (hY _ _ (Or.inl ⟨rfl, ?_⟩) (fun _ _ _ _ _ _ _ _ _ _ _ => mc_in G))) (fun hc => br_t rfl (hY _ _ (Or.inr ⟨rfl, ?_⟩) (fun _ _ _ _ _ _ _ _ _ _ _ => mc_in G)))
            · rw [hR b a (by omega) (by omega)] at hc
              exact tq.mp ⟨ht, hc⟩
            · rw [hR b a (by omega) (by omega)] at hc
              exact fun h => hc (tq.mpr h).2
          · exact fun h => ht (tq.mpr h).1
    · unfold wpY_ratioArc
      dsimp only
      refine mc_yip hn (fun _ _ _ => br_f (by decide) ?_) (fun h' => absurd ⟨a, ha, ea⟩ h')
      exact mc_yip hn (fun b hb eb => absurd ⟨b, hb, eb⟩ h) (fun _ => br_t rfl ⟨rfl, mc_in G⟩)
  · unfold wpY_ratioArc
    dsimp only
    exact mc_yip hn (fun a ha ea => absurd ⟨a, ha, ea⟩ h) (fun _ => br_t rfl ⟨rfl, mc_in G⟩)
theorem i_vc_meanPoints {k : Nat} {u : SX} {v : SY} (I : i_Rel k u v) (hk : k + 5 ≤ 2561) : wpX_meanPoints (fun r u' => wpY_meanPoints (fun r' v' => r' = r ∧ i_Rel (k + 5) u' v') v) u := by
  refine mc_el (P := fun u v => wpX_meanPoints (fun r u' => wpY_meanPoints (fun r' v' => r' = r ∧ i_Rel (k + 5) u' v') v) u) I ?_
  intro n T B th we ti W D C Rc dp by' fo to bo po mk bd un way nxt ma G
  have hn := G.2.1
  have hY : ∀ (r : Int32) (u' : SX), (∀ x, x < 32 → (bt r x = true ↔ ∃ K g, mc_Cy n (mc_E th) K g ∧ mc_Best n th we ti 0 K g ∧ ∃ i, i < K ∧ g i = x)) →
      (∀ dp fo to bo po mk bd un way nxt ma, i_Rel (k + 5) u' (nI n, dp, 0, fo, to, bo, po, mk, bd, un, th, we, ti, way, nxt, ma)) →
      wpY_meanPoints (fun r' v' => r' = r ∧ i_Rel (k + 5) u' v') (nI n, dp, by', fo, to, bo, po, mk, bd, un, th, we, ti, way, nxt, ma) := by
    intro r u' hr hrel
    unfold wpY_meanPoints
    dsimp only
    refine mc_sea G (Or.inl rfl) (fun dp fo to bo po mk bd un way nxt ma sr => ?_)
    dsimp only
    refine ⟨b_ext (fun i hi => ?_), hrel _ _ _ _ _ _ _ _ _ _ _⟩
    have s := (mc_sr_m G sr).2 i hi
    rw [← hr i hi] at s
    cases h1 : bt po i with
    | true => exact (s.mp h1).symm
    | false =>
      cases h2 : bt r i with
      | true => rw [s.mpr h2] at h1; exact absurd h1 (by decide)
      | false => rfl
  unfold wpX_meanPoints
  dsimp only
  refine mc_mean G (fun hno T B W => br_t rfl (hY _ _ (fun x hx => ?_) (fun _ _ _ _ _ _ _ _ _ _ _ => mc_in G))) (fun t b W o => br_f (by decide) ?_)
  · rw [b_0]
    exact ⟨fun h => absurd h (by decide), fun ⟨K, g, cy, _⟩ => absurd cy (hno K g)⟩
  · have b0 := o.2.2.1
    refine mc_tight G o.2.1 ⟨by omega, b0.2⟩ o.2.2.2.1 (fun D C Rc d hD hd hR => ?_)
    dsimp only
    refine mc_onT hn (fun r hr => hY _ _ (fun x hx => ?_) (fun _ _ _ _ _ _ _ _ _ _ _ => mc_in G))
    rw [hr x hx, ← mc_pq G o hd x]
    constructor
    · rintro ⟨h1, h2⟩
      exact (hR x x (by omega) hx).mp h2
    · intro h
      have b1 := mc_Pt_b (n := n) (fun u v he => mc_En G u v he.1) h
      exact ⟨b1.1, (hR x x (by omega) hx).mpr h⟩
theorem i_vc_steady {k : Nat} {u : SX} {v : SY} (I : i_Rel k u v) (hk : k + 5 ≤ 2561) (v1 : Int32) : wpX_steady (fun r u' => wpY_steady (fun r' v' => r' = r ∧ i_Rel (k + 5) u' v') v v1) u v1 := by
  refine mc_el (P := fun u v => wpX_steady (fun r u' => wpY_steady (fun r' v' => r' = r ∧ i_Rel (k + 5) u' v') v v1) u v1) I ?_
  intro n T B th we ti W D C Rc dp by' fo to bo po mk bd un way nxt ma G
  refine br_c (fun z => br_t z ⟨rfl, mc_in G⟩) (fun z => br_c (fun y => ?_) (fun y => br_f z (br_f y ⟨rfl, mc_in G⟩)))
  have l1 : (-100 : Int32).toInt = -100 := by decide
  have l2 : (100 : Int32).toInt = 100 := by decide
  have z' := z
  have y' := y
  rw [Int32.lt_iff_toInt_lt, l1] at z'
  rw [Int32.le_iff_toInt_le, l2] at y'
  have hY : ∀ (r : Int32) (u' : SX), (r = 1 ∧ (∀ K g, mc_Cy n (mc_E th) K g → v1.toInt * mc_S (mc_w ti) K g ≤ mc_S (mc_w we) K g) ∨ r = 0 ∧ ¬ (∀ K g, mc_Cy n (mc_E th) K g → v1.toInt * mc_S (mc_w ti) K g ≤ mc_S (mc_w we) K g)) →
      (∀ dp fo to bo po un way nxt ma, i_Rel (k + 5) u' (nI n, dp, by', fo, to, bo, po, 0, v1, un, th, we, ti, way, nxt, ma)) →
      wpY_steady (fun r' v' => r' = r ∧ i_Rel (k + 5) u' v') (nI n, dp, by', fo, to, bo, po, mk, bd, un, th, we, ti, way, nxt, ma) v1 := by
    intro r u' hr hrel
    unfold wpY_steady
    dsimp only
    refine br_f z (br_t y ?_)
    have lk := mc_A0_lk (bz := v1.toInt) by' 0 G ⟨by omega, by omega⟩
    rw [iI_o] at lk
    refine mc_thr (A := mc_A0 n th we ti by' v1.toInt 0) G.2.1 mc_A0_m lk ⟨⟨0, Nat.le_refl _, rfl, ⟨fun _ _ _ h => h, fun _ => rfl⟩⟩, ⟨0, 1, rfl, rfl, ⟨by decide, by decide⟩, ⟨by decide, by decide⟩, fun ⟨_, _, h⟩ => h.elim⟩, ⟨fun h => ⟨h, fun _ _ h => h.elim⟩, fun h => h.1⟩⟩ ?_
    intro P dp fo to bo po un way nxt ma hP hA
    dsimp only
    obtain ⟨_, _, hu⟩ := hA
    refine br_c (fun q => ⟨?_, hrel _ _ _ _ _ _ _ _ _⟩) (fun q => ⟨?_, hrel _ _ _ _ _ _ _ _ _⟩)
    · rcases hr with ⟨h1, h2⟩ | ⟨h1, h2⟩
      · exact h1.symm
      · exact absurd (fun K g cy => (hu.mp q).2 K g ((hP K g).mpr cy)) h2
    · rcases hr with ⟨h1, h2⟩ | ⟨h1, h2⟩
      · exact absurd (hu.mpr ⟨rfl, fun K g hp => h2 K g ((hP K g).mp hp)⟩) q
      · exact h1.symm
  have e1 : v1.toInt64 = lI v1.toInt := lI_i v1
  rw [e1]
  have e2 : (1 : Int64) = lI 1 := rfl
  rw [e2]
  refine mc_relax G ⟨by omega, by omega⟩ ⟨by decide, by decide⟩ (fun x2 D C ro => ?_)
  dsimp only
  have lin : ∀ K g, mc_S (mc_c 1 we ti v1.toInt 1) K g = mc_S (mc_w we) K g * 1 - v1.toInt * mc_S (mc_w ti) K g := fun K g => by rw [mc_S_lin, mc_z1]
  rcases ro with ⟨h2, d, _, _, hp⟩ | ⟨w, hw, h2, q, L, hL, hq, hc⟩
  · subst h2
    refine br_f (by decide) (hY _ _ (Or.inl ⟨rfl, fun K g cy => ?_⟩) (fun _ _ _ _ _ _ _ _ _ => mc_in G))
    have h := mc_pot_nn hp cy.1
    rw [lin] at h
    omega
  · subst h2
    refine br_t (nI_pos' (by omega)) (hY _ _ (Or.inr ⟨rfl, fun hall => ?_⟩) (fun _ _ _ _ _ _ _ _ _ => mc_in G))
    obtain ⟨K, g, cy, neg⟩ := mc_negc G hL hq hc
    rw [lin] at neg
    have h := hall K g cy
    omega
theorem i_vc_onCircle {k : Nat} {u : SX} {v : SY} (I : i_Rel k u v) (hk : k + 5 ≤ 2561) : wpX_onCircle (fun r u' => wpY_onCircle (fun r' => r' = r ∧ i_Rel (k + 5) u' v) v) u := by
  refine mc_el (P := fun u v => wpX_onCircle (fun r u' => wpY_onCircle (fun r' => r' = r ∧ i_Rel (k + 5) u' v) v) u) I ?_
  intro n T B th we ti W D C Rc dp by' fo to bo po mk bd un way nxt ma G
  refine mc_xonC G.2.1 (fun r Rc hr => mc_yonC G.2.1 (mc_En G) (fun r' hr' => ⟨b_ext (fun i hi => ?_), mc_in G⟩))
  have s := hr' i hi
  rw [← hr i hi] at s
  cases h1 : bt r' i with
  | true => exact (s.mp h1).symm
  | false =>
    cases h2 : bt r i with
    | true => rw [s.mpr h2] at h1; exact absurd h1 (by decide)
    | false => rfl
end
