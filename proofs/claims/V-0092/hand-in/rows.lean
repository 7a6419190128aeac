section
/-! 01: rows of kit/rows (PURE-ROWS, BITS): a starting text -/
theorem pk_us {f : Nat → Int32} {k : Nat} {x : Int32} : upd f k x k = x := if_pos rfl
theorem pk_un {f : Nat → Int32} {k j : Nat} {x : Int32} (h : j ≠ k) : upd f k x j = f j := if_neg h
theorem pk_uLs {f : Nat → Int64} {k : Nat} {x : Int64} : vp_updL f k x k = x := if_pos rfl
theorem pk_uLn {f : Nat → Int64} {k j : Nat} {x : Int64} (h : j ≠ k) : vp_updL f k x j = f j := if_neg h
theorem pk_sub {a b : Nat} (h : b ≤ a) : nI a - nI b = nI (a - b) := by
  obtain ⟨c, rfl⟩ : ∃ c, a = c + b := ⟨a - b, by omega⟩
  rw [← nI_add, Int32.add_sub_cancel, Nat.add_sub_cancel]
theorem pk_m1 (n : Nat) : nI (n + 1) + (-1) = nI n := by
  rw [← nI_1, Int32.add_assoc, show (1 : Int32) + (-1) = 0 from rfl, Int32.add_zero]
theorem pk_mul (a b : Nat) : nI a * nI b = nI (a * b) := (Int32.ofNat_mul a b).symm
theorem pk_div {a d : Nat} (ha : a < 2 ^ 31) (h0 : 0 < d) (hd : d < 2 ^ 31) : nI a / nI d = nI (a / d) := by
  apply Int32.toInt_inj.mp
  rw [lg_idiv_nonneg (by rw [nI_toInt ha]; omega) (by rw [nI_toInt hd]; omega), nI_toInt ha, nI_toInt hd, nI_toInt (Nat.lt_of_le_of_lt (Nat.div_le_self a d) ha)]
  first | rfl | exact (Int.natCast_ediv _ _).symm
theorem pk_rem {a d : Nat} (ha : a < 2 ^ 31) (h0 : 0 < d) (hd : d < 2 ^ 31) : nI a - nI a / nI d * nI d = nI (a % d) := by
  rw [pk_div ha h0 hd, pk_mul, pk_sub (Nat.div_mul_le_self a d)]
  exact congrArg nI (by have := Nat.div_add_mod' a d; omega)
theorem pk_sub_toInt {a b : Nat} (ha : a < 2 ^ 30) (hb : b < 2 ^ 30) : (nI a - nI b).toInt = (a : Int) - b := by
  rw [Int32.toInt_sub, nI_toInt (by omega), nI_toInt (by omega)]
  exact Int.bmod_eq_of_le (by omega) (by omega)
theorem pk_sneg {a b : Nat} (hb : b < 2 ^ 30) (h : a < b) : nI a - nI b < 0 := by
  rw [Int32.lt_iff_toInt_lt, pk_sub_toInt (by omega) hb, show (0 : Int32).toInt = 0 from by decide]
  omega
theorem pk_ix (x : Int32) {n : Nat} (hn : n < 2 ^ 31) : x < 0 ∨ nI n ≤ x ∨ ∃ j : Nat, j < n ∧ x = nI j := by
  by_cases h : x < 0
  · exact Or.inl h
  · obtain ⟨j, hj, rfl⟩ := nI_of h
    by_cases h2 : j < n
    · exact Or.inr (Or.inr ⟨j, h2, rfl⟩)
    · exact Or.inr (Or.inl (nI_le (by omega) hj))
theorem pk_le {x y : Int32} {A B : Prop} (a b : Nat) (f : a ≤ b → A) (g : b < a → B) (hx : x = nI a := by rfl) (hy : y = nI b := by rfl) (ha : a < 2 ^ 31 := by omega) (hb : b < 2 ^ 31 := by omega) : (x ≤ y → A) ∧ (¬ x ≤ y → B) := by
  subst hx hy
  rw [nI_leI ha hb]
  exact ⟨f, fun z => g (by omega)⟩
theorem pk_lt {x y : Int32} {A B : Prop} (a b : Nat) (f : a < b → A) (g : b ≤ a → B) (hx : x = nI a := by rfl) (hy : y = nI b := by rfl) (ha : a < 2 ^ 31 := by omega) (hb : b < 2 ^ 31 := by omega) : (x < y → A) ∧ (¬ x < y → B) := by
  subst hx hy
  rw [nI_ltI ha hb]
  exact ⟨f, fun z => g (by omega)⟩
theorem pk_eq {x y : Int32} {A B : Prop} (a b : Nat) (f : a = b → A) (g : a ≠ b → B) (hx : x = nI a := by rfl) (hy : y = nI b := by rfl) (ha : a < 2 ^ 31 := by omega) (hb : b < 2 ^ 31 := by omega) : (x = y → A) ∧ (¬ x = y → B) := by
  subst hx hy
  rw [nI_eq ha hb]
  exact ⟨f, g⟩
theorem pk_in {x : Int32} (n N : Nat) (h : n < N) (hx : x = nI n := by rfl) (hN : N < 2 ^ 31 := by omega) : vp_in x N := by
  subst hx
  exact vp_in_nI h hN
theorem pk_cl {x : Int32} (n : Nat) (hx : x = nI n := by rfl) (h : n < 2 ^ 31 := by omega) : x.toNatClampNeg = n := by
  subst hx
  exact nI_clamp h
theorem pk_tn {n : Nat} (h : n < 2 ^ 32) : (nI n).toBitVec.toNat = n := Nat.mod_eq_of_lt h
theorem pk_and (x : Int32) {m : Int32} (k : Nat) (hm : m.toBitVec.toNat = 2 ^ k - 1) : x &&& m = nI (x.toBitVec.toNat % 2 ^ k) := by
  apply Int32.toBitVec_inj.mp
  apply BitVec.eq_of_toNat_eq
  rw [Int32.toBitVec_and, BitVec.toNat_and, hm, Nat.and_two_pow_sub_one_eq_mod]
  show _ = (BitVec.ofNat 32 _).toNat
  rw [BitVec.toNat_ofNat]
  exact (Nat.mod_eq_of_lt (Nat.lt_of_le_of_lt (Nat.mod_le _ _) x.toBitVec.isLt)).symm
theorem pk_andN {n : Nat} (h : n < 2 ^ 32) {m : Int32} (k : Nat) (hm : m.toBitVec.toNat = 2 ^ k - 1) : nI n &&& m = nI (n % 2 ^ k) := by
  rw [pk_and _ k hm, pk_tn h]
theorem pk_andE (x : Int32) {m : Int32} (k : Nat) (hm : m.toBitVec.toNat = 2 ^ k - 1) : ∃ j : Nat, j < 2 ^ k ∧ x &&& m = nI j := ⟨_, Nat.mod_lt _ (Nat.two_pow_pos k), pk_and x k hm⟩
theorem pk_andIn (x : Int32) {m : Int32} (k : Nat) (hm : m.toBitVec.toNat = 2 ^ k - 1) (hk : k ≤ 30) : vp_in (x &&& m) (2 ^ k) := by
  obtain ⟨j, hj, e⟩ := pk_andE x k hm
  rw [e]
  exact vp_in_nI hj (Nat.lt_of_le_of_lt (Nat.pow_le_pow_right (by decide) hk) (by decide))
theorem pk_shl (a s : Int32) (k : Nat) (hs : (s.toBitVec.smod 32).toNat = k) : (a <<< s).toBitVec.toNat = a.toBitVec.toNat * 2 ^ k % 2 ^ 32 := by
  show (a.toBitVec <<< (s.toBitVec.smod 32).toNat).toNat = _
  rw [hs, BitVec.toNat_shiftLeft, Nat.shiftLeft_eq]
theorem pk_shlN {n : Nat} (s : Int32) (k : Nat) (hs : (s.toBitVec.smod 32).toNat = k) (h : n * 2 ^ k < 2 ^ 32) : nI n <<< s = nI (n * 2 ^ k) := by
  apply Int32.toBitVec_inj.mp
  apply BitVec.eq_of_toNat_eq
  have hn : n < 2 ^ 32 := Nat.lt_of_le_of_lt (Nat.le_mul_of_pos_right n (Nat.two_pow_pos k)) h
  rw [pk_shl _ _ k hs, pk_tn hn, pk_tn h, Nat.mod_eq_of_lt h]
theorem pk_shr (a s : Int32) (k : Nat) (hs : (s.toBitVec.smod 32).toNat = k) : (a >>> s).toInt = a.toInt >>> k := by
  show (a.toBitVec.sshiftRight (s.toBitVec.smod 32).toNat).toInt = _
  rw [hs, BitVec.toInt_sshiftRight]
  rfl
theorem pk_shrN {n : Nat} (h : n < 2 ^ 31) (s : Int32) (k : Nat) (hs : (s.toBitVec.smod 32).toNat = k) : nI n >>> s = nI (n / 2 ^ k) := by
  apply Int32.toInt_inj.mp
  have h2 : n / 2 ^ k ≤ n := Nat.div_le_self _ _
  rw [pk_shr _ _ k hs, nI_toInt h, nI_toInt (by omega), Int.shiftRight_eq_div_pow]
  rfl
theorem pk_ushr (x s : Int32) (k : Nat) (hs : ((s.toUInt32 &&& Int32.toUInt32 31).toBitVec % 32).toNat = k) : (x.toUInt32 >>> (s.toUInt32 &&& Int32.toUInt32 31)).toInt32.toBitVec.toNat = x.toBitVec.toNat / 2 ^ k := by
  have e : (x.toUInt32 >>> (s.toUInt32 &&& Int32.toUInt32 31)).toInt32.toBitVec = x.toBitVec >>> k := by
    rw [← hs]
    exact UInt32.toBitVec_shiftRight _ _
  rw [e, BitVec.toNat_ushiftRight, Nat.shiftRight_eq_div_pow]
theorem pk_ushrN {n : Nat} (hn : n < 2 ^ 32) (s : Int32) (k : Nat) (hs : ((s.toUInt32 &&& Int32.toUInt32 31).toBitVec % 32).toNat = k) : ((nI n).toUInt32 >>> (s.toUInt32 &&& Int32.toUInt32 31)).toInt32 = nI (n / 2 ^ k) := by
  apply Int32.toBitVec_inj.mp
  apply BitVec.eq_of_toNat_eq
  rw [pk_ushr _ s k hs, pk_tn hn, pk_tn (Nat.lt_of_le_of_lt (Nat.div_le_self _ _) hn)]
theorem pk_loop {σ : Type} (W : Nat → Nat → σ → Prop) (I : Nat → σ → Prop) (e i0 : Nat) (s : σ) (hi : i0 ≤ e) (h0 : I i0 s) (hx : ∀ n s, I e s → W (n + 1) e s)
    (hs : ∀ n i s, i < e → I i s → (∀ s', I (i + 1) s' → W n (i + 1) s') → W (n + 1) i s) : ∃ n, W n i0 s :=
  ⟨e + 1, loop_i W I e hx hs (e + 1) i0 s hi (by omega) h0⟩
theorem pk_loopD {σ : Type} (W : Nat → Nat → σ → Prop) (I : Nat → σ → Prop) (hx : ∀ n s, I 0 s → W (n + 1) 0 s)
    (hs : ∀ n i s, I (i + 1) s → (∀ s', I i s' → W n i s') → W (n + 1) (i + 1) s) : ∀ (e : Nat) (s : σ), I e s → W (e + 1) e s := by
  intro e
  induction e with
  | zero => exact fun s h => hx 0 s h
  | succ e ih => exact fun s h => hs (e + 1) e s h (fun s' h' => ih s' h')
def bt (x : Int32) (i : Nat) : Bool := x.toBitVec.getLsbD i
theorem b_ext {x y : Int32} (h : ∀ i, i < 32 → bt x i = bt y i) : x = y := Int32.toBitVec_inj.mp (BitVec.eq_of_getLsbD_eq (fun i hi => h i hi))
theorem b_or (x y : Int32) (i : Nat) : bt (x ||| y) i = (bt x i || bt y i) := by unfold bt; rw [Int32.toBitVec_or, BitVec.getLsbD_or]
theorem b_and (x y : Int32) (i : Nat) : bt (x &&& y) i = (bt x i && bt y i) := by unfold bt; rw [Int32.toBitVec_and, BitVec.getLsbD_and]
theorem b_xor (x y : Int32) (i : Nat) : bt (x ^^^ y) i = (bt x i ^^ bt y i) := by unfold bt; rw [Int32.toBitVec_xor, BitVec.getLsbD_xor]
theorem b_big {x : Int32} {i : Nat} (h : 32 ≤ i) : bt x i = false := BitVec.getLsbD_of_ge _ _ h
theorem b_255 (i : Nat) : bt 255 i = decide (i < 8) := by
  rcases Nat.lt_or_ge i 32 with h | h
  · exact (by decide +kernel : ∀ i, i < 32 → bt 255 i = decide (i < 8)) i h
  · rw [b_big h, decide_eq_false (by omega)]
theorem b_65535 (i : Nat) : bt 65535 i = decide (i < 16) := by
  rcases Nat.lt_or_ge i 32 with h | h
  · exact (by decide +kernel : ∀ i, i < 32 → bt 65535 i = decide (i < 16)) i h
  · rw [b_big h, decide_eq_false (by omega)]
theorem b_m1 : ∀ i, i < 32 → bt (-1) i = true := by decide +kernel
theorem b_0 (i : Nat) : bt 0 i = false := BitVec.getLsbD_zero
theorem s_l : ∀ n, n < 32 → ((nI n &&& 31).toBitVec.smod 32).toNat = n := by decide +kernel
theorem s_u : ∀ n, n < 32 → (((nI n).toUInt32 &&& Int32.toUInt32 31).toBitVec % 32).toNat = n := by decide +kernel
theorem b_shl (n : Nat) (hn : n < 32) (x : Int32) {i : Nat} (hi : i < 32) : bt (x <<< (nI n &&& 31)) i = (decide (n ≤ i) && bt x (i - n)) := by
  unfold bt
  rw [Int32.toBitVec_shiftLeft]
  show (x.toBitVec <<< ((nI n &&& 31).toBitVec.smod 32).toNat).getLsbD i = _
  rw [s_l n hn, BitVec.getLsbD_shiftLeft]
  rcases Nat.lt_or_ge i n with h | h
  · simp [h, Nat.not_le.mpr h]
  · simp [hi, h, Nat.not_lt.mpr h]
theorem b_ushr (n : Nat) (hn : n < 32) (x : Int32) (i : Nat) : bt ((x.toUInt32 >>> ((nI n).toUInt32 &&& Int32.toUInt32 31)).toInt32) i = bt x (n + i) := by
  show (x.toUInt32 >>> ((nI n).toUInt32 &&& Int32.toUInt32 31)).toBitVec.getLsbD i = x.toUInt32.toBitVec.getLsbD (n + i)
  rw [UInt32.toBitVec_shiftRight]
  show (x.toUInt32.toBitVec >>> (((nI n).toUInt32 &&& Int32.toUInt32 31).toBitVec % 32).toNat).getLsbD i = _
  rw [s_u n hn, BitVec.getLsbD_ushiftRight]
theorem b_sshr (n : Nat) (hn : n < 32) (x : Int32) {i : Nat} (hi : i < 32) : bt (x >>> (nI n &&& 31)) i = if n + i < 32 then bt x (n + i) else bt x 31 := by
  unfold bt
  rw [Int32.toBitVec_shiftRight]
  show (x.toBitVec.sshiftRight ((nI n &&& 31).toBitVec.smod 32).toNat).getLsbD i = _
  rw [s_l n hn, BitVec.getLsbD_sshiftRight, BitVec.msb_eq_getLsbD_last]
  simp [hi]
end
section
/-! 02: numbers, bits, loops -/
theorem am_vb0 : vp_nar .boolean 0 = 0 := by decide
theorem am_vb1 : vp_nar .boolean 1 = 1 := by decide
theorem am_m8 (a : Nat) : nI a * 8 = nI (a * 8) := pk_mul a 8
theorem am_m12 (a : Nat) : nI a * 12 = nI (a * 12) := pk_mul a 12
theorem am_m5 (a : Nat) : nI a * 5 = nI (a * 5) := pk_mul a 5
theorem am_m4 (a : Nat) : nI a * 4 = nI (a * 4) := pk_mul a 4
theorem am_m2 (a : Nat) : nI a * 2 = nI (a * 2) := pk_mul a 2
theorem am_m1001 (a : Nat) : nI a * 1001 = nI (a * 1001) := pk_mul a 1001
theorem am_p2 (a : Nat) : nI a + 2 = nI (a + 2) := nI_add a 2
theorem am_p3 (a : Nat) : nI a + 3 = nI (a + 3) := nI_add a 3
theorem am_p6 (a : Nat) : nI a + 6 = nI (a + 6) := nI_add a 6
theorem am_p7 (a : Nat) : nI a + 7 = nI (a + 7) := nI_add a 7
theorem am_8 (a b : Nat) : nI a * 8 + nI b = nI (a * 8 + b) := by rw [am_m8, nI_add]
theorem am_12 (a b : Nat) : nI a * 12 + nI b = nI (a * 12 + b) := by rw [am_m12, nI_add]
theorem am_5 (a b : Nat) : nI a * 5 + nI b = nI (a * 5 + b) := by rw [am_m5, nI_add]
theorem am_1001 (a b : Nat) : nI a * 1001 + nI b = nI (a * 1001 + b) := by rw [am_m1001, nI_add]
theorem am_s1 {n : Nat} (h : 0 < n) : nI n - 1 = nI (n - 1) := by
  obtain ⟨m, rfl⟩ : ∃ m, n = m + 1 := ⟨n - 1, by omega⟩
  exact nI_pred m
theorem am_a1 {n : Nat} (h : 0 < n) : nI n + (-1) = nI (n - 1) := by
  obtain ⟨m, rfl⟩ : ∃ m, n = m + 1 := ⟨n - 1, by omega⟩
  exact pk_m1 m
theorem am_sub1 (x : Int32) : x + (-1) = x - 1 := (Int32.sub_eq_add_neg x 1).symm
theorem am_n1lt : (-1 : Int32) < 0 := by decide
theorem am_n1le : ¬ (0 : Int32) ≤ -1 := by decide
theorem am_ne1 {a : Nat} (h : a < 2 ^ 31) : ¬ nI a = -1 := by
  intro e
  have := nI_pos (n := a) h
  rw [e] at this
  exact this am_n1lt
theorem am_im {a b : Nat} (h : nI a = nI b) (ha : a < 2 ^ 31) (hb : b < 2 ^ 31) : a = b := (nI_eq ha hb).mp h
/-- a truth value as an int -/
def am_b : Bool → Int32
  | true => 1
  | false => 0
theorem am_br {b : Bool} {A B : Prop} (f : b = false → A) (g : b = true → B) : (am_b b = 0 → A) ∧ (¬ am_b b = 0 → B) := by
  cases b
  · exact ⟨fun _ => f rfl, fun h => absurd rfl h⟩
  · exact ⟨fun h => absurd h (by decide), fun _ => g rfl⟩
/-- an index or -1 -/
def am_o : Option Nat → Int32
  | none => -1
  | some p => nI p
theorem am_oge {o : Option Nat} {A B : Prop} (hb : ∀ p, o = some p → p < 2 ^ 31) (f : ∀ p, o = some p → A) (g : o = none → B) : (0 ≤ am_o o → A) ∧ (¬ 0 ≤ am_o o → B) := by
  cases o with
  | none => exact ⟨fun h => absurd h am_n1le, fun _ => g rfl⟩
  | some p => exact ⟨fun _ => f p rfl, fun h => absurd (nI_pos' (hb p rfl)) h⟩
theorem am_olt {o : Option Nat} {A B : Prop} (hb : ∀ p, o = some p → p < 2 ^ 31) (f : o = none → A) (g : ∀ p, o = some p → B) : (am_o o < 0 → A) ∧ (¬ am_o o < 0 → B) := by
  cases o with
  | none => exact ⟨fun _ => f rfl, fun h => absurd am_n1lt h⟩
  | some p => exact ⟨fun h => absurd h (nI_pos (hb p rfl)), fun _ => g p rfl⟩
/-! bits -/
theorem am_1b (i : Nat) : bt 1 i = decide (i = 0) := by
  rcases Nat.lt_or_ge i 32 with h | h
  · exact (by decide +kernel : ∀ i, i < 32 → bt 1 i = decide (i = 0)) i h
  · rw [b_big h, decide_eq_false (by omega)]
theorem am_bit {k : Nat} (hk : k < 32) (j : Nat) : bt ((1 : Int32) <<< (nI k &&& 31)) j = decide (j = k) := by
  rcases Nat.lt_or_ge j 32 with h | h
  · rw [b_shl k hk 1 h, am_1b]
    by_cases e : j = k
    · subst e; simp
    · by_cases e2 : k ≤ j
      · rw [decide_eq_true e2, decide_eq_false e, decide_eq_false (by omega)]; rfl
      · rw [decide_eq_false e2, decide_eq_false e]; rfl
  · rw [b_big h, decide_eq_false (by omega)]
theorem am_and1 (x : Int32) : x &&& 1 = am_b (bt x 0) := by
  apply b_ext
  intro i hi
  rw [b_and, am_1b]
  by_cases e : i = 0
  · subst e
    cases bt x 0
    · simp [am_b, b_0]
    · simp [am_b, am_1b]
  · rw [decide_eq_false e, Bool.and_false]
    cases bt x 0
    · simp [am_b, b_0]
    · simp [am_b, am_1b, e]
theorem am_sh1 (m : Int32) {j : Nat} (hj : j < 32) : (m >>> (nI j &&& 31)) &&& 1 = am_b (bt m j) := by
  rw [am_and1, b_sshr j hj m (by omega), if_pos (by omega), Nat.add_zero]
theorem am_not (x : Int32) {j : Nat} (hj : j < 32) : bt (x ^^^ (-1)) j = !bt x j := by
  rw [b_xor, b_m1 j hj]; cases bt x j <;> rfl
theorem am_z {m : Int32} : m = 0 ↔ ∀ j, j < 32 → bt m j = false := by
  constructor
  · intro h j _; rw [h, b_0]
  · intro h; exact b_ext fun i hi => by rw [h i hi, b_0]
theorem am_b1 (b : Bool) : (am_b b = 1) ↔ b = true := by cases b <;> decide
theorem am_b0 (b : Bool) : (am_b b = 0) ↔ b = false := by cases b <;> decide
/-! iteration -/
def am_it {σ : Type} (f : Nat → σ → σ) : Nat → σ → σ
  | 0, s => s
  | n + 1, s => f n (am_it f n s)
theorem am_its {σ : Type} (f : Nat → σ → σ) (n : Nat) (s : σ) : am_it f (n + 1) s = f n (am_it f n s) := rfl
theorem am_it_skip {σ : Type} {f : Nat → σ → σ} {n : Nat} {s : σ} : ∀ d, (∀ i, n ≤ i → i < n + d → ∀ s, f i s = s) → am_it f (n + d) s = am_it f n s := by
  intro d
  induction d with
  | zero => intro _; rfl
  | succ d ih =>
    intro h
    show f (n + d) (am_it f (n + d) s) = _
    rw [h (n + d) (by omega) (by omega)]
    exact ih fun i h1 h2 => h i h1 (by omega)
theorem am_it_le {σ : Type} {f : Nat → σ → σ} {n m : Nat} {s : σ} (hn : n ≤ m) (h : ∀ i, n ≤ i → i < m → ∀ s, f i s = s) : am_it f m s = am_it f n s := by
  obtain ⟨d, rfl⟩ : ∃ d, m = n + d := ⟨m - n, by omega⟩
  exact am_it_skip d h
theorem am_it_congr {σ : Type} {f g : Nat → σ → σ} {n : Nat} {s : σ} (h : ∀ i, i < n → ∀ s, f i s = g i s) : am_it f n s = am_it g n s := by
  induction n with
  | zero => rfl
  | succ n ih => rw [am_its, am_its, ih fun i hi => h i (by omega), h n (by omega)]
theorem am_it_inv {σ : Type} {f : Nat → σ → σ} (I : Nat → σ → Prop) {s : σ} (h0 : I 0 s) (n : Nat) (hs : ∀ i s, i < n → I i s → I (i + 1) (f i s)) : ∀ i, i ≤ n → I i (am_it f i s) := by
  intro i
  induction i with
  | zero => intro _; exact h0
  | succ i ih => intro hi; exact hs i _ (by omega) (ih (by omega))
theorem am_lp {σ : Type} {W : Nat → Nat → σ → Prop} {f : Nat → σ → σ} {I : Nat → σ → Prop} {e : Nat} {s : σ} (h0 : I 0 s) (hI : ∀ i s, i < e → I i s → I (i + 1) (f i s)) (hx : ∀ n, W (n + 1) e (am_it f e s)) (hs : ∀ n i s, i < e → I i s → W n (i + 1) (f i s) → W (n + 1) i s) : ∀ d i n, i + d = e → d < n → W n i (am_it f i s) := by
  intro d
  induction d with
  | zero =>
    intro i n hi hn
    obtain ⟨m, rfl⟩ : ∃ m, n = m + 1 := ⟨n - 1, by omega⟩
    obtain rfl : i = e := hi
    exact hx m
  | succ d ih =>
    intro i n hi hn
    obtain ⟨m, rfl⟩ : ∃ m, n = m + 1 := ⟨n - 1, by omega⟩
    exact hs m i _ (by omega) (am_it_inv I h0 e hI i (by omega)) (ih (i + 1) m (by omega) (by omega))
theorem am_lp0 {σ : Type} {W : Nat → Nat → σ → Prop} (f : Nat → σ → σ) (I : Nat → σ → Prop) (e : Nat) {s : σ} (h0 : I 0 s) (hI : ∀ i s, i < e → I i s → I (i + 1) (f i s)) (hx : ∀ n, W (n + 1) e (am_it f e s)) (hs : ∀ n i s, i < e → I i s → W n (i + 1) (f i s) → W (n + 1) i s) : ∃ n, W n 0 s :=
  ⟨e + 1, am_lp (W := W) (f := f) (I := I) h0 hI hx hs e 0 (e + 1) (by omega) (by omega)⟩
/-! stores -/
theorem am_uu {f : Nat → Int32} {k : Nat} {x y : Int32} : upd (upd f k x) k y = upd f k y := by
  funext j; unfold upd; by_cases h : j = k
  · rw [if_pos h, if_pos h]
  · rw [if_neg h, if_neg h, if_neg h]
theorem am_ui {f : Nat → Int32} {k : Nat} {x : Int32} (h : f k = x) : upd f k x = f := by
  funext j; unfold upd; by_cases e : j = k
  · rw [if_pos e, e, h]
  · rw [if_neg e]
theorem am_ucomm {f : Nat → Int32} {i k : Nat} {x y : Int32} (h : i ≠ k) : upd (upd f i x) k y = upd (upd f k y) i x := by
  funext j; unfold upd; by_cases e : j = k
  · rw [if_pos e, if_neg (by omega), if_pos e]
  · by_cases e2 : j = i
    · rw [if_neg e, if_pos e2, if_pos e2]
    · rw [if_neg e, if_neg e2, if_neg e2, if_neg e]
theorem am_uLi {f : Nat → Int64} {k : Nat} {x : Int64} (h : f k = x) : vp_updL f k x = f := by
  funext j; unfold vp_updL; by_cases e : j = k
  · rw [if_pos e, e, h]
  · rw [if_neg e]
theorem am_uLcomm {f : Nat → Int64} {i k : Nat} {x y : Int64} (h : i ≠ k) : vp_updL (vp_updL f i x) k y = vp_updL (vp_updL f k y) i x := by
  funext j; unfold vp_updL; by_cases e : j = k
  · rw [if_pos e, if_neg (by omega), if_pos e]
  · by_cases e2 : j = i
    · rw [if_neg e, if_pos e2, if_pos e2]
    · rw [if_neg e, if_neg e2, if_neg e2, if_neg e]
end
section
/-! 03: a mailbox, pure -/
def am_up {α : Type} (a : Nat → α) (lo hi : Nat) : Nat → α := fun j => if lo < j ∧ j ≤ hi then a (j - 1) else a j
def am_dn {α : Type} (a : Nat → α) (lo hi : Nat) : Nat → α := fun j => if lo ≤ j ∧ j < hi then a (j + 1) else a j
theorem am_up0 {α : Type} (a : Nat → α) (h : Nat) : am_up a h h = a := funext fun j => if_neg (by omega)
theorem am_dn0 {α : Type} (a : Nat → α) (h : Nat) : am_dn a h h = a := funext fun j => if_neg (by omega)
theorem am_upS {α : Type} (a : Nat → α) {lo hi : Nat} (h : lo < hi) : (fun j => if j = lo + 1 then am_up a (lo + 1) hi lo else am_up a (lo + 1) hi j) = am_up a lo hi := by
  funext j
  unfold am_up
  by_cases hj : j = lo + 1
  · subst hj
    rw [if_pos rfl, if_neg (by omega), if_pos (by omega)]
    rfl
  · rw [if_neg hj]
    by_cases h2 : lo + 1 < j ∧ j ≤ hi
    · rw [if_pos h2, if_pos (by omega)]
    · rw [if_neg h2, if_neg (by omega)]
theorem am_dnS {α : Type} (a : Nat → α) {lo x : Nat} (h : lo ≤ x) : (fun j => if j = x then am_dn a lo x (x + 1) else am_dn a lo x j) = am_dn a lo (x + 1) := by
  funext j
  unfold am_dn
  by_cases hj : j = x
  · subst hj
    rw [if_pos rfl, if_neg (by omega), if_pos (by omega)]
  · rw [if_neg hj]
    by_cases h2 : lo ≤ j ∧ j < x
    · rw [if_pos h2, if_pos (by omega)]
    · rw [if_neg h2, if_neg (by omega)]
theorem am_ups (a : Nat → Int32) {lo hi : Nat} (h : lo < hi) : upd (am_up a (lo + 1) hi) (lo + 1) (am_up a (lo + 1) hi lo) = am_up a lo hi := am_upS a h
theorem am_upsL (a : Nat → Int64) {lo hi : Nat} (h : lo < hi) : vp_updL (am_up a (lo + 1) hi) (lo + 1) (am_up a (lo + 1) hi lo) = am_up a lo hi := am_upS a h
theorem am_dns (a : Nat → Int32) {lo x : Nat} (h : lo ≤ x) : upd (am_dn a lo x) x (am_dn a lo x (x + 1)) = am_dn a lo (x + 1) := am_dnS a h
theorem am_dnsL (a : Nat → Int64) {lo x : Nat} (h : lo ≤ x) : vp_updL (am_dn a lo x) x (am_dn a lo x (x + 1)) = am_dn a lo (x + 1) := am_dnS a h
/-- counts, kinds, senders, values, stamps, counters -/
abbrev ML : Type := (Nat → Int32) × (Nat → Int32) × (Nat → Int32) × (Nat → Int32) × (Nat → Int64) × (Nat → Int64)
def am_lu (k : Nat → Int32) (b : Nat) : Nat → Option Nat
  | 0 => none
  | n + 1 => if k (b + n) = 1 then some n else am_lu k b n
def am_ex (k : Nat → Int32) (b : Nat) : Nat → Nat
  | 0 => 0
  | n + 1 => if k (b + n) = 2 then am_ex k b n + 1 else am_ex k b n
theorem am_lu_lt {k : Nat → Int32} {b : Nat} : ∀ {n p : Nat}, am_lu k b n = some p → p < n := by
  intro n
  induction n with
  | zero => intro p h; exact absurd h (by simp [am_lu])
  | succ n ih =>
    intro p h
    unfold am_lu at h
    by_cases e : k (b + n) = 1
    · rw [if_pos e] at h
      have := Option.some.inj h
      omega
    · rw [if_neg e] at h
      have := ih h
      omega
theorem am_ex_le {k : Nat → Int32} {b : Nat} : ∀ n : Nat, am_ex k b n ≤ n := by
  intro n
  induction n with
  | zero => exact Nat.le_refl 0
  | succ n ih =>
    unfold am_ex
    by_cases e : k (b + n) = 2
    · rw [if_pos e]; omega
    · rw [if_neg e]; omega
/-- a counter up by one -/
def am_ct (i : Nat) (m : ML) : ML := (m.1, m.2.1, m.2.2.1, m.2.2.2.1, m.2.2.2.2.1, vp_updL m.2.2.2.2.2 i (m.2.2.2.2.2 i + 1))
def am_n (t : Nat) (m : ML) : Nat := (m.1 t).toNatClampNeg
def am_rem (t p : Nat) (m : ML) : ML :=
  (upd m.1 t (nI (am_n t m - 1)), am_dn m.2.1 (t * 12 + p) (t * 12 + am_n t m - 1), am_dn m.2.2.1 (t * 12 + p) (t * 12 + am_n t m - 1), am_dn m.2.2.2.1 (t * 12 + p) (t * 12 + am_n t m - 1), am_dn m.2.2.2.2.1 (t * 12 + p) (t * 12 + am_n t m - 1), m.2.2.2.2.2)
/-- a message put at place p of the box; the counter 1 is its stamp -/
def am_ins (t p : Nat) (k f v : Int32) (m : ML) : ML :=
  (upd m.1 t (nI (am_n t m + 1)), upd (am_up m.2.1 (t * 12 + p) (t * 12 + am_n t m)) (t * 12 + p) k, upd (am_up m.2.2.1 (t * 12 + p) (t * 12 + am_n t m)) (t * 12 + p) f, upd (am_up m.2.2.2.1 (t * 12 + p) (t * 12 + am_n t m)) (t * 12 + p) v, vp_updL (am_up m.2.2.2.2.1 (t * 12 + p) (t * 12 + am_n t m)) (t * 12 + p) (m.2.2.2.2.2 1), m.2.2.2.2.2)
def am_pos (t : Nat) (k : Int32) (m : ML) : Nat := if k = 2 then am_ex m.2.1 (t * 12) (am_n t m) else am_n t m
def am_put (t : Nat) (k f v : Int32) (m : ML) : ML := am_ins t (am_pos t k m) k f v (am_ct 1 m)
def am_po (t : Nat) (k f v : Int32) (m : ML) : Option Nat → ML
  | none => m
  | some p => am_put t k f v (am_rem t p m)
def am_pl (cap t : Nat) (k f v : Int32) (m : ML) : ML :=
  if am_n t m < cap then am_put t k f v (am_ct 0 m)
  else if k = 1 then am_ct 3 (am_ct 0 m)
  else am_po t k f v (am_ct 3 (am_ct 0 m)) (am_lu m.2.1 (t * 12) (am_n t m))
theorem am_n_of {t n : Nat} {m : ML} (h : m.1 t = nI n) (hn : n < 2 ^ 31) : am_n t m = n := by
  unfold am_n; rw [h, nI_clamp hn]
/-! what placing does to the counts -/
theorem am_pl_n {cap t : Nat} {k f v : Int32} {m : ML} (j : Nat) : j ≠ t → (am_pl cap t k f v m).1 j = m.1 j := by
  intro hj
  unfold am_pl
  by_cases h1 : am_n t m < cap
  · rw [if_pos h1]; exact pk_un hj
  · rw [if_neg h1]
    by_cases h2 : k = 1
    · rw [if_pos h2]; rfl
    · rw [if_neg h2]
      cases am_lu m.2.1 (t * 12) (am_n t m) with
      | none => rfl
      | some p => exact (pk_un hj).trans (pk_un hj)
theorem am_pl_c {cap t n : Nat} {k f v : Int32} {m : ML} (hc : 1 ≤ cap) (h12 : cap ≤ 12) (h : m.1 t = nI n) (hn : n ≤ cap) : ∃ n', n' ≤ cap ∧ (am_pl cap t k f v m).1 t = nI n' := by
  have en : am_n t m = n := am_n_of h (by omega)
  unfold am_pl
  by_cases h1 : am_n t m < cap
  · rw [if_pos h1]
    refine ⟨n + 1, by omega, ?_⟩
    show upd _ t (nI (am_n t m + 1)) t = _
    rw [pk_us, en]
  · rw [if_neg h1]
    by_cases h2 : k = 1
    · rw [if_pos h2]; exact ⟨n, hn, h⟩
    · rw [if_neg h2]
      cases am_lu m.2.1 (t * 12) (am_n t m) with
      | none => exact ⟨n, hn, h⟩
      | some p =>
        refine ⟨n, hn, ?_⟩
        have e2 : am_n t (am_rem t p (am_ct 3 (am_ct 0 m))) = n - 1 := by
          refine am_n_of ?_ (by omega)
          show upd _ t (nI (am_n t m - 1)) t = _
          rw [pk_us, en]
        show upd _ t (nI (am_n t (am_rem t p (am_ct 3 (am_ct 0 m))) + 1)) t = _
        rw [pk_us, e2]
        exact congrArg nI (by omega)
end
section
/-! 04: place, the component's side -/
section XP
variable {N cap Q CS cc now tc kn : Nat} {fl : Int32} {op oa ob oc st gn lr rg pc tr wt dl mc mk mf mv lm mon par ce ct ca sg mx wd cn cl rc rk tp tv wa dy kd rs lk cel trd : Nat → Int32} {ms cnt : Nat → Int64}
theorem xp_copy {post : SX → Prop} {a b : Nat} (ha : a < 96) (hb : b < 96) (h : post (fl, nI N, nI cap, nI Q, nI CS, nI cc, nI now, nI tc, op, oa, ob, oc, st, gn, lr, rg, pc, tr, wt, dl, mc, upd mk b (mk a), upd mf b (mf a), upd mv b (mv a), vp_updL ms b (ms a), lm, mon, par, ce, ct, ca, sg, mx, wd, cn, cl, rc, rk, tp, tv, cnt)) : wpX_copyMessage post (fl, nI N, nI cap, nI Q, nI CS, nI cc, nI now, nI tc, op, oa, ob, oc, st, gn, lr, rg, pc, tr, wt, dl, mc, mk, mf, mv, ms, lm, mon, par, ce, ct, ca, sg, mx, wd, cn, cl, rc, rk, tp, tv, cnt) (nI a) (nI b) := by
  have i1 : vp_in (nI a) 96 := vp_in_nI ha (by omega)
  have i2 : vp_in (nI b) 96 := vp_in_nI hb (by omega)
  have e1 : (nI a).toNatClampNeg = a := nI_clamp (by omega)
  have e2 : (nI b).toNatClampNeg = b := nI_clamp (by omega)
  refine ⟨i1, i2, nm_r (by rw [e1, e2]) ⟨i1, i2, nm_r (by rw [e1, e2]) ⟨i1, i2, nm_r (by rw [e1, e2]) ⟨i1, i2, nm_r (by rw [e1, e2]) h⟩⟩⟩⟩
theorem xp_rm_l {post : SX → Prop} {t c p : Nat} (ht : t < 8) (hc : mc t = nI c) (h1 : 1 ≤ c) (h12 : c ≤ 12) (hp : t * 12 ≤ p) (h : post (fl, nI N, nI cap, nI Q, nI CS, nI cc, nI now, nI tc, op, oa, ob, oc, st, gn, lr, rg, pc, tr, wt, dl, upd mc t (nI (c - 1)), am_dn mk p (t * 12 + c - 1), am_dn mf p (t * 12 + c - 1), am_dn mv p (t * 12 + c - 1), am_dn ms p (t * 12 + c - 1), lm, mon, par, ce, ct, ca, sg, mx, wd, cn, cl, rc, rk, tp, tv, cnt)) : ∀ d x n, x + d = t * 12 + c - 1 → p ≤ x → d < n → wX_removeMessage_10 post (nI t) (nI (t * 12)) n (nI x) fl (nI N) (nI cap) (nI Q) (nI CS) (nI cc) (nI now) (nI tc) op oa ob oc st gn lr rg pc tr wt dl mc (am_dn mk p x) (am_dn mf p x) (am_dn mv p x) (am_dn ms p x) lm mon par ce ct ca sg mx wd cn cl rc rk tp tv cnt := by
  have i1 : vp_in (nI t) 8 := vp_in_nI ht (by omega)
  have e1 : (nI t).toNatClampNeg = t := nI_clamp (by omega)
  have e2 : nI (t * 12) + mc (nI t).toNatClampNeg - 1 = nI (t * 12 + c - 1) := by
    rw [e1, hc, nI_add, am_s1 (by omega)]
  intro d
  induction d with
  | zero =>
    intro x n hx hpx hn
    obtain ⟨m, rfl⟩ : ∃ m, n = m + 1 := ⟨n - 1, by omega⟩
    obtain rfl : x = t * 12 + c - 1 := hx
    refine ⟨i1, br_t (by rw [e2]; exact Int32.le_refl _) ⟨i1, i1, nm_r ?_ h⟩⟩
    rw [e1, hc, am_s1 (by omega)]
  | succ d ih =>
    intro x n hx hpx hn
    obtain ⟨m, rfl⟩ : ∃ m, n = m + 1 := ⟨n - 1, by omega⟩
    refine ⟨i1, br_f (by rw [e2]; exact nI_ge (by omega) (by omega)) ?_⟩
    rw [nI_1 x]
    refine xp_copy (by omega) (by omega) ?_
    rw [am_dns mk hpx, am_dns mf hpx, am_dns mv hpx, am_dnsL ms hpx]
    exact nm_e (ih (x + 1) m (by omega) (by omega) (by omega))
theorem xp_rem {post : SX → Prop} {t c p : Nat} {m : ML} (ht : t < 8) (hc : m.1 t = nI c) (hp : p < c) (h12 : c ≤ 12) (h : post (fl, nI N, nI cap, nI Q, nI CS, nI cc, nI now, nI tc, op, oa, ob, oc, st, gn, lr, rg, pc, tr, wt, dl, (am_rem t p m).1, (am_rem t p m).2.1, (am_rem t p m).2.2.1, (am_rem t p m).2.2.2.1, (am_rem t p m).2.2.2.2.1, lm, mon, par, ce, ct, ca, sg, mx, wd, cn, cl, rc, rk, tp, tv, (am_rem t p m).2.2.2.2.2)) : wpX_removeMessage post (fl, nI N, nI cap, nI Q, nI CS, nI cc, nI now, nI tc, op, oa, ob, oc, st, gn, lr, rg, pc, tr, wt, dl, m.1, m.2.1, m.2.2.1, m.2.2.2.1, m.2.2.2.2.1, lm, mon, par, ce, ct, ca, sg, mx, wd, cn, cl, rc, rk, tp, tv, m.2.2.2.2.2) (nI t) (nI p) := by
  have en : am_n t m = c := am_n_of hc (by omega)
  refine nm_r (am_m12 t) (nm_r (nI_add (t * 12) p) ⟨c + 1, ?_⟩)
  have k : wX_removeMessage_10 post (nI t) (nI (t * 12)) (c + 1) (nI (t * 12 + p)) fl (nI N) (nI cap) (nI Q) (nI CS) (nI cc) (nI now) (nI tc) op oa ob oc st gn lr rg pc tr wt dl m.1 (am_dn m.2.1 (t * 12 + p) (t * 12 + p)) (am_dn m.2.2.1 (t * 12 + p) (t * 12 + p)) (am_dn m.2.2.2.1 (t * 12 + p) (t * 12 + p)) (am_dn m.2.2.2.2.1 (t * 12 + p) (t * 12 + p)) lm mon par ce ct ca sg mx wd cn cl rc rk tp tv m.2.2.2.2.2 :=
    xp_rm_l ht hc (by omega) h12 (by omega) (by unfold am_rem at h; rw [en] at h; exact h) (c - 1 - p) (t * 12 + p) (c + 1) (by omega) (by omega) (by omega)
  rw [am_dn0, am_dn0, am_dn0, am_dn0] at k
  exact k
theorem xp_ex_l {post : Int32 → Prop} {t n : Nat} (ht : t < 8) (hc : mc t = nI n) (h12 : n ≤ 12) (h : post (nI (am_ex mk (t * 12) n))) : ∀ d x f, x + d = n → d < f → wX_exitsInFront_4 post (nI t) fl (nI N) (nI cap) (nI Q) (nI CS) (nI cc) (nI now) (nI tc) op oa ob oc st gn lr rg pc tr wt dl mc mk mf mv ms lm mon par ce ct ca sg mx wd cn cl rc rk tp tv cnt f (nI (am_ex mk (t * 12) x)) (nI x) := by
  have i1 : vp_in (nI t) 8 := vp_in_nI ht (by omega)
  have e1 : (nI t).toNatClampNeg = t := nI_clamp (by omega)
  intro d
  induction d with
  | zero =>
    intro x f hx hf
    obtain ⟨m, rfl⟩ : ∃ m, f = m + 1 := ⟨f - 1, by omega⟩
    obtain rfl : x = n := hx
    exact ⟨i1, br_t (by rw [e1, hc]; exact Int32.le_refl _) h⟩
  | succ d ih =>
    intro x f hx hf
    obtain ⟨m, rfl⟩ : ∃ m, f = m + 1 := ⟨f - 1, by omega⟩
    have e3 : (nI t * 12 + nI x).toNatClampNeg = t * 12 + x := by rw [am_12, nI_clamp (by omega)]
    refine ⟨i1, br_f (by rw [e1, hc]; exact nI_ge (by omega) (by omega)) ⟨pk_in (t * 12 + x) 96 (by omega) (am_12 t x), ?_⟩⟩
    have k := ih (x + 1) m (by omega) (by omega)
    by_cases e : mk (t * 12 + x) = 2
    · refine br_t (by rw [e3]; exact e) (nm_r (nI_1 _) (nm_r (nI_1 _) ?_))
      unfold am_ex at k; rw [if_pos e] at k; exact k
    · refine br_f (by rw [e3]; exact e) (nm_r (nI_1 _) ?_)
      unfold am_ex at k; rw [if_neg e] at k; exact k
theorem xp_ex {post : Int32 → Prop} {t n : Nat} (ht : t < 8) (hc : mc t = nI n) (h12 : n ≤ 12) (h : post (nI (am_ex mk (t * 12) n))) : wpX_exitsInFront post (fl, nI N, nI cap, nI Q, nI CS, nI cc, nI now, nI tc, op, oa, ob, oc, st, gn, lr, rg, pc, tr, wt, dl, mc, mk, mf, mv, ms, lm, mon, par, ce, ct, ca, sg, mx, wd, cn, cl, rc, rk, tp, tv, cnt) (nI t) :=
  ⟨n + 1, xp_ex_l ht hc h12 h n 0 (n + 1) (by omega) (by omega)⟩
theorem xp_lu_l {post : Int32 → Prop} {t n : Nat} (ht : t < 8) (h12 : n ≤ 12) (h : post (am_o (am_lu mk (t * 12) n))) : ∀ d f, d ≤ n → am_lu mk (t * 12) n = am_lu mk (t * 12) d → d < f → wX_lastUser_9 post (nI t) fl (nI N) (nI cap) (nI Q) (nI CS) (nI cc) (nI now) (nI tc) op oa ob oc st gn lr rg pc tr wt dl mc mk mf mv ms lm mon par ce ct ca sg mx wd cn cl rc rk tp tv cnt f (nI d - 1) := by
  intro d
  induction d with
  | zero =>
    intro f _ he hf
    obtain ⟨m, rfl⟩ : ∃ m, f = m + 1 := ⟨f - 1, by omega⟩
    rw [he] at h
    exact br_t (by decide) h
  | succ d ih =>
    intro f hd he hf
    obtain ⟨m, rfl⟩ : ∃ m, f = m + 1 := ⟨f - 1, by omega⟩
    rw [nI_pred]
    have e3 : (nI t * 12 + nI d).toNatClampNeg = t * 12 + d := by rw [am_12, nI_clamp (by omega)]
    refine br_f (nI_pos (by omega)) ⟨pk_in (t * 12 + d) 96 (by omega) (am_12 t d), ?_⟩
    by_cases e : mk (t * 12 + d) = 1
    · refine br_t (by rw [e3]; exact e) ?_
      rw [he] at h
      unfold am_lu at h; rw [if_pos e] at h; exact h
    · refine br_f (by rw [e3]; exact e) (nm_r (e' := nI d - 1) (am_sub1 _) ?_)
      refine ih m (by omega) ?_ (by omega)
      rw [he]
      show (if _ then _ else _) = _
      rw [if_neg e]
theorem xp_lu {post : Int32 → Prop} {t n : Nat} (ht : t < 8) (hc : mc t = nI n) (h12 : n ≤ 12) (h : post (am_o (am_lu mk (t * 12) n))) : wpX_lastUser post (fl, nI N, nI cap, nI Q, nI CS, nI cc, nI now, nI tc, op, oa, ob, oc, st, gn, lr, rg, pc, tr, wt, dl, mc, mk, mf, mv, ms, lm, mon, par, ce, ct, ca, sg, mx, wd, cn, cl, rc, rk, tp, tv, cnt) (nI t) := by
  refine ⟨vp_in_nI ht (by omega), nm_r (e' := nI n - 1) (by rw [nI_clamp (by omega), hc]) ⟨n + 1, ?_⟩⟩
  exact xp_lu_l ht h12 h n (n + 1) (Nat.le_refl n) rfl (by omega)
theorem xp_in_l {post : SX → Prop} {t n p : Nat} {k f v : Int32} (ht : t < 8) (hc : mc t = nI n) (h12 : n < 12) (hp : p ≤ n) (h : post (fl, nI N, nI cap, nI Q, nI CS, nI cc, nI now, nI tc, op, oa, ob, oc, st, gn, lr, rg, pc, tr, wt, dl, upd mc t (nI (n + 1)), upd (am_up mk (t * 12 + p) (t * 12 + n)) (t * 12 + p) k, upd (am_up mf (t * 12 + p) (t * 12 + n)) (t * 12 + p) f, upd (am_up mv (t * 12 + p) (t * 12 + n)) (t * 12 + p) v, vp_updL (am_up ms (t * 12 + p) (t * 12 + n)) (t * 12 + p) (cnt 1), lm, mon, par, ce, ct, ca, sg, mx, wd, cn, cl, rc, rk, tp, tv, cnt)) : ∀ d x fu, x = t * 12 + p + d → x ≤ t * 12 + n → d < fu → wX_insertMessage_17 post (nI t) (nI p) k f v (nI (t * 12)) fu (nI x) fl (nI N) (nI cap) (nI Q) (nI CS) (nI cc) (nI now) (nI tc) op oa ob oc st gn lr rg pc tr wt dl mc (am_up mk x (t * 12 + n)) (am_up mf x (t * 12 + n)) (am_up mv x (t * 12 + n)) (am_up ms x (t * 12 + n)) lm mon par ce ct ca sg mx wd cn cl rc rk tp tv cnt := by
  have i1 : vp_in (nI t) 8 := vp_in_nI ht (by omega)
  have e1 : (nI t).toNatClampNeg = t := nI_clamp (by omega)
  have e3 : nI (t * 12) + nI p = nI (t * 12 + p) := nI_add _ _
  have e4 : (nI (t * 12) + nI p).toNatClampNeg = t * 12 + p := by rw [e3, nI_clamp (by omega)]
  have i2 : vp_in (nI (t * 12) + nI p) 96 := pk_in (t * 12 + p) 96 (by omega) e3
  intro d
  induction d with
  | zero =>
    intro x fu hx hxn hf
    obtain ⟨m, rfl⟩ : ∃ m, fu = m + 1 := ⟨fu - 1, by omega⟩
    obtain rfl : x = t * 12 + p := hx
    refine br_t (by rw [e3]; exact Int32.le_refl _) ⟨i2, nm_r (by rw [e4]) ⟨i2, nm_r (by rw [e4]) ⟨i2, nm_r (by rw [e4]) ⟨i2, nm_r (by rw [e4]) ⟨i1, i1, nm_r ?_ h⟩⟩⟩⟩⟩
    rw [e1, hc, nI_1]
  | succ d ih =>
    intro x fu hx hxn hf
    obtain ⟨m, rfl⟩ : ∃ m, fu = m + 1 := ⟨fu - 1, by omega⟩
    obtain ⟨y, rfl⟩ : ∃ y, x = y + 1 := ⟨x - 1, by omega⟩
    refine br_f (by rw [e3]; exact nI_ge (by omega) (by omega)) ?_
    rw [nI_pred y]
    refine xp_copy (by omega) (by omega) ?_
    rw [am_ups mk (by omega), am_ups mf (by omega), am_ups mv (by omega), am_upsL ms (by omega)]
    exact nm_r (pk_m1 y) (ih y m (by omega) (by omega) (by omega))
theorem xp_ins {post : SX → Prop} {t n p : Nat} {k f v : Int32} {m : ML} (ht : t < 8) (hc : m.1 t = nI n) (h12 : n < 12) (hp : p ≤ n) (h : post (fl, nI N, nI cap, nI Q, nI CS, nI cc, nI now, nI tc, op, oa, ob, oc, st, gn, lr, rg, pc, tr, wt, dl, (am_ins t p k f v m).1, (am_ins t p k f v m).2.1, (am_ins t p k f v m).2.2.1, (am_ins t p k f v m).2.2.2.1, (am_ins t p k f v m).2.2.2.2.1, lm, mon, par, ce, ct, ca, sg, mx, wd, cn, cl, rc, rk, tp, tv, (am_ins t p k f v m).2.2.2.2.2)) : wpX_insertMessage post (fl, nI N, nI cap, nI Q, nI CS, nI cc, nI now, nI tc, op, oa, ob, oc, st, gn, lr, rg, pc, tr, wt, dl, m.1, m.2.1, m.2.2.1, m.2.2.2.1, m.2.2.2.2.1, lm, mon, par, ce, ct, ca, sg, mx, wd, cn, cl, rc, rk, tp, tv, m.2.2.2.2.2) (nI t) (nI p) k f v := by
  have en : am_n t m = n := am_n_of hc (by omega)
  refine nm_r (am_m12 t) ⟨vp_in_nI ht (by omega), nm_r (e' := nI (t * 12 + n)) ?_ ⟨n + 1, ?_⟩⟩
  · rw [nI_clamp (by omega), hc, nI_add]
  have q : wX_insertMessage_17 post (nI t) (nI p) k f v (nI (t * 12)) (n + 1) (nI (t * 12 + n)) fl (nI N) (nI cap) (nI Q) (nI CS) (nI cc) (nI now) (nI tc) op oa ob oc st gn lr rg pc tr wt dl m.1 (am_up m.2.1 (t * 12 + n) (t * 12 + n)) (am_up m.2.2.1 (t * 12 + n) (t * 12 + n)) (am_up m.2.2.2.1 (t * 12 + n) (t * 12 + n)) (am_up m.2.2.2.2.1 (t * 12 + n) (t * 12 + n)) lm mon par ce ct ca sg mx wd cn cl rc rk tp tv m.2.2.2.2.2 :=
    xp_in_l ht hc h12 hp (by unfold am_ins at h; rw [en] at h; exact h) (n - p) (t * 12 + n) (n + 1) (by omega) (by omega) (by omega)
  rw [am_up0, am_up0, am_up0, am_up0] at q
  exact q
theorem xp_63 {post : Int32 → SX → Prop} {t n : Nat} {k f v : Int32} {m : ML} (ht : t < 8) (hc : m.1 t = nI n) (h12 : n < 12) (h : post 1 (fl, nI N, nI cap, nI Q, nI CS, nI cc, nI now, nI tc, op, oa, ob, oc, st, gn, lr, rg, pc, tr, wt, dl, (am_put t k f v m).1, (am_put t k f v m).2.1, (am_put t k f v m).2.2.1, (am_put t k f v m).2.2.2.1, (am_put t k f v m).2.2.2.2.1, lm, mon, par, ce, ct, ca, sg, mx, wd, cn, cl, rc, rk, tp, tv, (am_put t k f v m).2.2.2.2.2)) : wX_place_63 post (nI t) k f v fl (nI N) (nI cap) (nI Q) (nI CS) (nI cc) (nI now) (nI tc) op oa ob oc st gn lr rg pc tr wt dl m.1 m.2.1 m.2.2.1 m.2.2.2.1 m.2.2.2.2.1 lm mon par ce ct ca sg mx wd cn cl rc rk tp tv m.2.2.2.2.2 := by
  have en : am_n t m = n := am_n_of hc (by omega)
  unfold am_put am_pos at h
  refine nm_e ?_
  by_cases e : k = 2
  · rw [if_pos e, en] at h
    refine br_t e (xp_ex ht hc (by omega) ?_)
    exact xp_ins (m := am_ct 1 m) ht hc h12 (am_ex_le n) h
  · rw [if_neg e, en] at h
    refine br_f e ⟨vp_in_nI ht (by omega), ?_⟩
    rw [nI_clamp (by omega), hc]
    exact xp_ins (m := am_ct 1 m) ht hc h12 (Nat.le_refl n) h
theorem xp_47 {post : Int32 → SX → Prop} {t n : Nat} {k f v : Int32} {m : ML} {o : Option Nat} (ht : t < 8) (hc : m.1 t = nI n) (h12 : n ≤ 12) (ho : ∀ p, o = some p → p < n) (h0 : o = none → post 0 (fl, nI N, nI cap, nI Q, nI CS, nI cc, nI now, nI tc, op, oa, ob, oc, st, gn, lr, rg, pc, tr, wt, dl, m.1, m.2.1, m.2.2.1, m.2.2.2.1, m.2.2.2.2.1, lm, mon, par, ce, ct, ca, sg, mx, wd, cn, cl, rc, rk, tp, tv, m.2.2.2.2.2)) (h : ∀ p, o = some p → post 1 (fl, nI N, nI cap, nI Q, nI CS, nI cc, nI now, nI tc, op, oa, ob, oc, st, gn, lr, rg, pc, tr, wt, dl, (am_put t k f v (am_rem t p m)).1, (am_put t k f v (am_rem t p m)).2.1, (am_put t k f v (am_rem t p m)).2.2.1, (am_put t k f v (am_rem t p m)).2.2.2.1, (am_put t k f v (am_rem t p m)).2.2.2.2.1, lm, mon, par, ce, ct, ca, sg, mx, wd, cn, cl, rc, rk, tp, tv, (am_put t k f v (am_rem t p m)).2.2.2.2.2)) : wX_place_47 post (nI t) k f v (am_o o) fl (nI N) (nI cap) (nI Q) (nI CS) (nI cc) (nI now) (nI tc) op oa ob oc st gn lr rg pc tr wt dl m.1 m.2.1 m.2.2.1 m.2.2.2.1 m.2.2.2.2.1 lm mon par ce ct ca sg mx wd cn cl rc rk tp tv m.2.2.2.2.2 := by
  refine am_oge (fun p e => by have := ho p e; omega) (fun p e => ?_) h0
  subst e
  have hp := ho p rfl
  refine xp_rem (m := m) ht hc hp h12 ?_
  refine xp_63 (m := am_rem t p m) (n := n - 1) ht ?_ (by omega) (h p rfl)
  show upd m.1 t (nI (am_n t m - 1)) t = _
  rw [pk_us, am_n_of hc (by omega)]
theorem xp_place {post : Int32 → SX → Prop} {t n : Nat} {k f v : Int32} {m : ML} (ht : t < 8) (hc : m.1 t = nI n) (hn : n ≤ cap) (h12 : cap ≤ 12) (h : ∀ r : Int32, (k = 1 → r = if n < cap then 1 else 0) → post r (fl, nI N, nI cap, nI Q, nI CS, nI cc, nI now, nI tc, op, oa, ob, oc, st, gn, lr, rg, pc, tr, wt, dl, (am_pl cap t k f v m).1, (am_pl cap t k f v m).2.1, (am_pl cap t k f v m).2.2.1, (am_pl cap t k f v m).2.2.2.1, (am_pl cap t k f v m).2.2.2.2.1, lm, mon, par, ce, ct, ca, sg, mx, wd, cn, cl, rc, rk, tp, tv, (am_pl cap t k f v m).2.2.2.2.2)) : wpX_place post (fl, nI N, nI cap, nI Q, nI CS, nI cc, nI now, nI tc, op, oa, ob, oc, st, gn, lr, rg, pc, tr, wt, dl, m.1, m.2.1, m.2.2.1, m.2.2.2.1, m.2.2.2.2.1, lm, mon, par, ce, ct, ca, sg, mx, wd, cn, cl, rc, rk, tp, tv, m.2.2.2.2.2) (nI t) k f v := by
  have en : am_n t m = n := am_n_of hc (by omega)
  have e1 : (nI t).toNatClampNeg = t := nI_clamp (by omega)
  refine nm_e ⟨vp_in_nI ht (by omega), ?_⟩
  by_cases hl : n < cap
  · have ep : am_pl cap t k f v m = am_put t k f v (am_ct 0 m) := by unfold am_pl; rw [en, if_pos hl]
    rw [ep] at h
    refine br_t (by rw [e1, hc]; exact nI_lt hl (by omega)) ?_
    exact xp_63 (m := am_ct 0 m) ht hc (by omega) (h 1 (fun _ => (if_pos hl).symm))
  · refine br_f (by rw [e1, hc]; exact nI_nlt (by omega) (by omega)) (nm_e ?_)
    by_cases e : k = 1
    · have ep : am_pl cap t k f v m = am_ct 3 (am_ct 0 m) := by unfold am_pl; rw [en, if_neg hl, if_pos e]
      rw [ep] at h
      exact br_t e (xp_47 (m := am_ct 3 (am_ct 0 m)) (o := none) ht hc (by omega) (fun p z => nomatch z) (fun _ => h 0 (fun _ => (if_neg hl).symm)) (fun p z => nomatch z))
    · have ep : am_pl cap t k f v m = am_po t k f v (am_ct 3 (am_ct 0 m)) (am_lu m.2.1 (t * 12) n) := by unfold am_pl; rw [en, if_neg hl, if_neg e]
      rw [ep] at h
      refine br_f e (xp_lu ht hc (by omega) ?_)
      refine xp_47 (m := am_ct 3 (am_ct 0 m)) ht hc (by omega) (fun p z => am_lu_lt z) (fun z => ?_) (fun p z => ?_)
      · have q := h 0 (fun w => absurd w e)
        rw [z] at q; exact q
      · have q := h 1 (fun w => absurd w e)
        rw [z] at q; exact q
end XP
end
section
/-! 05: place, the reference's side -/
section YP
variable {N cap Q CS cc now tc kn : Nat} {fl : Int32} {op oa ob oc st gn lr rg pc tr wt dl mc mk mf mv lm mon par ce ct ca sg mx wd cn cl rc rk tp tv wa dy kd rs lk cel trd : Nat → Int32} {ms cnt : Nat → Int64}
theorem yp_move {post : SY → Prop} {a b : Nat} (ha : a < 96) (hb : b < 96) (h : post (nI N, nI cap, nI Q, nI CS, nI now, nI cc, nI tc, nI kn, st, gn, lr, pc, wa, dy, tr, par, ce, ct, ca, kd, sg, mx, wd, rs, rg, mon, lk, mc, upd mk b (mk a), upd mf b (mf a), upd mv b (mv a), vp_updL ms b (ms a), cel, trd, cnt)) : wpY_move post (nI N, nI cap, nI Q, nI CS, nI now, nI cc, nI tc, nI kn, st, gn, lr, pc, wa, dy, tr, par, ce, ct, ca, kd, sg, mx, wd, rs, rg, mon, lk, mc, mk, mf, mv, ms, cel, trd, cnt) (nI a) (nI b) := by
  have i1 : vp_in (nI a) 96 := vp_in_nI ha (by omega)
  have i2 : vp_in (nI b) 96 := vp_in_nI hb (by omega)
  have e1 : (nI a).toNatClampNeg = a := nI_clamp (by omega)
  have e2 : (nI b).toNatClampNeg = b := nI_clamp (by omega)
  refine ⟨i1, i2, nm_r (by rw [e1, e2]) ⟨i1, i2, nm_r (by rw [e1, e2]) ⟨i1, i2, nm_r (by rw [e1, e2]) ⟨i1, i2, nm_r (by rw [e1, e2]) h⟩⟩⟩⟩
theorem yp_rm2 {post : SY → Prop} {t c p : Nat} (ht : t < 8) (h1 : 1 ≤ c) (h12 : c ≤ 12) (h : post (nI N, nI cap, nI Q, nI CS, nI now, nI cc, nI tc, nI kn, st, gn, lr, pc, wa, dy, tr, par, ce, ct, ca, kd, sg, mx, wd, rs, rg, mon, lk, upd mc t (nI (c - 1)), am_dn mk p (t * 12 + c - 1), am_dn mf p (t * 12 + c - 1), am_dn mv p (t * 12 + c - 1), am_dn ms p (t * 12 + c - 1), cel, trd, cnt)) : ∀ d x n, x + d = c - 1 → p ≤ t * 12 + x → d < n → wY_remove_66 post (nI t) (nI (c - 1)) n (nI x) (nI N) (nI cap) (nI Q) (nI CS) (nI now) (nI cc) (nI tc) (nI kn) st gn lr pc wa dy tr par ce ct ca kd sg mx wd rs rg mon lk mc (am_dn mk p (t * 12 + x)) (am_dn mf p (t * 12 + x)) (am_dn mv p (t * 12 + x)) (am_dn ms p (t * 12 + x)) cel trd cnt := by
  have i1 : vp_in (nI t) 8 := vp_in_nI ht (by omega)
  have e1 : (nI t).toNatClampNeg = t := nI_clamp (by omega)
  intro d
  induction d with
  | zero =>
    intro x n hx hpx hn
    obtain ⟨m, rfl⟩ : ∃ m, n = m + 1 := ⟨n - 1, by omega⟩
    obtain rfl : x = c - 1 := hx
    refine br_t (Int32.le_refl _) ⟨i1, nm_r (by rw [e1]) ?_⟩
    rw [show t * 12 + (c - 1) = t * 12 + c - 1 by omega]
    exact h
  | succ d ih =>
    intro x n hx hpx hn
    obtain ⟨m, rfl⟩ : ∃ m, n = m + 1 := ⟨n - 1, by omega⟩
    refine br_f (nI_ge (by omega) (by omega)) ?_
    rw [am_12, nI_1 (t * 12 + x)]
    refine yp_move (by omega) (by omega) ?_
    rw [am_dns mk hpx, am_dns mf hpx, am_dns mv hpx, am_dnsL ms hpx]
    exact nm_r (nI_1 x) (ih (x + 1) m (by omega) (by omega) (by omega))
theorem yp_rm1 {post : SY → Prop} {t c p : Nat} (ht : t < 8) (h1 : 1 ≤ c) (h12 : c ≤ 12) (h : ∃ n66, wY_remove_66 post (nI t) (nI (c - 1)) n66 (nI p) (nI N) (nI cap) (nI Q) (nI CS) (nI now) (nI cc) (nI tc) (nI kn) st gn lr pc wa dy tr par ce ct ca kd sg mx wd rs rg mon lk mc mk mf mv ms cel trd cnt) : ∀ d x n, x + d = c - 1 → d < n → wY_remove_12 post (nI t) (nI p) (nI (c - 1)) n (nI x) (nI N) (nI cap) (nI Q) (nI CS) (nI now) (nI cc) (nI tc) (nI kn) st gn lr pc wa dy tr par ce ct ca kd sg mx wd rs rg mon lk mc mk mf mv ms cel trd cnt := by
  intro d
  induction d with
  | zero =>
    intro x n hx hn
    obtain ⟨m, rfl⟩ : ∃ m, n = m + 1 := ⟨n - 1, by omega⟩
    obtain rfl : x = c - 1 := hx
    exact br_t (Int32.le_refl _) h
  | succ d ih =>
    intro x n hx hn
    obtain ⟨m, rfl⟩ : ∃ m, n = m + 1 := ⟨n - 1, by omega⟩
    refine br_f (nI_ge (by omega) (by omega)) ?_
    have e : nI t * 12 + nI x + 1 - 1 + 0 = nI (t * 12 + x) := by
      rw [am_12, nI_1, nI_pred]; exact Int32.add_zero _
    refine br_f (by rw [e]; exact am_ne1 (by omega)) ?_
    unfold wY_remove_54
    rw [am_12]
    refine yp_move (by omega) (by omega) ?_
    rw [am_ui rfl, am_ui rfl, am_ui rfl, am_uLi rfl]
    exact nm_r (nI_1 x) (ih (x + 1) m (by omega) (by omega))
theorem yp_rem {post : SY → Prop} {t c p : Nat} {m : ML} (ht : t < 8) (hc : m.1 t = nI c) (hp : p < c) (h12 : c ≤ 12) (h : post (nI N, nI cap, nI Q, nI CS, nI now, nI cc, nI tc, nI kn, st, gn, lr, pc, wa, dy, tr, par, ce, ct, ca, kd, sg, mx, wd, rs, rg, mon, lk, (am_rem t p m).1, (am_rem t p m).2.1, (am_rem t p m).2.2.1, (am_rem t p m).2.2.2.1, (am_rem t p m).2.2.2.2.1, cel, trd, (am_rem t p m).2.2.2.2.2)) : wpY_remove post (nI N, nI cap, nI Q, nI CS, nI now, nI cc, nI tc, nI kn, st, gn, lr, pc, wa, dy, tr, par, ce, ct, ca, kd, sg, mx, wd, rs, rg, mon, lk, m.1, m.2.1, m.2.2.1, m.2.2.2.1, m.2.2.2.2.1, cel, trd, m.2.2.2.2.2) (nI t) (nI p) := by
  have en : am_n t m = c := am_n_of hc (by omega)
  refine ⟨vp_in_nI ht (by omega), nm_r (e' := nI (c - 1)) (by rw [nI_clamp (by omega), hc, am_s1 (by omega)]) ⟨c + 1, ?_⟩⟩
  have k : wY_remove_66 post (nI t) (nI (c - 1)) (c + 1) (nI p) (nI N) (nI cap) (nI Q) (nI CS) (nI now) (nI cc) (nI tc) (nI kn) st gn lr pc wa dy tr par ce ct ca kd sg mx wd rs rg mon lk m.1 (am_dn m.2.1 (t * 12 + p) (t * 12 + p)) (am_dn m.2.2.1 (t * 12 + p) (t * 12 + p)) (am_dn m.2.2.2.1 (t * 12 + p) (t * 12 + p)) (am_dn m.2.2.2.2.1 (t * 12 + p) (t * 12 + p)) cel trd m.2.2.2.2.2 :=
    yp_rm2 ht (by omega) h12 (by unfold am_rem at h; rw [en] at h; exact h) (c - 1 - p) p (c + 1) (by omega) (by omega) (by omega)
  rw [am_dn0, am_dn0, am_dn0, am_dn0] at k
  exact yp_rm1 ht (by omega) h12 ⟨c + 1, k⟩ (c - 1 - p) p (c + 1) (by omega) (by omega)
theorem yp_149 {post : SY → Prop} {t n p : Nat} {k f v : Int32} (ht : t < 8) (hc : mc t = nI n) (h12 : n < 12) (hp : p ≤ n) (h : post (nI N, nI cap, nI Q, nI CS, nI now, nI cc, nI tc, nI kn, st, gn, lr, pc, wa, dy, tr, par, ce, ct, ca, kd, sg, mx, wd, rs, rg, mon, lk, upd mc t (nI (n + 1)), upd (am_up mk (t * 12 + p) (t * 12 + n)) (t * 12 + p) k, upd (am_up mf (t * 12 + p) (t * 12 + n)) (t * 12 + p) f, upd (am_up mv (t * 12 + p) (t * 12 + n)) (t * 12 + p) v, vp_updL (am_up ms (t * 12 + p) (t * 12 + n)) (t * 12 + p) (vp_updL cnt 1 (cnt 1 + 1) 1), cel, trd, vp_updL cnt 1 (cnt 1 + 1))) : ∀ d x fu, x = p + d → x ≤ n → d < fu → wY_place_149 post (nI t) k f v (nI p) fu (nI x) (nI N) (nI cap) (nI Q) (nI CS) (nI now) (nI cc) (nI tc) (nI kn) st gn lr pc wa dy tr par ce ct ca kd sg mx wd rs rg mon lk mc (am_up mk (t * 12 + x) (t * 12 + n)) (am_up mf (t * 12 + x) (t * 12 + n)) (am_up mv (t * 12 + x) (t * 12 + n)) (am_up ms (t * 12 + x) (t * 12 + n)) cel trd cnt := by
  have i1 : vp_in (nI t) 8 := vp_in_nI ht (by omega)
  have e1 : (nI t).toNatClampNeg = t := nI_clamp (by omega)
  have e4 : (nI (t * 12 + p)).toNatClampNeg = t * 12 + p := nI_clamp (by omega)
  have i2 : vp_in (nI (t * 12 + p)) 96 := vp_in_nI (by omega) (by omega)
  intro d
  induction d with
  | zero =>
    intro x fu hx hxn hf
    obtain ⟨m, rfl⟩ : ∃ m, fu = m + 1 := ⟨fu - 1, by omega⟩
    obtain rfl : x = p := hx
    refine br_t (Int32.le_refl _) (nm_e (nm_r (am_12 t x) ⟨i2, nm_r (by rw [e4]) ⟨i2, nm_r (by rw [e4]) ⟨i2, nm_r (by rw [e4]) ⟨i2, nm_r (by rw [e4]) ⟨i1, i1, nm_r ?_ h⟩⟩⟩⟩⟩))
    rw [e1, hc, nI_1]
  | succ d ih =>
    intro x fu hx hxn hf
    obtain ⟨m, rfl⟩ : ∃ m, fu = m + 1 := ⟨fu - 1, by omega⟩
    obtain ⟨y, rfl⟩ : ∃ y, x = y + 1 := ⟨x - 1, by omega⟩
    refine br_f (nI_ge (by omega) (by omega)) ?_
    rw [am_12, show t * 12 + (y + 1) = t * 12 + y + 1 by omega, nI_pred]
    refine yp_move (by omega) (by omega) ?_
    rw [am_ups mk (by omega), am_ups mf (by omega), am_ups mv (by omega), am_upsL ms (by omega)]
    exact nm_r (pk_m1 y) (ih y m (by omega) (by omega) (by omega))
theorem yp_100 {post : SY → Prop} {t n : Nat} {k f v : Int32} (ht : t < 8) (hc : mc t = nI n) (h12 : n ≤ 12) (h : ∃ n149, wY_place_149 post (nI t) k f v (nI (if k = 2 then am_ex mk (t * 12) n else n)) n149 (nI n) (nI N) (nI cap) (nI Q) (nI CS) (nI now) (nI cc) (nI tc) (nI kn) st gn lr pc wa dy tr par ce ct ca kd sg mx wd rs rg mon lk mc mk mf mv ms cel trd cnt) : ∀ d x fu, x + d = n → d < fu → wY_place_100 post (nI t) k f v (nI N) (nI cap) (nI Q) (nI CS) (nI now) (nI cc) (nI tc) (nI kn) st gn lr pc wa dy tr par ce ct ca kd sg mx wd rs rg mon lk mc mk mf mv ms cel trd cnt fu (nI (if k = 2 then am_ex mk (t * 12) x else x)) (nI x) := by
  have i1 : vp_in (nI t) 8 := vp_in_nI ht (by omega)
  have e1 : (nI t).toNatClampNeg = t := nI_clamp (by omega)
  intro d
  induction d with
  | zero =>
    intro x fu hx hf
    obtain ⟨m, rfl⟩ : ∃ m, fu = m + 1 := ⟨fu - 1, by omega⟩
    obtain rfl : x = n := hx
    exact ⟨i1, br_t (by rw [e1, hc]; exact Int32.le_refl _) ⟨i1, nm_r (by rw [e1, hc]) h⟩⟩
  | succ d ih =>
    intro x fu hx hf
    obtain ⟨m, rfl⟩ : ∃ m, fu = m + 1 := ⟨fu - 1, by omega⟩
    have e3 : (nI t * 12 + nI x).toNatClampNeg = t * 12 + x := by rw [am_12, nI_clamp (by omega)]
    refine ⟨i1, br_f (by rw [e1, hc]; exact nI_ge (by omega) (by omega)) ?_⟩
    have q := ih (x + 1) m (by omega) (by omega)
    by_cases ek : k = 2
    · refine br_t ek ⟨pk_in (t * 12 + x) 96 (by omega) (am_12 t x), ?_⟩
      rw [if_pos ek] at q ⊢
      by_cases e : mk (t * 12 + x) = 2
      · refine br_t (by rw [e3]; exact e) (nm_r (nI_1 _) (nm_r (nI_1 _) ?_))
        unfold am_ex at q; rw [if_pos e] at q; exact q
      · refine br_f (by rw [e3]; exact e) (nm_r (nI_1 _) ?_)
        unfold am_ex at q; rw [if_neg e] at q; exact q
    · rw [if_neg ek] at q ⊢
      exact br_f ek (nm_r (nI_1 _) (nm_r (nI_1 _) q))
theorem yp_put {post : SY → Prop} {t n : Nat} {k f v : Int32} {m : ML} (ht : t < 8) (hc : m.1 t = nI n) (h12 : n < 12) (h : post (nI N, nI cap, nI Q, nI CS, nI now, nI cc, nI tc, nI kn, st, gn, lr, pc, wa, dy, tr, par, ce, ct, ca, kd, sg, mx, wd, rs, rg, mon, lk, (am_put t k f v m).1, (am_put t k f v m).2.1, (am_put t k f v m).2.2.1, (am_put t k f v m).2.2.2.1, (am_put t k f v m).2.2.2.2.1, cel, trd, (am_put t k f v m).2.2.2.2.2)) : ∃ n100, wY_place_100 post (nI t) k f v (nI N) (nI cap) (nI Q) (nI CS) (nI now) (nI cc) (nI tc) (nI kn) st gn lr pc wa dy tr par ce ct ca kd sg mx wd rs rg mon lk m.1 m.2.1 m.2.2.1 m.2.2.2.1 m.2.2.2.2.1 cel trd m.2.2.2.2.2 n100 0 0 := by
  have en : am_n t m = n := am_n_of hc (by omega)
  have hp : (if k = 2 then am_ex m.2.1 (t * 12) n else n) ≤ n := by
    by_cases e : k = 2
    · rw [if_pos e]; exact am_ex_le n
    · rw [if_neg e]; exact Nat.le_refl n
  unfold am_put am_pos at h
  rw [en] at h
  generalize hq : (if k = 2 then am_ex m.2.1 (t * 12) n else n) = p at h hp
  have q : wY_place_149 post (nI t) k f v (nI p) (n + 1) (nI n) (nI N) (nI cap) (nI Q) (nI CS) (nI now) (nI cc) (nI tc) (nI kn) st gn lr pc wa dy tr par ce ct ca kd sg mx wd rs rg mon lk m.1 (am_up m.2.1 (t * 12 + n) (t * 12 + n)) (am_up m.2.2.1 (t * 12 + n) (t * 12 + n)) (am_up m.2.2.2.1 (t * 12 + n) (t * 12 + n)) (am_up m.2.2.2.2.1 (t * 12 + n) (t * 12 + n)) cel trd m.2.2.2.2.2 :=
    yp_149 ht hc h12 hp (by unfold am_ins at h; rw [show am_n t (am_ct 1 m) = n from en] at h; exact h) (n - p) n (n + 1) (by omega) (by omega) (by omega)
  rw [am_up0, am_up0, am_up0, am_up0] at q
  refine ⟨n + 1, ?_⟩
  have w := yp_100 (k := k) (f := f) (v := v) (t := t) (n := n) (post := post) (mc := m.1) (mk := m.2.1) ht hc (by omega) (by rw [hq]; exact ⟨n + 1, q⟩) n 0 (n + 1) (by omega) (by omega)
  rw [show (if k = 2 then am_ex m.2.1 (t * 12) 0 else 0) = 0 by by_cases e : k = 2 <;> simp [e, am_ex]] at w
  exact w
theorem yp_29 {post : SY → Prop} {t n : Nat} {k f v : Int32} {m : ML} (ht : t < 8) (hc : m.1 t = nI n) (h12 : n ≤ 12) (h0 : k = 1 → post (nI N, nI cap, nI Q, nI CS, nI now, nI cc, nI tc, nI kn, st, gn, lr, pc, wa, dy, tr, par, ce, ct, ca, kd, sg, mx, wd, rs, rg, mon, lk, (am_ct 3 m).1, (am_ct 3 m).2.1, (am_ct 3 m).2.2.1, (am_ct 3 m).2.2.2.1, (am_ct 3 m).2.2.2.2.1, cel, trd, (am_ct 3 m).2.2.2.2.2)) (h : ¬ k = 1 → post (nI N, nI cap, nI Q, nI CS, nI now, nI cc, nI tc, nI kn, st, gn, lr, pc, wa, dy, tr, par, ce, ct, ca, kd, sg, mx, wd, rs, rg, mon, lk, (am_po t k f v (am_ct 3 m) (am_lu m.2.1 (t * 12) n)).1, (am_po t k f v (am_ct 3 m) (am_lu m.2.1 (t * 12) n)).2.1, (am_po t k f v (am_ct 3 m) (am_lu m.2.1 (t * 12) n)).2.2.1, (am_po t k f v (am_ct 3 m) (am_lu m.2.1 (t * 12) n)).2.2.2.1, (am_po t k f v (am_ct 3 m) (am_lu m.2.1 (t * 12) n)).2.2.2.2.1, cel, trd, (am_po t k f v (am_ct 3 m) (am_lu m.2.1 (t * 12) n)).2.2.2.2.2)) : ∀ d x fu, x + d = n → d < fu → wY_place_29 post (nI t) k f v (nI N) (nI cap) (nI Q) (nI CS) (nI now) (nI cc) (nI tc) (nI kn) st gn lr pc wa dy tr par ce ct ca kd sg mx wd rs rg mon lk m.1 m.2.1 m.2.2.1 m.2.2.2.1 m.2.2.2.2.1 cel trd m.2.2.2.2.2 fu (am_o (am_lu m.2.1 (t * 12) x)) (nI x) := by
  have i1 : vp_in (nI t) 8 := vp_in_nI ht (by omega)
  have e1 : (nI t).toNatClampNeg = t := nI_clamp (by omega)
  have en : am_n t m = n := am_n_of hc (by omega)
  intro d
  induction d with
  | zero =>
    intro x fu hx hf
    obtain ⟨m', rfl⟩ : ∃ m, fu = m + 1 := ⟨fu - 1, by omega⟩
    obtain rfl : x = n := hx
    refine ⟨i1, br_t (by rw [e1, hc]; exact Int32.le_refl _) (nm_e (br_c h0 fun hk => ?_))⟩
    refine am_oge (fun p e => by have := am_lu_lt e; omega) (fun p e => ?_) (fun e => ?_)
    · have q := h hk
      have hp := am_lu_lt e
      rw [e] at q ⊢
      refine yp_rem (m := am_ct 3 m) ht hc hp h12 ?_
      refine yp_put (m := am_rem t p (am_ct 3 m)) (n := x - 1) ht ?_ (by omega) q
      show upd m.1 t (nI (am_n t m - 1)) t = _
      rw [pk_us, en]
    · have q := h hk
      rw [e] at q
      exact q
  | succ d ih =>
    intro x fu hx hf
    obtain ⟨m', rfl⟩ : ∃ m, fu = m + 1 := ⟨fu - 1, by omega⟩
    have e3 : (nI t * 12 + nI x).toNatClampNeg = t * 12 + x := by rw [am_12, nI_clamp (by omega)]
    refine ⟨i1, br_f (by rw [e1, hc]; exact nI_ge (by omega) (by omega)) ⟨pk_in (t * 12 + x) 96 (by omega) (am_12 t x), ?_⟩⟩
    have q := ih (x + 1) m' (by omega) (by omega)
    by_cases e : m.2.1 (t * 12 + x) = 1
    · refine br_t (by rw [e3]; exact e) (nm_r (nI_1 _) ?_)
      unfold am_lu at q; rw [if_pos e] at q; exact q
    · refine br_f (by rw [e3]; exact e) (nm_r (nI_1 _) ?_)
      unfold am_lu at q; rw [if_neg e] at q; exact q
theorem yp_place {post : SY → Prop} {t n : Nat} {k f v : Int32} {m : ML} (ht : t < 8) (hc : m.1 t = nI n) (hn : n ≤ cap) (h12 : cap ≤ 12) (h : post (nI N, nI cap, nI Q, nI CS, nI now, nI cc, nI tc, nI kn, st, gn, lr, pc, wa, dy, tr, par, ce, ct, ca, kd, sg, mx, wd, rs, rg, mon, lk, (am_pl cap t k f v m).1, (am_pl cap t k f v m).2.1, (am_pl cap t k f v m).2.2.1, (am_pl cap t k f v m).2.2.2.1, (am_pl cap t k f v m).2.2.2.2.1, cel, trd, (am_pl cap t k f v m).2.2.2.2.2)) : wpY_place post (nI N, nI cap, nI Q, nI CS, nI now, nI cc, nI tc, nI kn, st, gn, lr, pc, wa, dy, tr, par, ce, ct, ca, kd, sg, mx, wd, rs, rg, mon, lk, m.1, m.2.1, m.2.2.1, m.2.2.2.1, m.2.2.2.2.1, cel, trd, m.2.2.2.2.2) (nI t) k f v := by
  have en : am_n t m = n := am_n_of hc (by omega)
  have e1 : (nI t).toNatClampNeg = t := nI_clamp (by omega)
  unfold am_pl at h
  rw [en] at h
  refine nm_e ⟨vp_in_nI ht (by omega), ?_⟩
  by_cases hl : n < cap
  · rw [if_pos hl] at h
    refine br_t (by rw [e1, hc]; exact nI_lt hl (by omega)) ?_
    exact yp_put (m := am_ct 0 m) ht hc (by omega) h
  · rw [if_neg hl] at h
    refine br_f (by rw [e1, hc]; exact nI_nlt (by omega) (by omega)) ⟨n + 1, ?_⟩
    refine yp_29 (m := am_ct 0 m) ht hc (by omega) (fun e => ?_) (fun e => ?_) n 0 (n + 1) (by omega) (by omega)
    · rw [if_pos e] at h; exact h
    · rw [if_neg e] at h; exact h
end YP
end
section
/-! 06: slots by pid, free slots, bits of a mask: both sides -/
def am_fd (N : Nat) (st gn : Nat → Int32) (p : Int32) : Option Nat :=
  if p.toBitVec.toNat % 8 < N ∧ (st (p.toBitVec.toNat % 8) = 1 ∨ st (p.toBitVec.toNat % 8) = 2) ∧ gn (p.toBitVec.toNat % 8) * 8 + nI (p.toBitVec.toNat % 8) = p then some (p.toBitVec.toNat % 8) else none
def am_fw (N : Nat) (st gn : Nat → Int32) (p : Int32) : Option Nat :=
  if p.toBitVec.toNat % 8 < N ∧ st (p.toBitVec.toNat % 8) = 1 ∧ gn (p.toBitVec.toNat % 8) * 8 + nI (p.toBitVec.toNat % 8) = p then some (p.toBitVec.toNat % 8) else none
theorem am_fd_some {N : Nat} {st gn : Nat → Int32} {p : Int32} {x : Nat} (h : am_fd N st gn p = some x) : x < N ∧ x < 8 ∧ (st x = 1 ∨ st x = 2) ∧ gn x * 8 + nI x = p := by
  unfold am_fd at h
  by_cases c : p.toBitVec.toNat % 8 < N ∧ (st (p.toBitVec.toNat % 8) = 1 ∨ st (p.toBitVec.toNat % 8) = 2) ∧ gn (p.toBitVec.toNat % 8) * 8 + nI (p.toBitVec.toNat % 8) = p
  · rw [if_pos c] at h
    have e := Option.some.inj h
    rw [e] at c
    exact ⟨c.1, by omega, c.2.1, c.2.2⟩
  · rw [if_neg c] at h
    exact absurd h (by simp)
theorem am_fw_some {N : Nat} {st gn : Nat → Int32} {p : Int32} {x : Nat} (h : am_fw N st gn p = some x) : x < N ∧ x < 8 ∧ st x = 1 ∧ gn x * 8 + nI x = p := by
  unfold am_fw at h
  by_cases c : p.toBitVec.toNat % 8 < N ∧ st (p.toBitVec.toNat % 8) = 1 ∧ gn (p.toBitVec.toNat % 8) * 8 + nI (p.toBitVec.toNat % 8) = p
  · rw [if_pos c] at h
    have e := Option.some.inj h
    rw [e] at c
    exact ⟨c.1, by omega, c.2.1, c.2.2⟩
  · rw [if_neg c] at h
    exact absurd h (by simp)
theorem am_fw_fd {N : Nat} {st gn : Nat → Int32} {p : Int32} : am_fw N st gn p = match am_fd N st gn p with | some x => (if st x = 1 then some x else none) | none => none := by
  unfold am_fw am_fd
  generalize p.toBitVec.toNat % 8 = x
  by_cases c : x < N ∧ (st x = 1 ∨ st x = 2) ∧ gn x * 8 + nI x = p
  · rw [if_pos c]
    by_cases c1 : st x = 1
    · rw [if_pos ⟨c.1, c1, c.2.2⟩]; exact (if_pos c1).symm
    · rw [if_neg fun z => c1 z.2.1]; exact (if_neg c1).symm
  · rw [if_neg c, if_neg fun z => c ⟨z.1, Or.inl z.2.1, z.2.2⟩]
theorem am_pid {g x : Nat} (hx : x < 8) (hg : g ≤ 1000000) : (nI g * 8 + nI x).toBitVec.toNat % 8 = x := by
  rw [am_8, pk_tn (by omega)]; omega
theorem am_fd_of {N : Nat} {st gn : Nat → Int32} {x g : Nat} (hx : x < N) (h8 : x < 8) (hs : st x = 1 ∨ st x = 2) (hg : gn x = nI g) (hl : g ≤ 1000000) : am_fd N st gn (gn x * 8 + nI x) = some x := by
  unfold am_fd
  have e : (gn x * 8 + nI x).toBitVec.toNat % 8 = x := by rw [hg]; exact am_pid h8 hl
  rw [e, if_pos ⟨hx, hs, rfl⟩]
theorem am_fw_of {N : Nat} {st gn : Nat → Int32} {x g : Nat} (hx : x < N) (h8 : x < 8) (hs : st x = 1) (hg : gn x = nI g) (hl : g ≤ 1000000) : am_fw N st gn (gn x * 8 + nI x) = some x := by
  unfold am_fw
  have e : (gn x * 8 + nI x).toBitVec.toNat % 8 = x := by rw [hg]; exact am_pid h8 hl
  rw [e, if_pos ⟨hx, hs, rfl⟩]
/-- the first free slot from x on, d slots -/
def am_fs (st : Nat → Int32) : Nat → Nat → Option Nat
  | _, 0 => none
  | x, d + 1 => if st x = 0 then some x else am_fs st (x + 1) d
theorem am_fs_some {st : Nat → Int32} : ∀ {d x y : Nat}, am_fs st x d = some y → y < x + d ∧ st y = 0 := by
  intro d
  induction d with
  | zero => intro x y h; exact absurd h (by simp [am_fs])
  | succ d ih =>
    intro x y h
    unfold am_fs at h
    by_cases c : st x = 0
    · rw [if_pos c] at h
      have e := Option.some.inj h
      subst e
      exact ⟨by omega, c⟩
    · rw [if_neg c] at h
      have := ih h
      exact ⟨by omega, this.2⟩
section FD
variable {N cap Q CS cc now tc kn : Nat} {fl : Int32} {op oa ob oc st gn lr rg pc tr wt dl mc mk mf mv lm mon par ce ct ca sg mx wd cn cl rc rk tp tv wa dy kd rs lk cel trd : Nat → Int32} {ms cnt : Nat → Int64}
theorem xv_pid {post : Int32 → Prop} {x : Nat} (hx : x < 8) (h : post (gn x * 8 + nI x)) : wpX_pidOf post (fl, nI N, nI cap, nI Q, nI CS, nI cc, nI now, nI tc, op, oa, ob, oc, st, gn, lr, rg, pc, tr, wt, dl, mc, mk, mf, mv, ms, lm, mon, par, ce, ct, ca, sg, mx, wd, cn, cl, rc, rk, tp, tv, cnt) (nI x) := by
  refine ⟨vp_in_nI hx (by omega), ?_⟩
  rw [nI_clamp (by omega)]
  exact h
theorem yv_pid {post : Int32 → Prop} {x : Nat} (hx : x < 8) (h : post (gn x * 8 + nI x)) : wpY_pidOf post (nI N, nI cap, nI Q, nI CS, nI now, nI cc, nI tc, nI kn, st, gn, lr, pc, wa, dy, tr, par, ce, ct, ca, kd, sg, mx, wd, rs, rg, mon, lk, mc, mk, mf, mv, ms, cel, trd, cnt) (nI x) := by
  refine ⟨vp_in_nI hx (by omega), ?_⟩
  rw [nI_clamp (by omega)]
  exact h
theorem xv_has {post : Int32 → Prop} {m : Int32} {j : Nat} (hj : j < 32) (h : post (am_b (bt m j))) : wpX_has post (fl, nI N, nI cap, nI Q, nI CS, nI cc, nI now, nI tc, op, oa, ob, oc, st, gn, lr, rg, pc, tr, wt, dl, mc, mk, mf, mv, ms, lm, mon, par, ce, ct, ca, sg, mx, wd, cn, cl, rc, rk, tp, tv, cnt) m (nI j) := by
  unfold wpX_has
  dsimp only
  rw [am_sh1 m hj]
  revert h
  cases bt m j
  · intro h; exact ⟨fun _ => h, fun z => absurd rfl z⟩
  · intro h; exact ⟨fun z => absurd z (by decide), fun _ => h⟩
theorem yv_has {post : Int32 → Prop} {m : Int32} {j : Nat} (hj : j < 32) (h : post (am_b (bt m j))) : wpY_has post (nI N, nI cap, nI Q, nI CS, nI now, nI cc, nI tc, nI kn, st, gn, lr, pc, wa, dy, tr, par, ce, ct, ca, kd, sg, mx, wd, rs, rg, mon, lk, mc, mk, mf, mv, ms, cel, trd, cnt) m (nI j) := by
  unfold wpY_has
  dsimp only
  rw [am_sh1 m hj]
  revert h
  cases bt m j
  · intro h; exact ⟨fun z => absurd z (by decide), fun _ => h⟩
  · intro h; exact ⟨fun _ => h, fun z => absurd rfl z⟩
theorem xv_37 {post : Int32 → Prop} {x : Nat} {p : Int32} (hx : x < 8) (h : post (if gn x * 8 + nI x = p then nI x else -1)) : wX_liveSlot_37 post p (nI x) fl (nI N) (nI cap) (nI Q) (nI CS) (nI cc) (nI now) (nI tc) op oa ob oc st gn lr rg pc tr wt dl mc mk mf mv ms lm mon par ce ct ca sg mx wd cn cl rc rk tp tv cnt := by
  refine xv_pid hx ?_
  by_cases c : gn x * 8 + nI x = p
  · rw [if_pos c] at h; exact br_t c h
  · rw [if_neg c] at h; exact br_f c h
theorem xv_live {post : Int32 → Prop} {p : Int32} (hN : N ≤ 8) (h : post (am_o (am_fd N st gn p))) : wpX_liveSlot post (fl, nI N, nI cap, nI Q, nI CS, nI cc, nI now, nI tc, op, oa, ob, oc, st, gn, lr, rg, pc, tr, wt, dl, mc, mk, mf, mv, ms, lm, mon, par, ce, ct, ca, sg, mx, wd, cn, cl, rc, rk, tp, tv, cnt) p := by
  refine nm_r (pk_and p 3 (by decide)) ?_
  unfold am_fd at h
  have hx : p.toBitVec.toNat % 8 < 8 := Nat.mod_lt _ (by decide)
  show (nI (p.toBitVec.toNat % 8) < nI N → _) ∧ _
  generalize p.toBitVec.toNat % 8 = x at h hx
  have e1 : (nI x).toNatClampNeg = x := nI_clamp (by omega)
  have i1 : vp_in (nI x) 8 := vp_in_nI hx (by omega)
  refine pk_lt x N (fun hl => ⟨i1, ?_⟩) (fun hl => ?_)
  · by_cases s1 : st x = 1
    · refine br_t (by rw [e1]; exact s1) (xv_37 hx ?_)
      by_cases c : gn x * 8 + nI x = p
      · rw [if_pos ⟨hl, Or.inl s1, c⟩] at h; rw [if_pos c]; exact h
      · rw [if_neg fun z => c z.2.2] at h; rw [if_neg c]; exact h
    · refine br_f (by rw [e1]; exact s1) ⟨i1, ?_⟩
      by_cases s2 : st x = 2
      · refine br_t (by rw [e1]; exact s2) (xv_37 hx ?_)
        by_cases c : gn x * 8 + nI x = p
        · rw [if_pos ⟨hl, Or.inr s2, c⟩] at h; rw [if_pos c]; exact h
        · rw [if_neg fun z => c z.2.2] at h; rw [if_neg c]; exact h
      · refine br_f (by rw [e1]; exact s2) ?_
        rw [if_neg fun z => z.2.1.elim s1 s2] at h
        exact h
  · rw [if_neg fun z => absurd z.1 (by omega)] at h
    exact h
theorem yv_38 {post : Int32 → Prop} {x : Nat} {p : Int32} (hx : x < 8) (h : post (if gn x * 8 + nI x = p then nI x else -1)) : wY_find_33 post p (nI x) (nI N) (nI cap) (nI Q) (nI CS) (nI now) (nI cc) (nI tc) (nI kn) st gn lr pc wa dy tr par ce ct ca kd sg mx wd rs rg mon lk mc mk mf mv ms cel trd cnt := by
  refine br_f (by decide) ⟨vp_in_nI hx (by omega), ?_⟩
  rw [nI_clamp (by omega)]
  by_cases c : gn x * 8 + nI x = p
  · rw [if_pos c] at h; exact br_t c h
  · rw [if_neg c] at h; exact br_f c h
theorem yv_live {post : Int32 → Prop} {p : Int32} (hN : N ≤ 8) (h : post (am_o (am_fd N st gn p))) : wpY_find post (nI N, nI cap, nI Q, nI CS, nI now, nI cc, nI tc, nI kn, st, gn, lr, pc, wa, dy, tr, par, ce, ct, ca, kd, sg, mx, wd, rs, rg, mon, lk, mc, mk, mf, mv, ms, cel, trd, cnt) p := by
  refine nm_r (pk_and p 3 (by decide)) ?_
  unfold am_fd at h
  have hx : p.toBitVec.toNat % 8 < 8 := Nat.mod_lt _ (by decide)
  show (nI N ≤ nI (p.toBitVec.toNat % 8) → _) ∧ _
  generalize p.toBitVec.toNat % 8 = x at h hx
  have e1 : (nI x).toNatClampNeg = x := nI_clamp (by omega)
  have i1 : vp_in (nI x) 8 := vp_in_nI hx (by omega)
  refine pk_le N x (fun hl => ?_) (fun hl => ⟨i1, ?_⟩)
  · rw [if_neg fun z => absurd z.1 (by omega)] at h
    exact br_t rfl h
  · by_cases s1 : st x = 1
    · refine br_t (by rw [e1]; exact s1) (yv_38 hx ?_)
      by_cases c : gn x * 8 + nI x = p
      · rw [if_pos ⟨hl, Or.inl s1, c⟩] at h; rw [if_pos c]; exact h
      · rw [if_neg fun z => c z.2.2] at h; rw [if_neg c]; exact h
    · refine br_f (by rw [e1]; exact s1) ⟨i1, ?_⟩
      by_cases s2 : st x = 2
      · refine br_t (by rw [e1]; exact s2) (yv_38 hx ?_)
        by_cases c : gn x * 8 + nI x = p
        · rw [if_pos ⟨hl, Or.inr s2, c⟩] at h; rw [if_pos c]; exact h
        · rw [if_neg fun z => c z.2.2] at h; rw [if_neg c]; exact h
      · refine br_f (by rw [e1]; exact s2) (br_t rfl ?_)
        rw [if_neg fun z => z.2.1.elim s1 s2] at h
        exact h
theorem xv_worker {post : Int32 → Prop} {p : Int32} (hN : N ≤ 8) (h : post (am_o (am_fw N st gn p))) : wpX_workerSlot post (fl, nI N, nI cap, nI Q, nI CS, nI cc, nI now, nI tc, op, oa, ob, oc, st, gn, lr, rg, pc, tr, wt, dl, mc, mk, mf, mv, ms, lm, mon, par, ce, ct, ca, sg, mx, wd, cn, cl, rc, rk, tp, tv, cnt) p := by
  rw [am_fw_fd] at h
  refine xv_live hN ?_
  cases e : am_fd N st gn p with
  | none => rw [e] at h; exact br_t am_n1lt h
  | some x =>
    rw [e] at h
    obtain ⟨-, hx, -, -⟩ := am_fd_some e
    refine br_f (nI_pos (by omega)) ⟨vp_in_nI hx (by omega), ?_⟩
    by_cases c : st x = 1
    · refine br_t (by show st (nI x).toNatClampNeg = 1; rw [nI_clamp (by omega)]; exact c) ?_
      have e2 : (if st x = 1 then some x else none) = some x := if_pos c
      rw [show (match some x with | some x => (if st x = 1 then some x else none) | none => none) = some x from e2] at h
      exact h
    · refine br_f (by show ¬ st (nI x).toNatClampNeg = 1; rw [nI_clamp (by omega)]; exact c) ?_
      have e2 : (if st x = 1 then some x else none) = none := if_neg c
      rw [show (match some x with | some x => (if st x = 1 then some x else none) | none => none) = none from e2] at h
      exact h
theorem yv_worker {post : Int32 → Prop} {p : Int32} (hN : N ≤ 8) (h : post (am_o (am_fw N st gn p))) : wpY_findWorker post (nI N, nI cap, nI Q, nI CS, nI now, nI cc, nI tc, nI kn, st, gn, lr, pc, wa, dy, tr, par, ce, ct, ca, kd, sg, mx, wd, rs, rg, mon, lk, mc, mk, mf, mv, ms, cel, trd, cnt) p := by
  rw [am_fw_fd] at h
  refine yv_live hN ?_
  cases e : am_fd N st gn p with
  | none => rw [e] at h; exact br_t am_n1lt h
  | some x =>
    rw [e] at h
    obtain ⟨-, hx, -, -⟩ := am_fd_some e
    refine br_f (nI_pos (by omega)) ⟨vp_in_nI hx (by omega), ?_⟩
    by_cases c : st x = 1
    · refine br_t (by show st (nI x).toNatClampNeg = 1; rw [nI_clamp (by omega)]; exact c) ?_
      have e2 : (if st x = 1 then some x else none) = some x := if_pos c
      rw [show (match some x with | some x => (if st x = 1 then some x else none) | none => none) = some x from e2] at h
      exact h
    · refine br_f (by show ¬ st (nI x).toNatClampNeg = 1; rw [nI_clamp (by omega)]; exact c) ?_
      have e2 : (if st x = 1 then some x else none) = none := if_neg c
      rw [show (match some x with | some x => (if st x = 1 then some x else none) | none => none) = none from e2] at h
      exact h
theorem xv_free_l {post : Int32 → Prop} (hN : N ≤ 8) : ∀ d x f, x + d = N → d < f → post (am_o (am_fs st x d)) → wX_lowestFree_2 post fl (nI N) (nI cap) (nI Q) (nI CS) (nI cc) (nI now) (nI tc) op oa ob oc st gn lr rg pc tr wt dl mc mk mf mv ms lm mon par ce ct ca sg mx wd cn cl rc rk tp tv cnt f (nI x) := by
  intro d
  induction d with
  | zero =>
    intro x f hx hf h
    obtain ⟨m, rfl⟩ : ∃ m, f = m + 1 := ⟨f - 1, by omega⟩
    obtain rfl : x = N := hx
    exact br_t (Int32.le_refl _) h
  | succ d ih =>
    intro x f hx hf h
    obtain ⟨m, rfl⟩ : ∃ m, f = m + 1 := ⟨f - 1, by omega⟩
    refine br_f (nI_ge (by omega) (by omega)) ⟨vp_in_nI (by omega) (by omega), ?_⟩
    unfold am_fs at h
    rw [nI_clamp (by omega)]
    by_cases c : st x = 0
    · rw [if_pos c] at h; exact br_t c h
    · rw [if_neg c] at h; exact br_f c (nm_r (nI_1 x) (ih (x + 1) m (by omega) (by omega) h))
theorem xv_free {post : Int32 → Prop} (hN : N ≤ 8) (h : post (am_o (am_fs st 0 N))) : wpX_lowestFree post (fl, nI N, nI cap, nI Q, nI CS, nI cc, nI now, nI tc, op, oa, ob, oc, st, gn, lr, rg, pc, tr, wt, dl, mc, mk, mf, mv, ms, lm, mon, par, ce, ct, ca, sg, mx, wd, cn, cl, rc, rk, tp, tv, cnt) :=
  ⟨N + 1, xv_free_l hN N 0 (N + 1) (by omega) (by omega) h⟩
theorem yv_free_l {post : Int32 → Prop} (hN : N ≤ 8) : ∀ d x f, x + d = N → d < f → post (am_o (am_fs st x d)) → wY_freeSlot_2 post (nI N) (nI cap) (nI Q) (nI CS) (nI now) (nI cc) (nI tc) (nI kn) st gn lr pc wa dy tr par ce ct ca kd sg mx wd rs rg mon lk mc mk mf mv ms cel trd cnt f (nI x) := by
  intro d
  induction d with
  | zero =>
    intro x f hx hf h
    obtain ⟨m, rfl⟩ : ∃ m, f = m + 1 := ⟨f - 1, by omega⟩
    obtain rfl : x = N := hx
    exact br_t (Int32.le_refl _) h
  | succ d ih =>
    intro x f hx hf h
    obtain ⟨m, rfl⟩ : ∃ m, f = m + 1 := ⟨f - 1, by omega⟩
    refine br_f (nI_ge (by omega) (by omega)) ⟨vp_in_nI (by omega) (by omega), ?_⟩
    unfold am_fs at h
    rw [nI_clamp (by omega)]
    by_cases c : st x = 0
    · rw [if_pos c] at h; exact br_t c h
    · rw [if_neg c] at h; exact br_f c (nm_r (nI_1 x) (ih (x + 1) m (by omega) (by omega) h))
theorem yv_free {post : Int32 → Prop} (hN : N ≤ 8) (h : post (am_o (am_fs st 0 N))) : wpY_freeSlot post (nI N, nI cap, nI Q, nI CS, nI now, nI cc, nI tc, nI kn, st, gn, lr, pc, wa, dy, tr, par, ce, ct, ca, kd, sg, mx, wd, rs, rg, mon, lk, mc, mk, mf, mv, ms, cel, trd, cnt) :=
  ⟨N + 1, yv_free_l hN N 0 (N + 1) (by omega) (by omega) h⟩
end FD
end
section
/-! 07: a worker starts: both sides -/
def am_nx (g : Int32) : Int32 := if g < 1000000 then g + 1 else 1
def am_zr (rg : Nat → Int32) (t i : Nat) : Nat → Int32 := fun j => if t * 8 ≤ j ∧ j < t * 8 + i then 0 else rg j
def am_rg (rg : Nat → Int32) (t : Nat) (ar pa : Int32) : Nat → Int32 := upd (upd (am_zr rg t 8) (t * 8) ar) (t * 8 + 1) pa
theorem am_zr0 (rg : Nat → Int32) (t : Nat) : am_zr rg t 0 = rg := funext fun j => if_neg (by omega)
theorem am_zrs (rg : Nat → Int32) (t i : Nat) : upd (am_zr rg t i) (t * 8 + i) 0 = am_zr rg t (i + 1) := by
  funext j
  unfold upd am_zr
  by_cases h : j = t * 8 + i
  · rw [if_pos h, if_pos (by omega)]
  · rw [if_neg h]
    by_cases h2 : t * 8 ≤ j ∧ j < t * 8 + i
    · rw [if_pos h2, if_pos (by omega)]
    · rw [if_neg h2, if_neg (by omega)]
theorem am_mlt {g : Nat} (h : g < 1000000) : nI g < (1000000 : Int32) := nI_lt (b := 1000000) h (by omega)
theorem am_mnlt {g : Nat} (h : 1000000 ≤ g) (h2 : g < 2 ^ 31) : ¬ nI g < (1000000 : Int32) := nI_nlt (b := 1000000) h h2
theorem am_nx_le {g : Nat} (h : g ≤ 1000000) : ∃ g', g' ≤ 1000000 ∧ am_nx (nI g) = nI g' ∧ (g' = g + 1 ∨ (g = 1000000 ∧ g' = 1)) := by
  unfold am_nx
  by_cases c : g < 1000000
  · refine ⟨g + 1, by omega, ?_, Or.inl rfl⟩
    rw [if_pos (am_mlt c), nI_1]
  · refine ⟨1, by omega, ?_, Or.inr ⟨by omega, rfl⟩⟩
    rw [if_neg (am_mnlt (by omega) (by omega))]
    rfl
section SW
variable {N cap Q CS cc now tc kn : Nat} {fl : Int32} {op oa ob oc st gn lr rg pc tr wt dl mc mk mf mv lm mon par ce ct ca sg mx wd cn cl rc rk tp tv wa dy kd rs lk cel trd : Nat → Int32} {ms cnt : Nat → Int64}
theorem xs_gen {post : SX → Prop} {t : Nat} (ht : t < 8) (h : post (fl, nI N, nI cap, nI Q, nI CS, nI cc, nI now, nI tc, op, oa, ob, oc, st, upd gn t (am_nx (gn t)), lr, rg, pc, tr, wt, dl, mc, mk, mf, mv, ms, lm, mon, par, ce, ct, ca, sg, mx, wd, cn, cl, rc, rk, tp, tv, vp_updL cnt 7 (cnt 7 + 1))) : wpX_nextGeneration post (fl, nI N, nI cap, nI Q, nI CS, nI cc, nI now, nI tc, op, oa, ob, oc, st, gn, lr, rg, pc, tr, wt, dl, mc, mk, mf, mv, ms, lm, mon, par, ce, ct, ca, sg, mx, wd, cn, cl, rc, rk, tp, tv, cnt) (nI t) := by
  have i1 : vp_in (nI t) 8 := vp_in_nI ht (by omega)
  have e1 : (nI t).toNatClampNeg = t := nI_clamp (by omega)
  refine ⟨i1, ?_⟩
  by_cases c : gn t < 1000000
  · refine br_t (by rw [e1]; exact c) ⟨i1, i1, nm_r ?_ (nm_e h)⟩
    unfold am_nx; rw [e1, if_pos c]
  · refine br_f (by rw [e1]; exact c) ⟨i1, nm_r ?_ (nm_e h)⟩
    unfold am_nx; rw [e1, if_neg c]
theorem xs_15 {post : Int32 → SX → Prop} {t : Nat} {en ar pa : Int32} (ht : t < 8) (h : post (gn t * 8 + nI t) (fl, nI N, nI cap, nI Q, nI CS, nI cc, nI now, nI tc, op, oa, ob, oc, st, gn, lr, am_rg rg t ar pa, upd pc t en, upd tr t 0, upd wt t 0, upd dl t (-1), upd mc t 0, mk, mf, mv, ms, lm, mon, par, ce, ct, ca, sg, mx, wd, cn, cl, rc, rk, tp, tv, cnt)) : ∀ d x f, x + d = 8 → d < f → wX_startWorker_15 post (nI t) en ar pa fl (nI N) (nI cap) (nI Q) (nI CS) (nI cc) (nI now) (nI tc) f (nI x) op oa ob oc st gn lr (am_zr rg t x) pc tr wt dl mc mk mf mv ms lm mon par ce ct ca sg mx wd cn cl rc rk tp tv cnt := by
  have i1 : vp_in (nI t) 8 := vp_in_nI ht (by omega)
  have e1 : (nI t).toNatClampNeg = t := nI_clamp (by omega)
  have e8 : nI t * 8 + 1 = nI (t * 8 + 1) := by rw [am_m8, nI_1]
  intro d
  induction d with
  | zero =>
    intro x f hx hf
    obtain ⟨m, rfl⟩ : ∃ m, f = m + 1 := ⟨f - 1, by omega⟩
    obtain rfl : x = 8 := hx
    refine br_t (by decide) ⟨pk_in (t * 8) 64 (by omega) (am_m8 t), nm_r (e' := upd (am_zr rg t 8) (t * 8) ar) (by rw [am_m8, nI_clamp (by omega)]) ⟨pk_in (t * 8 + 1) 64 (by omega) e8, nm_r (e' := am_rg rg t ar pa) (by rw [e8, nI_clamp (by omega)]; rfl) ⟨i1, nm_r (by rw [e1]) ⟨i1, nm_r (by rw [e1, am_vb0]) ⟨i1, nm_r (by rw [e1, am_vb0]) ⟨i1, nm_r (by rw [e1]) ⟨i1, nm_r (by rw [e1]) (xv_pid ht h)⟩⟩⟩⟩⟩⟩⟩
  | succ d ih =>
    intro x f hx hf
    obtain ⟨m, rfl⟩ : ∃ m, f = m + 1 := ⟨f - 1, by omega⟩
    refine br_f (nI_ge (b := 8) (by omega) (by omega)) ⟨pk_in (t * 8 + x) 64 (by omega) (am_8 t x), nm_r (e' := am_zr rg t (x + 1)) (by rw [am_8, nI_clamp (by omega), am_zrs]) (nm_r (nI_1 x) (ih (x + 1) m (by omega) (by omega)))⟩
theorem xs_start {post : Int32 → SX → Prop} {t : Nat} {en ar pa : Int32} (ht : t < 8) (h : post (am_nx (gn t) * 8 + nI t) (fl, nI N, nI cap, nI Q, nI CS, nI cc, nI now, nI tc, op, oa, ob, oc, upd st t 1, upd gn t (am_nx (gn t)), lr, am_rg rg t ar pa, upd pc t en, upd tr t 0, upd wt t 0, upd dl t (-1), upd mc t 0, mk, mf, mv, ms, lm, mon, par, ce, ct, ca, sg, mx, wd, cn, cl, rc, rk, tp, tv, vp_updL cnt 7 (cnt 7 + 1))) : wpX_startWorker post (fl, nI N, nI cap, nI Q, nI CS, nI cc, nI now, nI tc, op, oa, ob, oc, st, gn, lr, rg, pc, tr, wt, dl, mc, mk, mf, mv, ms, lm, mon, par, ce, ct, ca, sg, mx, wd, cn, cl, rc, rk, tp, tv, cnt) (nI t) en ar pa := by
  refine xs_gen ht ⟨vp_in_nI ht (by omega), nm_r (e' := upd st t 1) (by rw [nI_clamp (by omega)]) ⟨9, ?_⟩⟩
  have k : wX_startWorker_15 post (nI t) en ar pa fl (nI N) (nI cap) (nI Q) (nI CS) (nI cc) (nI now) (nI tc) 9 (nI 0) op oa ob oc (upd st t 1) (upd gn t (am_nx (gn t))) lr (am_zr rg t 0) pc tr wt dl mc mk mf mv ms lm mon par ce ct ca sg mx wd cn cl rc rk tp tv (vp_updL cnt 7 (cnt 7 + 1)) := xs_15 ht (by rw [pk_us]; exact h) 8 0 9 (by omega) (by omega)
  rw [am_zr0] at k
  exact k
theorem ys_begin {post : SY → Prop} {t g : Nat} {w : Int32} (ht : t < 8) (hg : gn t = nI g) (hl : g ≤ 1000000) (h : post (nI N, nI cap, nI Q, nI CS, nI now, nI cc, nI tc, nI kn, upd st t w, upd gn t (am_nx (gn t)), lr, pc, wa, dy, tr, par, ce, ct, ca, kd, sg, mx, wd, rs, rg, mon, lk, mc, mk, mf, mv, ms, cel, trd, vp_updL cnt 7 (cnt 7 + 1))) : wpY_begin post (nI N, nI cap, nI Q, nI CS, nI now, nI cc, nI tc, nI kn, st, gn, lr, pc, wa, dy, tr, par, ce, ct, ca, kd, sg, mx, wd, rs, rg, mon, lk, mc, mk, mf, mv, ms, cel, trd, cnt) (nI t) w := by
  have i1 : vp_in (nI t) 8 := vp_in_nI ht (by omega)
  have e1 : (nI t).toNatClampNeg = t := nI_clamp (by omega)
  refine ⟨i1, ?_⟩
  by_cases c : g = 1000000
  · refine br_t (by rw [e1, hg, c]; rfl) ⟨i1, nm_r ?_ ⟨i1, nm_r (by rw [e1]) (nm_e h)⟩⟩
    unfold am_nx; rw [e1, hg, if_neg (am_mnlt (g := g) (by omega) (by omega))]
  · refine br_f (by rw [e1, hg]; exact fun z => c (am_im (b := 1000000) z (by omega) (by omega))) ⟨i1, i1, nm_r ?_ ⟨i1, nm_r (by rw [e1]) (nm_e h)⟩⟩
    unfold am_nx; rw [e1, hg, if_pos (am_mlt (g := g) (by omega))]
theorem ys_9 {post : SY → Prop} {t : Nat} {en ar pa : Int32} (ht : t < 8) (h : post (nI N, nI cap, nI Q, nI CS, nI now, nI cc, nI tc, nI kn, st, gn, lr, upd pc t en, upd wa t 0, dy, upd tr t 0, par, ce, ct, ca, kd, sg, mx, wd, rs, am_rg rg t ar pa, mon, lk, upd mc t 0, mk, mf, mv, ms, cel, trd, cnt)) : ∀ d x f, x + d = 8 → d < f → wY_start_9 post (nI t) en ar pa (nI N) (nI cap) (nI Q) (nI CS) (nI now) (nI cc) (nI tc) (nI kn) f (nI x) st gn lr pc wa dy tr par ce ct ca kd sg mx wd rs (am_zr rg t x) mon lk mc mk mf mv ms cel trd cnt := by
  have i1 : vp_in (nI t) 8 := vp_in_nI ht (by omega)
  have e1 : (nI t).toNatClampNeg = t := nI_clamp (by omega)
  have e8 : nI t * 8 + 1 = nI (t * 8 + 1) := by rw [am_m8, nI_1]
  intro d
  induction d with
  | zero =>
    intro x f hx hf
    obtain ⟨m, rfl⟩ : ∃ m, f = m + 1 := ⟨f - 1, by omega⟩
    obtain rfl : x = 8 := hx
    refine br_t (by decide) ⟨pk_in (t * 8) 64 (by omega) (am_m8 t), nm_r (e' := upd (am_zr rg t 8) (t * 8) ar) (by rw [am_m8, nI_clamp (by omega)]) ⟨pk_in (t * 8 + 1) 64 (by omega) e8, nm_r (e' := am_rg rg t ar pa) (by rw [e8, nI_clamp (by omega)]; rfl) ⟨i1, nm_r (by rw [e1]) ⟨i1, nm_r (by rw [e1, am_vb0]) ⟨i1, nm_r (by rw [e1]) ⟨i1, nm_r (by rw [e1]) h⟩⟩⟩⟩⟩⟩
  | succ d ih =>
    intro x f hx hf
    obtain ⟨m, rfl⟩ : ∃ m, f = m + 1 := ⟨f - 1, by omega⟩
    refine br_f (nI_ge (b := 8) (by omega) (by omega)) ⟨pk_in (t * 8 + x) 64 (by omega) (am_8 t x), nm_r (e' := am_zr rg t (x + 1)) (by rw [am_8, nI_clamp (by omega), am_zrs]) (nm_r (nI_1 x) (ih (x + 1) m (by omega) (by omega)))⟩
theorem ys_start {post : SY → Prop} {t g : Nat} {en ar pa : Int32} (ht : t < 8) (hg : gn t = nI g) (hl : g ≤ 1000000) (h : post (nI N, nI cap, nI Q, nI CS, nI now, nI cc, nI tc, nI kn, upd st t 1, upd gn t (am_nx (gn t)), lr, upd pc t en, upd wa t 0, dy, upd tr t 0, par, ce, ct, ca, kd, sg, mx, wd, rs, am_rg rg t ar pa, mon, lk, upd mc t 0, mk, mf, mv, ms, cel, trd, vp_updL cnt 7 (cnt 7 + 1))) : wpY_start post (nI N, nI cap, nI Q, nI CS, nI now, nI cc, nI tc, nI kn, st, gn, lr, pc, wa, dy, tr, par, ce, ct, ca, kd, sg, mx, wd, rs, rg, mon, lk, mc, mk, mf, mv, ms, cel, trd, cnt) (nI t) en ar pa := by
  refine ys_begin ht hg hl ⟨9, ?_⟩
  have k : wY_start_9 post (nI t) en ar pa (nI N) (nI cap) (nI Q) (nI CS) (nI now) (nI cc) (nI tc) (nI kn) 9 (nI 0) (upd st t 1) (upd gn t (am_nx (gn t))) lr pc wa dy tr par ce ct ca kd sg mx wd rs (am_zr rg t 0) mon lk mc mk mf mv ms cel trd (vp_updL cnt 7 (cnt 7 + 1)) := ys_9 ht h 8 0 9 (by omega) (by omega)
  rw [am_zr0] at k
  exact k
end SW
end
section
/-! 08: the closure under links, pure -/
def am_cn (f : Nat → Bool) : Nat → Nat
  | 0 => 0
  | n + 1 => if f n = true then am_cn f n + 1 else am_cn f n
theorem am_cn_le (f : Nat → Bool) : ∀ n, am_cn f n ≤ n := by
  intro n
  induction n with
  | zero => exact Nat.le_refl 0
  | succ n ih => unfold am_cn; split <;> omega
theorem am_cn_all {f : Nat → Bool} : ∀ {n : Nat}, n ≤ am_cn f n → ∀ j, j < n → f j = true := by
  intro n
  induction n with
  | zero => intro _ j hj; omega
  | succ n ih =>
    intro h j hj
    unfold am_cn at h
    have hl := am_cn_le f n
    by_cases c : f n = true
    · rw [if_pos c] at h
      by_cases e : j = n
      · rw [e]; exact c
      · exact ih (by omega) j (by omega)
    · rw [if_neg c] at h; omega
theorem am_cn_mono {f g : Nat → Bool} : ∀ {n : Nat}, (∀ j, j < n → f j = true → g j = true) → am_cn f n ≤ am_cn g n := by
  intro n
  induction n with
  | zero => intro _; exact Nat.le_refl 0
  | succ n ih =>
    intro h
    have k := ih fun j hj => h j (by omega)
    unfold am_cn
    by_cases c : f n = true
    · rw [if_pos c, if_pos (h n (by omega) c)]; omega
    · rw [if_neg c]; split <;> omega
theorem am_cn_lt {f g : Nat → Bool} : ∀ {n : Nat}, (∀ j, j < n → f j = true → g j = true) → (∃ j, j < n ∧ f j = false ∧ g j = true) → am_cn f n < am_cn g n := by
  intro n
  induction n with
  | zero => intro _ h; obtain ⟨j, hj, _⟩ := h; omega
  | succ n ih =>
    intro h hx
    obtain ⟨j, hj, h0, h1⟩ := hx
    have km := am_cn_mono (f := f) (g := g) (n := n) fun j hj => h j (by omega)
    unfold am_cn
    by_cases e : j = n
    · subst e
      rw [if_neg (by rw [h0]; decide), if_pos h1]; omega
    · have k := ih (fun j hj => h j (by omega)) ⟨j, by omega, h0, h1⟩
      by_cases c : f n = true
      · rw [if_pos c, if_pos (h n (by omega) c)]; omega
      · rw [if_neg c]; split <;> omega
theorem am_cn_congr {f g : Nat → Bool} : ∀ {n : Nat}, (∀ j, j < n → f j = g j) → am_cn f n = am_cn g n := by
  intro n h
  exact Nat.le_antisymm (am_cn_mono fun j hj e => by rw [← h j hj]; exact e) (am_cn_mono fun j hj e => by rw [h j hj]; exact e)
def am_one (t : Nat) : Int32 := (1 : Int32) <<< (nI t &&& 31)
theorem am_oneb {t : Nat} (ht : t < 32) (j : Nat) : bt (am_one t) j = decide (j = t) := am_bit ht j
theorem am_orb {t : Nat} (ht : t < 32) (m : Int32) (j : Nat) : bt (m ||| am_one t) j = (bt m j || decide (j = t)) := by rw [b_or, am_oneb ht]
def am_B8 (m : Int32) : Prop := ∀ j, bt m j = true → j < 8
def am_sub (m c : Int32) : Prop := ∀ j, bt m j = true → bt c j = true
theorem am_sub_r (m : Int32) : am_sub m m := fun _ h => h
theorem am_sub_t {a b c : Int32} (h : am_sub a b) (k : am_sub b c) : am_sub a c := fun j e => k j (h j e)
theorem am_sub_e {a b : Int32} (h : am_sub a b) (k : am_sub b a) : a = b := by
  apply b_ext
  intro i _
  cases ea : bt a i
  · cases eb : bt b i
    · rfl
    · have := k i eb
      rw [ea] at this; exact this
  · exact (h i ea).symm
theorem am_one8 {t : Nat} (ht : t < 8) : am_B8 (am_one t) := fun j h => by
  rw [am_oneb (by omega)] at h
  have := of_decide_eq_true h
  omega
theorem am_or8 {t : Nat} {m : Int32} (ht : t < 8) (h : am_B8 m) : am_B8 (m ||| am_one t) := fun j e => by
  rw [am_orb (by omega), Bool.or_eq_true] at e
  rcases e with e | e
  · exact h j e
  · have := of_decide_eq_true e
    omega
theorem am_08 : am_B8 0 := fun j h => by rw [b_0] at h; exact absurd h (by decide)
def am_Cl (go : Nat → Prop) (L : Nat → Nat → Bool) (m : Int32) : Prop := ∀ t j, t < 8 → j < 8 → go t → L t j = true → bt m j = true → bt m t = true
def am_IsClo (go : Nat → Prop) (L : Nat → Nat → Bool) (m R : Int32) : Prop := am_B8 R ∧ am_sub m R ∧ am_Cl go L R ∧ ∀ c, am_B8 c → am_Cl go L c → am_sub m c → am_sub R c
theorem am_clo_u {go : Nat → Prop} {L : Nat → Nat → Bool} {m R R' : Int32} (h : am_IsClo go L m R) (h' : am_IsClo go L m R') : R = R' :=
  am_sub_e (h.2.2.2 R' h'.1 h'.2.2.1 h'.2.1) (h'.2.2.2 R h.1 h.2.2.1 h.2.1)
section PS
variable {e : Nat} {τ : Nat → Nat} {A : Nat → Nat → Prop} {f : Nat → Int32 → Int32} {go : Nat → Prop} {L : Nat → Nat → Bool}
def am_St (e : Nat) (τ : Nat → Nat) (A : Nat → Nat → Prop) (f : Nat → Int32 → Int32) : Prop :=
  ∀ i m, i < e → am_B8 m → τ i < 8 ∧ ((∃ j, j < 8 ∧ A i j ∧ bt m j = true) → f i m = m ||| am_one (τ i)) ∧ ((¬ ∃ j, j < 8 ∧ A i j ∧ bt m j = true) → f i m = m)
theorem am_st1 (h : am_St e τ A f) {i : Nat} {m : Int32} (hi : i < e) (hm : am_B8 m) : am_B8 (f i m) ∧ am_sub m (f i m) := by
  obtain ⟨h1, h2, h3⟩ := h i m hi hm
  by_cases c : ∃ j, j < 8 ∧ A i j ∧ bt m j = true
  · rw [h2 c]
    exact ⟨am_or8 h1 hm, fun j q => by rw [am_orb (by omega), q]; rfl⟩
  · rw [h3 c]
    exact ⟨hm, am_sub_r m⟩
theorem am_st2 (h : am_St e τ A f) {m : Int32} (hm : am_B8 m) : ∀ i, i ≤ e → am_B8 (am_it f i m) ∧ am_sub m (am_it f i m) :=
  am_it_inv (fun _ s => am_B8 s ∧ am_sub m s) ⟨hm, am_sub_r m⟩ e (fun i s hi hs => by
    have k := am_st1 h hi hs.1
    exact ⟨k.1, am_sub_t hs.2 k.2⟩)
theorem am_st3 (h : am_St e τ A f) {m : Int32} (hm : am_B8 m) {i : Nat} : ∀ d, i + d ≤ e → am_sub (am_it f i m) (am_it f (i + d) m) := by
  intro d
  induction d with
  | zero => intro _; exact am_sub_r _
  | succ d ih =>
    intro hd
    have hd' : i + d < e := by omega
    exact am_sub_t (ih (by omega)) (am_st1 h hd' (am_st2 h hm (i + d) (by omega)).1).2
theorem am_st4 (h : am_St e τ A f) (sd : ∀ i j, i < e → j < 8 → A i j → go (τ i) ∧ L (τ i) j = true) {m c : Int32} (hm : am_B8 m) (hc : am_Cl go L c) (hs : am_sub m c) : ∀ i, i ≤ e → am_B8 (am_it f i m) ∧ am_sub (am_it f i m) c :=
  am_it_inv (fun _ s => am_B8 s ∧ am_sub s c) ⟨hm, hs⟩ e (fun i s hi hs => by
    refine ⟨(am_st1 h hi hs.1).1, ?_⟩
    obtain ⟨h1, h2, h3⟩ := h i s hi hs.1
    by_cases q : ∃ j, j < 8 ∧ A i j ∧ bt s j = true
    · rw [h2 q]
      obtain ⟨j, hj, ha, hb⟩ := q
      intro x hx
      rw [am_orb (by omega), Bool.or_eq_true] at hx
      rcases hx with hx | hx
      · exact hs.2 x hx
      · have ex := of_decide_eq_true hx
        rw [ex]
        have g := sd i j hi hj ha
        exact hc (τ i) j h1 hj g.1 g.2 (hs.2 j hb)
    · rw [h3 q]; exact hs.2)
theorem am_st5 (h : am_St e τ A f) (cp : ∀ t j, t < 8 → j < 8 → go t → L t j = true → ∃ i, i < e ∧ τ i = t ∧ A i j) {m : Int32} (hm : am_B8 m) (he : am_it f e m = m) : am_Cl go L m := by
  intro t j ht hj hg hl hb
  obtain ⟨i, hi, et, ha⟩ := cp t j ht hj hg hl
  have k := am_st2 h hm i (by omega)
  obtain ⟨h1, h2, h3⟩ := h i (am_it f i m) hi k.1
  have q := h2 ⟨j, hj, ha, k.2 j hb⟩
  have w : bt (am_it f (i + 1) m) t = true := by
    show bt (f i (am_it f i m)) t = true
    rw [q, am_orb (by omega), et]
    simp
  have z := am_st3 h hm (i := i + 1) (e - (i + 1)) (by omega) t w
  rw [show i + 1 + (e - (i + 1)) = e by omega, he] at z
  exact z
theorem am_clo (h : am_St e τ A f) (sd : ∀ i j, i < e → j < 8 → A i j → go (τ i) ∧ L (τ i) j = true) (cp : ∀ t j, t < 8 → j < 8 → go t → L t j = true → ∃ i, i < e ∧ τ i = t ∧ A i j) {m : Int32} (hm : am_B8 m) : am_IsClo go L m (am_it (fun _ => am_it f e) 8 m) := by
  have k := am_it_inv (f := fun _ => am_it f e) (fun i s => am_B8 s ∧ am_sub m s ∧ (am_Cl go L s ∨ i ≤ am_cn (bt s) 8) ∧ ∀ c, am_B8 c → am_Cl go L c → am_sub m c → am_sub s c) (s := m) ⟨hm, am_sub_r m, Or.inr (Nat.zero_le _), fun c _ _ h => h⟩ 8 (fun i s hi hs => by
    obtain ⟨q1, q2, q3, q4⟩ := hs
    have p := am_st2 h q1 e (Nat.le_refl e)
    refine ⟨p.1, am_sub_t q2 p.2, ?_, fun c c1 c2 c3 => (am_st4 h sd q1 c2 (q4 c c1 c2 c3) e (Nat.le_refl e)).2⟩
    by_cases ee : am_it f e s = s
    · exact Or.inl (by rw [ee]; exact am_st5 h cp q1 ee)
    · rcases q3 with q3 | q3
      · exact absurd (am_sub_e (am_st4 h sd q1 q3 (am_sub_r s) e (Nat.le_refl e)).2 p.2) ee
      · refine Or.inr (Nat.lt_of_le_of_lt q3 (am_cn_lt (fun j _ x => p.2 j x) ?_))
        refine Classical.byContradiction fun no => ee (am_sub_e (fun j hj => ?_) p.2)
        cases x : bt s j
        · exact absurd ⟨j, p.1 j hj, x, hj⟩ no
        · rfl) 8 (Nat.le_refl 8)
  refine ⟨k.1, k.2.1, ?_, k.2.2.2⟩
  rcases k.2.2.1 with c | c
  · exact c
  · intro t j ht _ _ _ _
    exact am_cn_all c t ht
end PS
end
section
/-! 09: the closure as each side reckons it -/
section SP
variable {N cap Q CS cc now tc kn : Nat} {fl : Int32} {op oa ob oc st gn lr rg pc tr wt dl mc mk mf mv lm mon par ce ct ca sg mx wd cn cl rc rk tp tv wa dy kd rs lk cel trd : Nat → Int32} {ms cnt : Nat → Int64}
variable {L : Nat → Nat → Bool}
/-- a slot that links pull along -/
def am_go (st tr : Nat → Int32) (t : Nat) : Prop := st t = 1 ∧ tr t = 0
def am_fX (st tr lm : Nat → Int32) (t : Nat) (m : Int32) : Int32 := if st t = 1 ∧ tr t = 0 ∧ ¬ (lm t &&& m = 0) then m ||| am_one t else m
theorem xw_St (hN : N ≤ 8) (hL : ∀ t j, t < 8 → j < 8 → st t = 1 → bt (lm t) j = L t j) : am_St N (fun i => i) (fun i j => am_go st tr i ∧ L i j = true) (am_fX st tr lm) := by
  intro i m hi hm
  refine ⟨by show i < 8; omega, fun h => ?_, fun h => ?_⟩
  · obtain ⟨j, hj, ⟨g, hl⟩, hb⟩ := h
    refine if_pos ⟨g.1, g.2, fun z => ?_⟩
    have q := (am_z.mp z) j (by omega)
    rw [b_and, hb, hL i j (by omega) hj g.1, hl] at q
    exact absurd q (by decide)
  · refine if_neg fun z => h ?_
    refine Classical.byContradiction fun no => z.2.2 (am_z.mpr fun j hj => ?_)
    rw [b_and]
    cases e : bt m j
    · exact Bool.and_false _
    · have h8 := hm j e
      rw [hL i j (by omega) h8 z.1]
      cases e2 : L i j
      · rfl
      · exact absurd ⟨j, h8, ⟨⟨z.1, z.2.1⟩, e2⟩, e⟩ no
theorem xw_13 {post : Int32 → Prop} {J : Int32 → Int32 → Prop} {k : Nat} {m : Int32} (hN : N ≤ 8) (h : J (am_it (am_fX st tr lm) N m) (nI (k + 1))) : ∃ n, wX_spread_13 post J (nI k) fl (nI N) (nI cap) (nI Q) (nI CS) (nI cc) (nI now) (nI tc) op oa ob oc st gn lr rg pc tr wt dl mc mk mf mv ms lm mon par ce ct ca sg mx wd cn cl rc rk tp tv cnt n m 0 := by
  refine am_lp0 (W := fun n i s => wX_spread_13 post J (nI k) fl (nI N) (nI cap) (nI Q) (nI CS) (nI cc) (nI now) (nI tc) op oa ob oc st gn lr rg pc tr wt dl mc mk mf mv ms lm mon par ce ct ca sg mx wd cn cl rc rk tp tv cnt n s (nI i)) (am_fX st tr lm) (fun _ _ => True) N trivial (fun _ _ _ _ => trivial) (fun n => ?_) (fun n i s hi _ hw => ?_)
  · exact br_t (Int32.le_refl _) (nm_r (nI_1 k) h)
  · have i1 : vp_in (nI i) 8 := vp_in_nI (by omega) (by omega)
    have e1 : (nI i).toNatClampNeg = i := nI_clamp (by omega)
    refine br_f (nI_ge (by omega) (by omega)) ⟨i1, ?_⟩
    rw [e1]
    unfold am_fX at hw
    by_cases c1 : st i = 1
    · refine br_t c1 ⟨i1, ?_⟩
      by_cases c2 : tr i = 0
      · refine br_t c2 ⟨i1, ?_⟩
        by_cases c3 : lm i &&& s = 0
        · rw [if_neg fun z => z.2.2 c3] at hw
          exact br_t c3 (nm_r (nI_1 i) hw)
        · rw [if_pos ⟨c1, c2, c3⟩] at hw
          exact br_f c3 (nm_e (nm_r (nI_1 i) hw))
      · rw [if_neg fun z => c2 z.2.1] at hw
        exact br_f c2 (nm_r (nI_1 i) hw)
    · rw [if_neg fun z => c1 z.1] at hw
      exact br_f c1 (nm_r (nI_1 i) hw)
theorem xw_4 {post : Int32 → Prop} {m : Int32} (hN : N ≤ 8) (h : post (am_it (fun _ => am_it (am_fX st tr lm) N) 8 m)) : ∀ d k n, k + d = 8 → d < n → wX_spread_4 post fl (nI N) (nI cap) (nI Q) (nI CS) (nI cc) (nI now) (nI tc) op oa ob oc st gn lr rg pc tr wt dl mc mk mf mv ms lm mon par ce ct ca sg mx wd cn cl rc rk tp tv cnt n (am_it (fun _ => am_it (am_fX st tr lm) N) k m) (nI k) := by
  intro d
  induction d with
  | zero =>
    intro k n hk hn
    obtain ⟨n', rfl⟩ : ∃ m, n = m + 1 := ⟨n - 1, by omega⟩
    obtain rfl : k = 8 := hk
    exact br_t (by decide) h
  | succ d ih =>
    intro k n hk hn
    obtain ⟨n', rfl⟩ : ∃ m, n = m + 1 := ⟨n - 1, by omega⟩
    exact br_f (nI_ge (b := 8) (by omega) (by omega)) (xw_13 hN (ih (k + 1) n' (by omega) (by omega)))
theorem xw_spread {post : Int32 → Prop} {m R : Int32} (hN : N ≤ 8) (h0 : ∀ t, t < 8 → N ≤ t → st t = 0) (hL : ∀ t j, t < 8 → j < 8 → st t = 1 → bt (lm t) j = L t j) (hm : am_B8 m) (hR : am_IsClo (am_go st tr) L m R) (h : post R) : wpX_spread post (fl, nI N, nI cap, nI Q, nI CS, nI cc, nI now, nI tc, op, oa, ob, oc, st, gn, lr, rg, pc, tr, wt, dl, mc, mk, mf, mv, ms, lm, mon, par, ce, ct, ca, sg, mx, wd, cn, cl, rc, rk, tp, tv, cnt) m := by
  have k := am_clo (go := am_go st tr) (L := L) (xw_St (tr := tr) hN hL) (fun i j _ _ z => z) (fun t j ht hj g l => ⟨t, by
    refine Classical.byContradiction fun no => ?_
    have q := h0 t ht (by omega)
    rw [g.1] at q
    exact absurd q (by decide), rfl, g, l⟩) hm
  rw [am_clo_u hR k] at h
  exact ⟨9, xw_4 hN h 8 0 9 (by omega) (by omega)⟩
/-! the reference: over the 64 pairs -/
def am_fY (st tr lk : Nat → Int32) (i : Nat) (m : Int32) : Int32 := if ¬ lk i = 0 ∧ bt m (i / 8) = true ∧ st (i % 8) = 1 ∧ tr (i % 8) = 0 then m ||| am_one (i % 8) else m
theorem yw_St (hL : ∀ t j, t < 8 → j < 8 → (lk (t * 8 + j) = 0 ↔ L t j = false)) : am_St 64 (fun i => i % 8) (fun i j => j = i / 8 ∧ am_go st tr (i % 8) ∧ L (i / 8) (i % 8) = true) (am_fY st tr lk) := by
  intro i m hi hm
  have hd : i = i / 8 * 8 + i % 8 := by omega
  have hl : lk i = 0 ↔ L (i / 8) (i % 8) = false := by
    have := hL (i / 8) (i % 8) (by omega) (by omega)
    rw [← hd] at this; exact this
  refine ⟨by show i % 8 < 8; omega, fun h => ?_, fun h => ?_⟩
  · obtain ⟨j, hj, ⟨ej, g, l⟩, hb⟩ := h
    refine if_pos ⟨fun z => ?_, by rw [← ej]; exact hb, g.1, g.2⟩
    have := hl.mp z
    rw [l] at this
    exact absurd this (by decide)
  · refine if_neg fun z => h ⟨i / 8, by omega, ⟨rfl, ⟨z.2.2.1, z.2.2.2⟩, ?_⟩, z.2.1⟩
    cases e : L (i / 8) (i % 8)
    · exact absurd (hl.mpr e) z.1
    · rfl
theorem am_div8 {i : Nat} (h : i < 64) : nI i >>> ((3 : Int32) &&& 31) = nI (i / 8) := pk_shrN (by omega) _ 3 (by decide)
theorem am_mod8 {i : Nat} (h : i < 64) : nI i &&& 7 = nI (i % 8) := pk_andN (by omega) 3 (by decide)
theorem yw_36 {post : SY → Prop} {J8 : _} {J : Int32 → Int32 → Prop} {k : Nat} {m x4 x5 : Int32} (h : J (am_it (am_fY st tr lk) 64 m) (nI (k + 1))) : ∃ n, wY_end_36 post J8 J x4 x5 (nI k) (nI N) (nI cap) (nI Q) (nI CS) (nI now) (nI cc) (nI tc) (nI kn) st gn lr pc wa dy tr par ce ct ca kd sg mx wd rs rg mon lk mc mk mf mv ms cel trd cnt n m 0 := by
  refine am_lp0 (W := fun n i s => wY_end_36 post J8 J x4 x5 (nI k) (nI N) (nI cap) (nI Q) (nI CS) (nI now) (nI cc) (nI tc) (nI kn) st gn lr pc wa dy tr par ce ct ca kd sg mx wd rs rg mon lk mc mk mf mv ms cel trd cnt n s (nI i)) (am_fY st tr lk) (fun _ _ => True) 64 trivial (fun _ _ _ _ => trivial) (fun n => ?_) (fun n i s hi _ hw => ?_)
  · exact br_t (by decide) (nm_r (nI_1 k) h)
  · have i1 : vp_in (nI i) 64 := vp_in_nI (by omega) (by omega)
    have e1 : (nI i).toNatClampNeg = i := nI_clamp (by omega)
    have i2 : vp_in (nI (i % 8)) 8 := vp_in_nI (by omega) (by omega)
    have e2 : (nI (i % 8)).toNatClampNeg = i % 8 := nI_clamp (by omega)
    refine br_f (nI_ge (b := 64) (by omega) (by omega)) (nm_r (am_mod8 hi) ⟨i1, ?_⟩)
    rw [e1, e2, am_div8 hi]
    unfold am_fY at hw
    by_cases c1 : lk i = 0
    · rw [if_neg fun z => z.1 c1] at hw
      exact br_t c1 (nm_r (nI_1 i) hw)
    · refine br_f c1 (yv_has (by omega) (am_br (fun c2 => ?_) (fun c2 => ⟨i2, ?_⟩)))
      · rw [if_neg fun z => by rw [c2] at z; exact absurd z.2.1 (by decide)] at hw
        exact nm_r (nI_1 i) hw
      · by_cases c3 : st (i % 8) = 1
        · refine br_t c3 ⟨i2, ?_⟩
          by_cases c4 : tr (i % 8) = 0
          · rw [if_pos ⟨c1, c2, c3, c4⟩] at hw
            exact br_t c4 (nm_e (nm_r (nI_1 i) hw))
          · rw [if_neg fun z => c4 z.2.2.2] at hw
            exact br_f c4 (nm_r (nI_1 i) hw)
        · rw [if_neg fun z => c3 z.2.2.1] at hw
          exact br_f c3 (nm_r (nI_1 i) hw)
theorem yw_21 {post : SY → Prop} {J8 : _} {m r x5 : Int32} (hr : ¬ r = 0) (h : ∃ n118, wY_end_118 post J8 (am_it (fun _ => am_it (am_fY st tr lk) 64) 8 m) r x5 (nI N) (nI cap) (nI Q) (nI CS) (nI now) (nI cc) (nI tc) (nI kn) n118 (-1) 0 st gn lr pc wa dy tr par ce ct ca kd sg mx wd rs rg mon lk mc mk mf mv ms cel trd cnt) : ∀ d k n, k + d = 8 → d < n → wY_end_21 post J8 r x5 (nI N) (nI cap) (nI Q) (nI CS) (nI now) (nI cc) (nI tc) (nI kn) st gn lr pc wa dy tr par ce ct ca kd sg mx wd rs rg mon lk mc mk mf mv ms cel trd cnt n (am_it (fun _ => am_it (am_fY st tr lk) 64) k m) (nI k) := by
  intro d
  induction d with
  | zero =>
    intro k n hk hn
    obtain ⟨n', rfl⟩ : ∃ m, n = m + 1 := ⟨n - 1, by omega⟩
    obtain rfl : k = 8 := hk
    exact br_t (by decide) h
  | succ d ih =>
    intro k n hk hn
    obtain ⟨n', rfl⟩ : ∃ m, n = m + 1 := ⟨n - 1, by omega⟩
    exact br_f (nI_ge (b := 8) (by omega) (by omega)) (br_f hr (yw_36 (ih (k + 1) n' (by omega) (by omega))))
/-- who dies: the set itself, or with all that links pull along -/
def am_Dead (st tr : Nat → Int32) (L : Nat → Nat → Bool) (m r D : Int32) : Prop := (r = 0 → D = m) ∧ (¬ r = 0 → am_IsClo (am_go st tr) L m D)
theorem yw_dead {post : SY → Prop} {J8 : _} {m r x5 D : Int32} (hL : ∀ t j, t < 8 → j < 8 → (lk (t * 8 + j) = 0 ↔ L t j = false)) (hs : ∀ t j, t < 8 → j < 8 → L t j = L j t) (hm : am_B8 m) (hD : am_Dead st tr L m r D) (h : ∃ n118, wY_end_118 post J8 D r x5 (nI N) (nI cap) (nI Q) (nI CS) (nI now) (nI cc) (nI tc) (nI kn) n118 (-1) 0 st gn lr pc wa dy tr par ce ct ca kd sg mx wd rs rg mon lk mc mk mf mv ms cel trd cnt) : ∃ n21, wY_end_21 post J8 r x5 (nI N) (nI cap) (nI Q) (nI CS) (nI now) (nI cc) (nI tc) (nI kn) st gn lr pc wa dy tr par ce ct ca kd sg mx wd rs rg mon lk mc mk mf mv ms cel trd cnt n21 m 0 := by
  by_cases c : r = 0
  · rw [hD.1 c] at h
    exact ⟨1, br_f (by decide) (br_t c h)⟩
  · have k := am_clo (go := am_go st tr) (L := L) (yw_St (st := st) (tr := tr) hL) (fun i j hi _ z => ⟨z.2.1, by rw [z.1, hs _ _ (by omega) (by omega)]; exact z.2.2⟩) (fun t j ht hj g l => ⟨j * 8 + t, by omega, by show (j * 8 + t) % 8 = t; omega, by omega, by
      rw [show (j * 8 + t) % 8 = t by omega]; exact g, by
      rw [show (j * 8 + t) % 8 = t by omega, show (j * 8 + t) / 8 = j by omega, hs _ _ hj ht]; exact l⟩) hm
    rw [am_clo_u (hD.2 c) k] at h
    exact ⟨9, yw_21 c h 8 0 9 (by omega) (by omega)⟩
end SP
end
section
/-! 10: the end of a set of processes, pure -/
abbrev S4 : Type := (Nat → Int32) × (Nat → Int32) × (Nat → Int32) × (Nat → Int64)
def am_bu (D r : Int32) (i : Nat) (s : S4) : S4 :=
  if bt D i = true then (upd s.1 i 3, upd s.2.1 i r, upd s.2.2.1 i 0, vp_updL (vp_updL s.2.2.2 8 (s.2.2.2 8 + 1)) 3 (vp_updL s.2.2.2 8 (s.2.2.2 8 + 1) 3 + (s.2.2.1 i).toInt64)) else s
def am_sx (st : Nat → Int32) (D : Int32) : Nat → Int32
  | 0 => -1
  | n + 1 => if bt D n = true ∧ st n = 2 then nI n else am_sx st D n
def am_tl (cap : Nat) (st tr : Nat → Int32) (L : Nat → Bool) (p r : Int32) (t : Nat) (m : ML) : ML := if st t = 1 ∧ L t = true ∧ ¬ tr t = 0 then am_pl cap t 2 p r m else m
def am_pw (cap : Nat) (p r : Int32) (w : Nat) (m : ML) : ML := am_pl cap w 3 p r (am_ct 5 m)
def am_tw (cap : Nat) (st : Nat → Int32) (p r : Int32) (d w : Nat) (s : (Nat → Int32) × ML) : (Nat → Int32) × ML :=
  if st w = 1 then (upd s.1 (w * 8 + d) 0, am_it (fun _ => am_pw cap p r w) (s.1 (w * 8 + d)).toNatClampNeg s.2) else s
def am_te (cap : Nat) (st tr : Nat → Int32) (L : Nat → Bool) (p r : Int32) (d : Nat) (s : (Nat → Int32) × ML) : (Nat → Int32) × ML :=
  am_it (am_tw cap st p r d) 8 (s.1, am_it (am_tl cap st tr L p r) 8 s.2)
def am_td (cap : Nat) (st tr gn : Nat → Int32) (L : Nat → Nat → Bool) (D r : Int32) (d : Nat) (s : (Nat → Int32) × ML) : (Nat → Int32) × ML :=
  if bt D d = true then am_te cap st tr (fun t => L t d) (gn d * 8 + nI d) r d s else s
def am_fg (D : Int32) (i : Nat) (s : (Nat → Int32) × (Nat → Int64)) : (Nat → Int32) × (Nat → Int64) :=
  if bt D (i / 8) = true then (upd s.1 i 0, vp_updL s.2 6 (s.2 6 + (s.1 i).toInt64)) else s
def am_ff (D : Int32) (par : Nat → Int32) (i : Nat) (st : Nat → Int32) : Nat → Int32 := if bt D i = true ∧ par i < 0 then upd st i 0 else st
def am_E1 (D r : Int32) (st lr : Nat → Int32) (m : ML) : S4 := am_it (am_bu D r) 8 (st, lr, m.1, m.2.2.2.2.2)
def am_E2 (cap : Nat) (tr gn : Nat → Int32) (L : Nat → Nat → Bool) (D r : Int32) (mon : Nat → Int32) (m : ML) (e : S4) : (Nat → Int32) × ML :=
  am_it (am_td cap e.1 tr gn L D r) 8 (mon, (e.2.2.1, m.2.1, m.2.2.1, m.2.2.2.1, m.2.2.2.2.1, e.2.2.2))
def am_E3 (D : Int32) (e : (Nat → Int32) × ML) : (Nat → Int32) × (Nat → Int64) := am_it (am_fg D) 64 (e.1, e.2.2.2.2.2.2)
/-- the state after it: st, lr, mon and the boxes -/
def am_Est (D r : Int32) (par st lr : Nat → Int32) (m : ML) : Nat → Int32 := am_it (am_ff D par) 8 (am_E1 D r st lr m).1
def am_Elr (D r : Int32) (st lr : Nat → Int32) (m : ML) : Nat → Int32 := (am_E1 D r st lr m).2.1
def am_Emo (cap : Nat) (tr gn : Nat → Int32) (L : Nat → Nat → Bool) (D r : Int32) (st lr mon : Nat → Int32) (m : ML) : Nat → Int32 :=
  (am_E3 D (am_E2 cap tr gn L D r mon m (am_E1 D r st lr m))).1
def am_Em (cap : Nat) (tr gn : Nat → Int32) (L : Nat → Nat → Bool) (D r : Int32) (st lr mon : Nat → Int32) (m : ML) : ML :=
  ((am_E2 cap tr gn L D r mon m (am_E1 D r st lr m)).2.1, (am_E2 cap tr gn L D r mon m (am_E1 D r st lr m)).2.2.1, (am_E2 cap tr gn L D r mon m (am_E1 D r st lr m)).2.2.2.1, (am_E2 cap tr gn L D r mon m (am_E1 D r st lr m)).2.2.2.2.1, (am_E2 cap tr gn L D r mon m (am_E1 D r st lr m)).2.2.2.2.2.1, (am_E3 D (am_E2 cap tr gn L D r mon m (am_E1 D r st lr m))).2)
/-! the boxes' counts stay within -/
def am_mok (cap : Nat) (m : ML) : Prop := ∀ t, t < 8 → ∃ n, n ≤ cap ∧ m.1 t = nI n
def am_kok (mon : Nat → Int32) : Prop := ∀ i, i < 64 → ∃ k, k ≤ 3 ∧ mon i = nI k
theorem am_mok_pl {cap t : Nat} {k f v : Int32} {m : ML} (hc : 1 ≤ cap) (h12 : cap ≤ 12) (ht : t < 8) (h : am_mok cap m) : am_mok cap (am_pl cap t k f v m) := by
  intro j hj
  by_cases e : j = t
  · subst e
    obtain ⟨n, hn, en⟩ := h j hj
    exact am_pl_c hc h12 en hn
  · rw [am_pl_n j e]; exact h j hj
theorem am_mok_ct {cap i : Nat} {m : ML} (h : am_mok cap m) : am_mok cap (am_ct i m) := h
theorem am_mok_tl {cap t : Nat} {st tr : Nat → Int32} {L : Nat → Bool} {p r : Int32} {m : ML} (hc : 1 ≤ cap) (h12 : cap ≤ 12) (ht : t < 8) (h : am_mok cap m) : am_mok cap (am_tl cap st tr L p r t m) := by
  unfold am_tl
  split
  · exact am_mok_pl hc h12 ht h
  · exact h
theorem am_mok_pw {cap w : Nat} {p r : Int32} {m : ML} (hc : 1 ≤ cap) (h12 : cap ≤ 12) (hw : w < 8) (h : am_mok cap m) : ∀ q, am_mok cap (am_it (fun _ => am_pw cap p r w) q m) := by
  intro q
  exact am_it_inv (f := fun _ => am_pw cap p r w) (fun _ s => am_mok cap s) h q (fun i s _ hs => am_mok_pl hc h12 hw (am_mok_ct hs)) q (Nat.le_refl q)
theorem am_kok_u {mon : Nat → Int32} {i k : Nat} (h : am_kok mon) (hk : k ≤ 3) : am_kok (upd mon i (nI k)) := by
  intro j hj
  by_cases e : j = i
  · subst e; exact ⟨k, hk, pk_us⟩
  · rw [pk_un e]; exact h j hj
def am_ok2 (cap : Nat) (s : (Nat → Int32) × ML) : Prop := am_kok s.1 ∧ am_mok cap s.2
theorem am_ok2_tw {cap d w : Nat} {st : Nat → Int32} {p r : Int32} {s : (Nat → Int32) × ML} (hc : 1 ≤ cap) (h12 : cap ≤ 12) (hw : w < 8) (h : am_ok2 cap s) : am_ok2 cap (am_tw cap st p r d w s) := by
  unfold am_tw
  split
  · exact ⟨am_kok_u (k := 0) h.1 (by omega), am_mok_pw hc h12 hw h.2 _⟩
  · exact h
theorem am_mok_tls {cap : Nat} {st tr : Nat → Int32} {L : Nat → Bool} {p r : Int32} {m : ML} (hc : 1 ≤ cap) (h12 : cap ≤ 12) (h : am_mok cap m) : ∀ i, i ≤ 8 → am_mok cap (am_it (am_tl cap st tr L p r) i m) :=
  am_it_inv (fun _ s => am_mok cap s) h 8 (fun _ _ hi hs => am_mok_tl hc h12 hi hs)
theorem am_ok2_tws {cap d : Nat} {st : Nat → Int32} {p r : Int32} {s : (Nat → Int32) × ML} (hc : 1 ≤ cap) (h12 : cap ≤ 12) (h : am_ok2 cap s) : ∀ i, i ≤ 8 → am_ok2 cap (am_it (am_tw cap st p r d) i s) :=
  am_it_inv (fun _ s => am_ok2 cap s) h 8 (fun _ _ hi hs => am_ok2_tw hc h12 hi hs)
theorem am_ok2_te {cap d : Nat} {st tr : Nat → Int32} {L : Nat → Bool} {p r : Int32} {s : (Nat → Int32) × ML} (hc : 1 ≤ cap) (h12 : cap ≤ 12) (h : am_ok2 cap s) : am_ok2 cap (am_te cap st tr L p r d s) :=
  am_ok2_tws (s := (s.1, am_it (am_tl cap st tr L p r) 8 s.2)) hc h12 ⟨h.1, am_mok_tls hc h12 h.2 8 (Nat.le_refl 8)⟩ 8 (Nat.le_refl 8)
theorem am_ok2_td {cap d : Nat} {st tr gn : Nat → Int32} {L : Nat → Nat → Bool} {D r : Int32} {s : (Nat → Int32) × ML} (hc : 1 ≤ cap) (h12 : cap ≤ 12) (h : am_ok2 cap s) : am_ok2 cap (am_td cap st tr gn L D r d s) := by
  unfold am_td
  split
  · exact am_ok2_te hc h12 h
  · exact h
theorem am_ok2_tds {cap : Nat} {st tr gn : Nat → Int32} {L : Nat → Nat → Bool} {D r : Int32} {s : (Nat → Int32) × ML} (hc : 1 ≤ cap) (h12 : cap ≤ 12) (h : am_ok2 cap s) : ∀ i, i ≤ 8 → am_ok2 cap (am_it (am_td cap st tr gn L D r) i s) :=
  am_it_inv (fun _ s => am_ok2 cap s) h 8 (fun _ _ _ hs => am_ok2_td hc h12 hs)
/-! burying -/
theorem am_bu_f {D r : Int32} {s : S4} : ∀ i, i ≤ 8 → (∀ j, (am_it (am_bu D r) i s).1 j = if j < i ∧ bt D j = true then 3 else s.1 j) ∧ (∀ j, (am_it (am_bu D r) i s).2.2.1 j = if j < i ∧ bt D j = true then 0 else s.2.2.1 j) := by
  refine am_it_inv (f := am_bu D r) (fun i q => (∀ j, q.1 j = if j < i ∧ bt D j = true then 3 else s.1 j) ∧ (∀ j, q.2.2.1 j = if j < i ∧ bt D j = true then 0 else s.2.2.1 j)) ⟨fun j => (if_neg (by omega)).symm, fun j => (if_neg (by omega)).symm⟩ 8 (fun i q hi hq => ?_)
  unfold am_bu
  by_cases c : bt D i = true
  · rw [if_pos c]
    refine ⟨fun j => ?_, fun j => ?_⟩
    · show upd q.1 i 3 j = _
      by_cases e : j = i
      · subst e; rw [pk_us, if_pos ⟨by omega, c⟩]
      · rw [pk_un e, hq.1 j]
        by_cases z : j < i ∧ bt D j = true
        · rw [if_pos z, if_pos ⟨by omega, z.2⟩]
        · rw [if_neg z, if_neg fun y => z ⟨by omega, y.2⟩]
    · show upd q.2.2.1 i 0 j = _
      by_cases e : j = i
      · subst e; rw [pk_us, if_pos ⟨by omega, c⟩]
      · rw [pk_un e, hq.2 j]
        by_cases z : j < i ∧ bt D j = true
        · rw [if_pos z, if_pos ⟨by omega, z.2⟩]
        · rw [if_neg z, if_neg fun y => z ⟨by omega, y.2⟩]
  · rw [if_neg c]
    refine ⟨fun j => ?_, fun j => ?_⟩
    · rw [hq.1 j]
      by_cases z : j < i ∧ bt D j = true
      · rw [if_pos z, if_pos ⟨by omega, z.2⟩]
      · rw [if_neg z, if_neg fun y => z ⟨by
          have : j ≠ i := fun e => c (e ▸ y.2)
          omega, y.2⟩]
    · rw [hq.2 j]
      by_cases z : j < i ∧ bt D j = true
      · rw [if_pos z, if_pos ⟨by omega, z.2⟩]
      · rw [if_neg z, if_neg fun y => z ⟨by
          have : j ≠ i := fun e => c (e ▸ y.2)
          omega, y.2⟩]
theorem am_E1st {D r : Int32} {st lr : Nat → Int32} {m : ML} (j : Nat) : (am_E1 D r st lr m).1 j = if j < 8 ∧ bt D j = true then 3 else st j := (am_bu_f 8 (Nat.le_refl 8)).1 j
theorem am_E1mc {D r : Int32} {st lr : Nat → Int32} {m : ML} (j : Nat) : (am_E1 D r st lr m).2.2.1 j = if j < 8 ∧ bt D j = true then 0 else m.1 j := (am_bu_f 8 (Nat.le_refl 8)).2 j
theorem am_ff_f {D : Int32} {par st : Nat → Int32} : ∀ i, i ≤ 8 → ∀ j, am_it (am_ff D par) i st j = if j < i ∧ bt D j = true ∧ par j < 0 then 0 else st j := by
  refine am_it_inv (f := am_ff D par) (fun i q => ∀ j, q j = if j < i ∧ bt D j = true ∧ par j < 0 then 0 else st j) (fun j => (if_neg (by omega)).symm) 8 (fun i q hi hq j => ?_)
  unfold am_ff
  by_cases c : bt D i = true ∧ par i < 0
  · rw [if_pos c]
    by_cases e : j = i
    · subst e; rw [pk_us, if_pos ⟨by omega, c⟩]
    · rw [pk_un e, hq j]
      by_cases z : j < i ∧ bt D j = true ∧ par j < 0
      · rw [if_pos z, if_pos ⟨by omega, z.2⟩]
      · rw [if_neg z, if_neg fun y => z ⟨by omega, y.2⟩]
  · rw [if_neg c, hq j]
    by_cases z : j < i ∧ bt D j = true ∧ par j < 0
    · rw [if_pos z, if_pos ⟨by omega, z.2⟩]
    · rw [if_neg z, if_neg fun y => z ⟨by
        have : j ≠ i := fun e => c (e ▸ y.2)
        omega, y.2⟩]
theorem am_Est_f {D r : Int32} {par st lr : Nat → Int32} {m : ML} {j : Nat} (hj : j < 8) : am_Est D r par st lr m j = if bt D j = true then (if par j < 0 then 0 else 3) else st j := by
  unfold am_Est
  rw [am_ff_f 8 (Nat.le_refl 8) j, am_E1st j]
  by_cases c : bt D j = true
  · rw [if_pos c]
    by_cases p : par j < 0
    · rw [if_pos ⟨hj, c, p⟩, if_pos p]
    · rw [if_neg fun z => p z.2.2, if_neg p, if_pos ⟨hj, c⟩]
  · rw [if_neg c, if_neg fun z => c z.2.1, if_neg fun z => c z.2]
theorem am_Est_o {D r : Int32} {par st lr : Nat → Int32} {m : ML} {j : Nat} (hj : ¬ j < 8) : am_Est D r par st lr m j = st j := by
  unfold am_Est
  rw [am_ff_f 8 (Nat.le_refl 8) j, am_E1st j, if_neg fun z => hj z.1, if_neg fun z => hj z.1]
/-! what placing keeps: the counts of all but the workers -/
theorem am_tl_n {cap t : Nat} {st tr : Nat → Int32} {L : Nat → Bool} {p r : Int32} {m : ML} {j : Nat} (h : ¬ st j = 1) : (am_tl cap st tr L p r t m).1 j = m.1 j := by
  unfold am_tl
  by_cases c : st t = 1 ∧ L t = true ∧ ¬ tr t = 0
  · rw [if_pos c]
    exact am_pl_n j (fun e => h (e ▸ c.1))
  · rw [if_neg c]
theorem am_pw_n {cap w : Nat} {p r : Int32} {m : ML} {j : Nat} (h : j ≠ w) : ∀ q, (am_it (fun _ => am_pw cap p r w) q m).1 j = m.1 j := by
  intro q
  exact am_it_inv (f := fun _ => am_pw cap p r w) (fun _ s => s.1 j = m.1 j) rfl q (fun i s _ hs => (am_pl_n j h).trans hs) q (Nat.le_refl q)
theorem am_tw_n {cap d w : Nat} {st : Nat → Int32} {p r : Int32} {s : (Nat → Int32) × ML} {j : Nat} (h : ¬ st j = 1) : (am_tw cap st p r d w s).2.1 j = s.2.1 j := by
  unfold am_tw
  by_cases c : st w = 1
  · rw [if_pos c]
    exact am_pw_n (j := j) (w := w) (fun e => h (by rw [e]; exact c)) _
  · rw [if_neg c]
theorem am_td_n {cap d : Nat} {st tr gn : Nat → Int32} {L : Nat → Nat → Bool} {D r : Int32} {s : (Nat → Int32) × ML} {j : Nat} (h : ¬ st j = 1) : (am_td cap st tr gn L D r d s).2.1 j = s.2.1 j := by
  unfold am_td
  by_cases c : bt D d = true
  · rw [if_pos c]
    unfold am_te
    have k1 := am_it_inv (f := am_tl cap st tr (fun t => L t d) (gn d * 8 + nI d) r) (fun _ q => q.1 j = s.2.1 j) (s := s.2) rfl 8 (fun i q _ hq => (am_tl_n h).trans hq) 8 (Nat.le_refl 8)
    exact am_it_inv (f := am_tw cap st (gn d * 8 + nI d) r d) (fun _ q => q.2.1 j = s.2.1 j) k1 8 (fun i q _ hq => (am_tw_n h).trans hq) 8 (Nat.le_refl 8)
  · rw [if_neg c]
/-! monitors: a dead target's go from the live watchers, a dead watcher's all -/
theorem am_tw_m {cap d w : Nat} {st : Nat → Int32} {p r : Int32} {s : (Nat → Int32) × ML} (i : Nat) : (am_tw cap st p r d w s).1 i = if st w = 1 ∧ i = w * 8 + d then 0 else s.1 i := by
  unfold am_tw
  by_cases c : st w = 1
  · rw [if_pos c]
    show upd s.1 (w * 8 + d) 0 i = _
    by_cases e : i = w * 8 + d
    · subst e; rw [pk_us, if_pos ⟨c, rfl⟩]
    · rw [pk_un e, if_neg fun z => e z.2]
  · rw [if_neg c, if_neg fun z => c z.1]
theorem am_tws_m {cap d : Nat} {st : Nat → Int32} {p r : Int32} {s : (Nat → Int32) × ML} (hd : d < 8) : ∀ n, n ≤ 8 → ∀ w t, w < 8 → t < 8 → (am_it (am_tw cap st p r d) n s).1 (w * 8 + t) = if w < n ∧ st w = 1 ∧ t = d then 0 else s.1 (w * 8 + t) := by
  refine am_it_inv (f := am_tw cap st p r d) (fun n q => ∀ w t, w < 8 → t < 8 → q.1 (w * 8 + t) = if w < n ∧ st w = 1 ∧ t = d then 0 else s.1 (w * 8 + t)) (fun w t _ _ => (if_neg (by omega)).symm) 8 (fun n q hn hq w t hw ht => ?_)
  rw [am_tw_m, hq w t hw ht]
  by_cases c : st n = 1 ∧ w * 8 + t = n * 8 + d
  · have e : w = n := by omega
    have e2 : t = d := by omega
    rw [if_pos c, if_pos ⟨by omega, by rw [e]; exact c.1, e2⟩]
  · rw [if_neg c]
    by_cases z : w < n ∧ st w = 1 ∧ t = d
    · rw [if_pos z, if_pos ⟨by omega, z.2⟩]
    · rw [if_neg z, if_neg fun y => ?_]
      by_cases e : w = n
      · exact c ⟨by rw [← e]; exact y.2.1, by rw [e, y.2.2]⟩
      · exact z ⟨by omega, y.2⟩
theorem am_td_m {cap d : Nat} {st tr gn : Nat → Int32} {L : Nat → Nat → Bool} {D r : Int32} {s : (Nat → Int32) × ML} (hd : d < 8) {w t : Nat} (hw : w < 8) (ht : t < 8) : (am_td cap st tr gn L D r d s).1 (w * 8 + t) = if bt D d = true ∧ st w = 1 ∧ t = d then 0 else s.1 (w * 8 + t) := by
  unfold am_td
  by_cases c : bt D d = true
  · rw [if_pos c]
    unfold am_te
    rw [am_tws_m hd 8 (Nat.le_refl 8) w t hw ht]
    by_cases z : st w = 1 ∧ t = d
    · rw [if_pos ⟨hw, z⟩, if_pos ⟨c, z⟩]
    · rw [if_neg fun y => z y.2, if_neg fun y => z y.2]
  · rw [if_neg c, if_neg fun y => c y.1]
theorem am_tds_m {cap : Nat} {st tr gn : Nat → Int32} {L : Nat → Nat → Bool} {D r : Int32} {s : (Nat → Int32) × ML} : ∀ n, n ≤ 8 → ∀ w t, w < 8 → t < 8 → (am_it (am_td cap st tr gn L D r) n s).1 (w * 8 + t) = if t < n ∧ bt D t = true ∧ st w = 1 then 0 else s.1 (w * 8 + t) := by
  refine am_it_inv (f := am_td cap st tr gn L D r) (fun n q => ∀ w t, w < 8 → t < 8 → q.1 (w * 8 + t) = if t < n ∧ bt D t = true ∧ st w = 1 then 0 else s.1 (w * 8 + t)) (fun w t _ _ => (if_neg (by omega)).symm) 8 (fun n q hn hq w t hw ht => ?_)
  rw [am_td_m hn hw ht, hq w t hw ht]
  by_cases c : bt D n = true ∧ st w = 1 ∧ t = n
  · rw [if_pos c, if_pos ⟨by omega, by rw [c.2.2]; exact c.1, c.2.1⟩]
  · rw [if_neg c]
    by_cases z : t < n ∧ bt D t = true ∧ st w = 1
    · rw [if_pos z, if_pos ⟨by omega, z.2⟩]
    · rw [if_neg z, if_neg fun y => ?_]
      by_cases e : t = n
      · exact c ⟨by rw [← e]; exact y.2.1, y.2.2, e⟩
      · exact z ⟨by omega, y.2⟩
theorem am_fg_m {D : Int32} {s : (Nat → Int32) × (Nat → Int64)} : ∀ n, n ≤ 64 → ∀ i, (am_it (am_fg D) n s).1 i = if i < n ∧ bt D (i / 8) = true then 0 else s.1 i := by
  refine am_it_inv (f := am_fg D) (fun n q => ∀ i, q.1 i = if i < n ∧ bt D (i / 8) = true then 0 else s.1 i) (fun i => (if_neg (by omega)).symm) 64 (fun n q hn hq i => ?_)
  unfold am_fg
  by_cases c : bt D (n / 8) = true
  · rw [if_pos c]
    show upd q.1 n 0 i = _
    by_cases e : i = n
    · subst e; rw [pk_us, if_pos ⟨by omega, c⟩]
    · rw [pk_un e, hq i]
      by_cases z : i < n ∧ bt D (i / 8) = true
      · rw [if_pos z, if_pos ⟨by omega, z.2⟩]
      · rw [if_neg z, if_neg fun y => z ⟨by omega, y.2⟩]
  · rw [if_neg c, hq i]
    by_cases z : i < n ∧ bt D (i / 8) = true
    · rw [if_pos z, if_pos ⟨by omega, z.2⟩]
    · rw [if_neg z, if_neg fun y => z ⟨by
        have : i ≠ n := fun e => c (e ▸ y.2)
        omega, y.2⟩]
theorem am_Emo_f {cap : Nat} {tr gn : Nat → Int32} {L : Nat → Nat → Bool} {D r : Int32} {st lr mon : Nat → Int32} {m : ML} {w t : Nat} (hw : w < 8) (ht : t < 8) : am_Emo cap tr gn L D r st lr mon m (w * 8 + t) = if bt D w = true ∨ (bt D t = true ∧ st w = 1) then 0 else mon (w * 8 + t) := by
  unfold am_Emo am_E3
  rw [am_fg_m 64 (Nat.le_refl 64)]
  have e : (w * 8 + t) / 8 = w := by omega
  rw [e]
  by_cases c : bt D w = true
  · rw [if_pos ⟨by omega, c⟩, if_pos (Or.inl c)]
  · rw [if_neg fun z => c z.2]
    unfold am_E2
    dsimp only
    rw [am_tds_m 8 (Nat.le_refl 8) w t hw ht]
    dsimp only
    have es : (am_E1 D r st lr m).1 w = st w := by rw [am_E1st w, if_neg fun z => c z.2]
    rw [es]
    by_cases z : bt D t = true ∧ st w = 1
    · rw [if_pos ⟨ht, z⟩, if_pos (Or.inr z)]
    · rw [if_neg fun y => z y.2, if_neg fun y => y.elim c z]
theorem am_Em_n {cap : Nat} {tr gn : Nat → Int32} {L : Nat → Nat → Bool} {D r : Int32} {st lr mon : Nat → Int32} {m : ML} {j : Nat} (hj : j < 8) (h : bt D j = true ∨ ¬ st j = 1) : (am_Em cap tr gn L D r st lr mon m).1 j = if bt D j = true then 0 else m.1 j := by
  show (am_E2 cap tr gn L D r mon m (am_E1 D r st lr m)).2.1 j = _
  have hs : ¬ (am_E1 D r st lr m).1 j = 1 := by
    rw [am_E1st j]
    by_cases c : bt D j = true
    · rw [if_pos ⟨hj, c⟩]; decide
    · rw [if_neg fun z => c z.2]; exact h.elim (fun z => absurd z c) id
  unfold am_E2
  have k := am_it_inv (f := am_td cap (am_E1 D r st lr m).1 tr gn L D r) (fun _ q => q.2.1 j = (am_E1 D r st lr m).2.2.1 j) (s := (mon, ((am_E1 D r st lr m).2.2.1, m.2.1, m.2.2.1, m.2.2.2.1, m.2.2.2.2.1, (am_E1 D r st lr m).2.2.2))) rfl 8 (fun i q _ hq => (am_td_n hs).trans hq) 8 (Nat.le_refl 8)
  refine k.trans ?_
  rw [am_E1mc j]
  by_cases c : bt D j = true
  · rw [if_pos ⟨hj, c⟩, if_pos c]
  · rw [if_neg fun z => c z.2, if_neg c]
theorem am_E1ok {cap : Nat} {D r : Int32} {st lr mon : Nat → Int32} {m : ML} (hk : am_kok mon) (hm : am_mok cap m) : am_ok2 cap (mon, ((am_E1 D r st lr m).2.2.1, m.2.1, m.2.2.1, m.2.2.2.1, m.2.2.2.2.1, (am_E1 D r st lr m).2.2.2)) := by
  refine ⟨hk, fun t ht => ?_⟩
  show ∃ n, n ≤ cap ∧ (am_E1 D r st lr m).2.2.1 t = nI n
  rw [am_E1mc t]
  by_cases c : t < 8 ∧ bt D t = true
  · rw [if_pos c]; exact ⟨0, by omega, rfl⟩
  · rw [if_neg c]; exact hm t ht
theorem am_Em_ok {cap : Nat} {tr gn : Nat → Int32} {L : Nat → Nat → Bool} {D r : Int32} {st lr mon : Nat → Int32} {m : ML} (hc : 1 ≤ cap) (h12 : cap ≤ 12) (hk : am_kok mon) (hm : am_mok cap m) : am_mok cap (am_Em cap tr gn L D r st lr mon m) :=
  (am_ok2_tds hc h12 (am_E1ok hk hm) 8 (Nat.le_refl 8)).2
end
section
/-! 11: the end of a set, the component's side -/
def am_lc (st lm : Nat → Int32) (d i : Nat) : Nat → Int32 := fun t => if t < i ∧ st t = 1 then lm t &&& (am_one d ^^^ (-1)) else lm t
theorem am_lc0 (st lm : Nat → Int32) (d : Nat) : am_lc st lm d 0 = lm := funext fun t => if_neg (by omega)
theorem am_lcn {st lm : Nat → Int32} {d i : Nat} (h : ¬ st i = 1) : am_lc st lm d (i + 1) = am_lc st lm d i := by
  funext t
  unfold am_lc
  by_cases c : t < i ∧ st t = 1
  · rw [if_pos c, if_pos ⟨by omega, c.2⟩]
  · rw [if_neg c, if_neg fun z => c ⟨by
      have : t ≠ i := fun e => h (e ▸ z.2)
      omega, z.2⟩]
theorem am_lcs {st lm : Nat → Int32} {d i : Nat} (h : st i = 1) : upd (am_lc st lm d i) i (lm i &&& (am_one d ^^^ (-1))) = am_lc st lm d (i + 1) := by
  funext t
  unfold am_lc upd
  dsimp only
  by_cases e : t = i
  · subst e
    rw [if_pos rfl, if_pos ⟨by omega, h⟩]
  · rw [if_neg e]
    by_cases c : t < i ∧ st t = 1
    · rw [if_pos c, if_pos ⟨by omega, c.2⟩]
    · rw [if_neg c, if_neg fun z => c ⟨by omega, z.2⟩]
theorem am_andn {x : Int32} {d : Nat} (hd : d < 32) (j : Nat) : bt (x &&& (am_one d ^^^ (-1))) j = (bt x j && !decide (j = d)) := by
  rcases Nat.lt_or_ge j 32 with h | h
  · rw [b_and, am_not _ h, am_oneb hd]
  · rw [b_big h, b_big h]; rfl
theorem am_lcz {st lm : Nat → Int32} {d i : Nat} (hd : d < 32) (h : bt (lm i) d = false) : am_lc st lm d (i + 1) = am_lc st lm d i := by
  funext t
  unfold am_lc
  by_cases e : t = i
  · subst e
    rw [if_neg (c := t < t ∧ st t = 1) fun z => absurd z.1 (by omega)]
    by_cases c : t < t + 1 ∧ st t = 1
    · rw [if_pos c]
      apply b_ext
      intro j _
      rw [am_andn hd]
      by_cases q : j = d
      · rw [q, h]; rfl
      · rw [decide_eq_false q]; exact Bool.and_true _
    · rw [if_neg c]
  · by_cases c : t < i ∧ st t = 1
    · rw [if_pos c, if_pos ⟨by omega, c.2⟩]
    · rw [if_neg c, if_neg fun z => c ⟨by omega, z.2⟩]
theorem am_lci {st lm : Nat → Int32} {d i : Nat} : am_lc st lm d i i = lm i := if_neg (by omega)
section XE
variable {N cap Q CS cc now tc kn : Nat} {fl : Int32} {op oa ob oc st gn lr rg pc tr wt dl mc mk mf mv lm mon par ce ct ca sg mx wd cn cl rc rk tp tv wa dy kd rs lk cel trd : Nat → Int32} {ms cnt : Nat → Int64}
theorem xe_linked_l {post : SX → Prop} {L : Nat → Bool} {d : Nat} {p r : Int32} {m : ML} (hN : N ≤ 8) (hd : d < 8) (hc : 1 ≤ cap) (h12 : cap ≤ 12) (hm : am_mok cap m) (hL : ∀ t, t < 8 → st t = 1 → bt (lm t) d = L t) (h : post (fl, nI N, nI cap, nI Q, nI CS, nI cc, nI now, nI tc, op, oa, ob, oc, st, gn, lr, rg, pc, tr, wt, dl, (am_it (am_tl cap st tr L p r) N m).1, (am_it (am_tl cap st tr L p r) N m).2.1, (am_it (am_tl cap st tr L p r) N m).2.2.1, (am_it (am_tl cap st tr L p r) N m).2.2.2.1, (am_it (am_tl cap st tr L p r) N m).2.2.2.2.1, am_lc st lm d N, mon, par, ce, ct, ca, sg, mx, wd, cn, cl, rc, rk, tp, tv, (am_it (am_tl cap st tr L p r) N m).2.2.2.2.2)) : ∀ dd i n, i + dd = N → dd < n → wX_tellLinked_9 post (nI d) r p n (nI i) fl (nI N) (nI cap) (nI Q) (nI CS) (nI cc) (nI now) (nI tc) op oa ob oc st gn lr rg pc tr wt dl ((am_it (am_tl cap st tr L p r) i m).1) ((am_it (am_tl cap st tr L p r) i m).2.1) ((am_it (am_tl cap st tr L p r) i m).2.2.1) ((am_it (am_tl cap st tr L p r) i m).2.2.2.1) ((am_it (am_tl cap st tr L p r) i m).2.2.2.2.1) (am_lc st lm d i) mon par ce ct ca sg mx wd cn cl rc rk tp tv ((am_it (am_tl cap st tr L p r) i m).2.2.2.2.2) := by
  intro dd
  induction dd with
  | zero =>
    intro i n hi hn
    obtain ⟨n', rfl⟩ : ∃ m, n = m + 1 := ⟨n - 1, by omega⟩
    obtain rfl : i = N := hi
    exact br_t (Int32.le_refl _) h
  | succ dd ih =>
    intro i n hi hn
    obtain ⟨n', rfl⟩ : ∃ m, n = m + 1 := ⟨n - 1, by omega⟩
    have i1 : vp_in (nI i) 8 := vp_in_nI (by omega) (by omega)
    have e1 : (nI i).toNatClampNeg = i := nI_clamp (by omega)
    have k := ih (i + 1) n' (by omega) (by omega)
    rw [am_its] at k
    refine br_f (nI_ge (by omega) (by omega)) ⟨i1, ?_⟩
    rw [e1]
    by_cases c1 : st i = 1
    · refine br_t c1 ⟨i1, xv_has (by omega) ?_⟩
      rw [am_lci]
      refine am_br (fun c2 => ?_) (fun c2 => ⟨i1, i1, nm_r (am_lcs (lm := lm) (d := d) c1) ⟨i1, ?_⟩⟩)
      · rw [am_lcz (by omega) c2] at k
        unfold am_tl at k
        rw [if_neg fun z => by rw [← hL i (by omega) c1, c2] at z; exact absurd z.2.1 (by decide)] at k
        exact nm_r (nI_1 i) k
      · by_cases c3 : tr i = 0
        · unfold am_tl at k
          rw [if_neg fun z => z.2.2 c3] at k
          exact br_t c3 (nm_r (nI_1 i) k)
        · refine br_f c3 ?_
          obtain ⟨q, hq, eq⟩ := am_mok_tls (st := st) (tr := tr) (L := L) (p := p) (r := r) hc h12 hm i (by omega) i (by omega)
          refine xp_place (m := am_it (am_tl cap st tr L p r) i m) (by omega) eq hq h12 (fun _ _ => nm_r (nI_1 i) ?_)
          unfold am_tl at k ⊢
          rw [if_pos ⟨c1, by rw [← hL i (by omega) c1]; exact c2, c3⟩] at k
          exact k
    · refine br_f c1 (nm_r (nI_1 i) ?_)
      rw [am_lcn c1] at k
      unfold am_tl at k ⊢
      rw [if_neg fun z => c1 z.1] at k
      exact k
theorem xe_linked {post : SX → Prop} {L : Nat → Bool} {d : Nat} {r : Int32} {m : ML} (hN : N ≤ 8) (hd : d < 8) (hc : 1 ≤ cap) (h12 : cap ≤ 12) (hm : am_mok cap m) (hL : ∀ t, t < 8 → st t = 1 → bt (lm t) d = L t) (h : post (fl, nI N, nI cap, nI Q, nI CS, nI cc, nI now, nI tc, op, oa, ob, oc, st, gn, lr, rg, pc, tr, wt, dl, (am_it (am_tl cap st tr L (gn d * 8 + nI d) r) N m).1, (am_it (am_tl cap st tr L (gn d * 8 + nI d) r) N m).2.1, (am_it (am_tl cap st tr L (gn d * 8 + nI d) r) N m).2.2.1, (am_it (am_tl cap st tr L (gn d * 8 + nI d) r) N m).2.2.2.1, (am_it (am_tl cap st tr L (gn d * 8 + nI d) r) N m).2.2.2.2.1, am_lc st lm d N, mon, par, ce, ct, ca, sg, mx, wd, cn, cl, rc, rk, tp, tv, (am_it (am_tl cap st tr L (gn d * 8 + nI d) r) N m).2.2.2.2.2)) : wpX_tellLinked post (fl, nI N, nI cap, nI Q, nI CS, nI cc, nI now, nI tc, op, oa, ob, oc, st, gn, lr, rg, pc, tr, wt, dl, m.1, m.2.1, m.2.2.1, m.2.2.2.1, m.2.2.2.2.1, lm, mon, par, ce, ct, ca, sg, mx, wd, cn, cl, rc, rk, tp, tv, m.2.2.2.2.2) (nI d) r := by
  unfold wpX_tellLinked
  refine xv_pid hd ?_
  refine ⟨N + 1, ?_⟩
  have k := xe_linked_l (post := post) hN hd hc h12 hm hL h N 0 (N + 1) (by omega) (by omega)
  rw [am_lc0] at k
  exact k
theorem xe_50 {post : SX → Prop} {J : _} {d w k : Nat} {p r : Int32} {m : ML} (hd : d < 8) (hw : w < 8) (hc : 1 ≤ cap) (h12 : cap ≤ 12) (hm : am_mok cap m) (hk : k ≤ 3) (hJ : J (nI (w + 1)) fl (nI N) (nI cap) (nI Q) (nI CS) (nI cc) (nI now) (nI tc) op oa ob oc st gn lr rg pc tr wt dl ((am_it (fun _ => am_pw cap p r w) k m).1) ((am_it (fun _ => am_pw cap p r w) k m).2.1) ((am_it (fun _ => am_pw cap p r w) k m).2.2.1) ((am_it (fun _ => am_pw cap p r w) k m).2.2.2.1) ((am_it (fun _ => am_pw cap p r w) k m).2.2.2.2.1) lm (upd mon (w * 8 + d) (nI 0)) par ce ct ca sg mx wd cn cl rc rk tp tv ((am_it (fun _ => am_pw cap p r w) k m).2.2.2.2.2)) : ∀ dd q n, q + dd = k → dd < n → wX_tellWatchers_50 post J (nI d) r p (nI w) (nI k) n (nI q) fl (nI N) (nI cap) (nI Q) (nI CS) (nI cc) (nI now) (nI tc) op oa ob oc st gn lr rg pc tr wt dl ((am_it (fun _ => am_pw cap p r w) q m).1) ((am_it (fun _ => am_pw cap p r w) q m).2.1) ((am_it (fun _ => am_pw cap p r w) q m).2.2.1) ((am_it (fun _ => am_pw cap p r w) q m).2.2.2.1) ((am_it (fun _ => am_pw cap p r w) q m).2.2.2.2.1) lm (upd mon (w * 8 + d) (nI (k - q))) par ce ct ca sg mx wd cn cl rc rk tp tv ((am_it (fun _ => am_pw cap p r w) q m).2.2.2.2.2) := by
  have e3 : (nI w * 8 + nI d).toNatClampNeg = w * 8 + d := by rw [am_8, nI_clamp (by omega)]
  have i3 : vp_in (nI w * 8 + nI d) 64 := pk_in (w * 8 + d) 64 (by omega) (am_8 w d)
  intro dd
  induction dd with
  | zero =>
    intro q n hq hn
    obtain ⟨n', rfl⟩ : ∃ m, n = m + 1 := ⟨n - 1, by omega⟩
    obtain rfl : q = k := hq
    rw [Nat.sub_self]
    exact br_t (Int32.le_refl _) (nm_r (nI_1 w) hJ)
  | succ dd ih =>
    intro q n hq hn
    obtain ⟨n', rfl⟩ : ∃ m, n = m + 1 := ⟨n - 1, by omega⟩
    have z := ih (q + 1) n' (by omega) (by omega)
    rw [am_its] at z
    obtain ⟨a, ha, ea⟩ := am_mok_pw (p := p) (r := r) hc h12 hw hm q w hw
    refine br_f (nI_ge (by omega) (by omega)) ⟨i3, i3, nm_r (e' := upd mon (w * 8 + d) (nI (k - (q + 1)))) ?_ (nm_e ?_)⟩
    · rw [e3, pk_us, am_uu, am_s1 (by omega)]
      exact congrArg (fun x => upd mon (w * 8 + d) (nI x)) (by omega)
    · exact xp_place (m := am_ct 5 (am_it (fun _ => am_pw cap p r w) q m)) hw ea ha h12 (fun _ _ => nm_r (nI_1 q) z)
theorem xe_watch_l {post : SX → Prop} {d : Nat} {p r : Int32} {s : (Nat → Int32) × ML} (hN : N ≤ 8) (hd : d < 8) (hc : 1 ≤ cap) (h12 : cap ≤ 12) (hs : am_ok2 cap s) (h : post (fl, nI N, nI cap, nI Q, nI CS, nI cc, nI now, nI tc, op, oa, ob, oc, st, gn, lr, rg, pc, tr, wt, dl, ((am_it (am_tw cap st p r d) N s).2).1, ((am_it (am_tw cap st p r d) N s).2).2.1, ((am_it (am_tw cap st p r d) N s).2).2.2.1, ((am_it (am_tw cap st p r d) N s).2).2.2.2.1, ((am_it (am_tw cap st p r d) N s).2).2.2.2.2.1, lm, (am_it (am_tw cap st p r d) N s).1, par, ce, ct, ca, sg, mx, wd, cn, cl, rc, rk, tp, tv, ((am_it (am_tw cap st p r d) N s).2).2.2.2.2.2)) : ∀ dd w n, w + dd = N → dd < n → wX_tellWatchers_9 post (nI d) r p n (nI w) fl (nI N) (nI cap) (nI Q) (nI CS) (nI cc) (nI now) (nI tc) op oa ob oc st gn lr rg pc tr wt dl (((am_it (am_tw cap st p r d) w s).2).1) (((am_it (am_tw cap st p r d) w s).2).2.1) (((am_it (am_tw cap st p r d) w s).2).2.2.1) (((am_it (am_tw cap st p r d) w s).2).2.2.2.1) (((am_it (am_tw cap st p r d) w s).2).2.2.2.2.1) lm ((am_it (am_tw cap st p r d) w s).1) par ce ct ca sg mx wd cn cl rc rk tp tv (((am_it (am_tw cap st p r d) w s).2).2.2.2.2.2) := by
  intro dd
  induction dd with
  | zero =>
    intro i n hi hn
    obtain ⟨n', rfl⟩ : ∃ m, n = m + 1 := ⟨n - 1, by omega⟩
    obtain rfl : i = N := hi
    exact br_t (Int32.le_refl _) h
  | succ dd ih =>
    intro w n hi hn
    obtain ⟨n', rfl⟩ : ∃ m, n = m + 1 := ⟨n - 1, by omega⟩
    have i1 : vp_in (nI w) 8 := vp_in_nI (by omega) (by omega)
    have e1 : (nI w).toNatClampNeg = w := nI_clamp (by omega)
    have e3 : (nI w * 8 + nI d).toNatClampNeg = w * 8 + d := by rw [am_8, nI_clamp (by omega)]
    have i3 : vp_in (nI w * 8 + nI d) 64 := pk_in (w * 8 + d) 64 (by omega) (am_8 w d)
    have z := ih (w + 1) n' (by omega) (by omega)
    rw [am_its] at z
    have ok := am_ok2_tws (st := st) (p := p) (r := r) (d := d) hc h12 hs w (by omega)
    revert z ok
    generalize am_it (am_tw cap st p r d) w s = q
    intro z ok
    unfold am_tw at z
    refine br_f (nI_ge (by omega) (by omega)) ⟨i1, ?_⟩
    rw [e1]
    by_cases c1 : st w = 1
    · obtain ⟨k, hk, ek⟩ := ok.1 (w * 8 + d) (by omega)
      rw [if_pos c1, ek, nI_clamp (by omega)] at z
      refine br_t c1 ⟨i3, nm_r (e' := nI k) (by rw [e3, ek]) ⟨k + 1, ?_⟩⟩
      have y := xe_50 (post := post) (mon := q.1) (p := p) (r := r) hd (by omega) hc h12 ok.2 hk z k 0 (k + 1) (by omega) (by omega)
      rw [Nat.sub_zero, am_ui ek] at y
      exact y
    · rw [if_neg c1] at z
      exact br_f c1 ⟨1, br_t (Int32.le_refl _) (nm_r (nI_1 w) z)⟩
theorem xe_watch {post : SX → Prop} {d : Nat} {r : Int32} {s : (Nat → Int32) × ML} (hN : N ≤ 8) (hd : d < 8) (hc : 1 ≤ cap) (h12 : cap ≤ 12) (hs : am_ok2 cap s) (h : post (fl, nI N, nI cap, nI Q, nI CS, nI cc, nI now, nI tc, op, oa, ob, oc, st, gn, lr, rg, pc, tr, wt, dl, ((am_it (am_tw cap st (gn d * 8 + nI d) r d) N s).2).1, ((am_it (am_tw cap st (gn d * 8 + nI d) r d) N s).2).2.1, ((am_it (am_tw cap st (gn d * 8 + nI d) r d) N s).2).2.2.1, ((am_it (am_tw cap st (gn d * 8 + nI d) r d) N s).2).2.2.2.1, ((am_it (am_tw cap st (gn d * 8 + nI d) r d) N s).2).2.2.2.2.1, lm, (am_it (am_tw cap st (gn d * 8 + nI d) r d) N s).1, par, ce, ct, ca, sg, mx, wd, cn, cl, rc, rk, tp, tv, ((am_it (am_tw cap st (gn d * 8 + nI d) r d) N s).2).2.2.2.2.2)) : wpX_tellWatchers post (fl, nI N, nI cap, nI Q, nI CS, nI cc, nI now, nI tc, op, oa, ob, oc, st, gn, lr, rg, pc, tr, wt, dl, s.2.1, s.2.2.1, s.2.2.2.1, s.2.2.2.2.1, s.2.2.2.2.2.1, lm, s.1, par, ce, ct, ca, sg, mx, wd, cn, cl, rc, rk, tp, tv, s.2.2.2.2.2.2) (nI d) r := by
  unfold wpX_tellWatchers
  refine xv_pid hd ?_
  exact ⟨N + 1, xe_watch_l hN hd hc h12 hs h N 0 (N + 1) (by omega) (by omega)⟩
theorem am_tlN {st tr : Nat → Int32} {L : Nat → Bool} {p r : Int32} {m : ML} (hN : N ≤ 8) (h0 : ∀ t, t < 8 → N ≤ t → ¬ st t = 1) : am_it (am_tl cap st tr L p r) 8 m = am_it (am_tl cap st tr L p r) N m :=
  am_it_le hN fun i h1 h2 s => if_neg fun z => h0 i h2 h1 z.1
theorem am_twN {st : Nat → Int32} {p r : Int32} {d : Nat} {s : (Nat → Int32) × ML} (hN : N ≤ 8) (h0 : ∀ t, t < 8 → N ≤ t → ¬ st t = 1) : am_it (am_tw cap st p r d) 8 s = am_it (am_tw cap st p r d) N s :=
  am_it_le hN fun i h1 h2 s => if_neg fun z => h0 i h2 h1 z
theorem xe_23 {L : Nat → Nat → Bool} {D r : Int32} {s : (Nat → Int32) × ML} (hN : N ≤ 8) (hc : 1 ≤ cap) (h12 : cap ≤ 12) (hs : am_ok2 cap s) (h0 : ∀ t, t < 8 → N ≤ t → ¬ st t = 1) : ∀ dd d (lm : Nat → Int32), d + dd = N → (∀ t, t < 8 → st t = 1 → ∀ j, j < 8 → d ≤ j → bt (lm t) j = L t j) → ∃ lm' : Nat → Int32, (∀ t, t < 8 → st t = 1 → ∀ j, bt (lm' t) j = (bt (lm t) j && !(decide (d ≤ j ∧ j < N) && bt D j))) ∧ (∀ t, ¬ st t = 1 → lm' t = lm t) ∧ ∀ (post : SX → Prop) n, dd < n → (∃ n65, wX_endSet_65 post D n65 0 fl (nI N) (nI cap) (nI Q) (nI CS) (nI cc) (nI now) (nI tc) op oa ob oc st gn lr rg pc tr wt dl (((am_it (am_td cap st tr gn L D r) N s).2).1) (((am_it (am_td cap st tr gn L D r) N s).2).2.1) (((am_it (am_td cap st tr gn L D r) N s).2).2.2.1) (((am_it (am_td cap st tr gn L D r) N s).2).2.2.2.1) (((am_it (am_td cap st tr gn L D r) N s).2).2.2.2.2.1) lm' ((am_it (am_td cap st tr gn L D r) N s).1) par ce ct ca sg mx wd cn cl rc rk tp tv (((am_it (am_td cap st tr gn L D r) N s).2).2.2.2.2.2)) → wX_endSet_23 post r D n (nI d) fl (nI N) (nI cap) (nI Q) (nI CS) (nI cc) (nI now) (nI tc) op oa ob oc st gn lr rg pc tr wt dl (((am_it (am_td cap st tr gn L D r) d s).2).1) (((am_it (am_td cap st tr gn L D r) d s).2).2.1) (((am_it (am_td cap st tr gn L D r) d s).2).2.2.1) (((am_it (am_td cap st tr gn L D r) d s).2).2.2.2.1) (((am_it (am_td cap st tr gn L D r) d s).2).2.2.2.2.1) lm ((am_it (am_td cap st tr gn L D r) d s).1) par ce ct ca sg mx wd cn cl rc rk tp tv (((am_it (am_td cap st tr gn L D r) d s).2).2.2.2.2.2) := by
  intro dd
  induction dd with
  | zero =>
    intro i lm hi hl
    obtain rfl : i = N := hi
    refine ⟨lm, fun t _ _ j => ?_, fun _ _ => rfl, fun post n hn hx => ?_⟩
    · rw [decide_eq_false (by omega), Bool.false_and]
      exact (Bool.and_true _).symm
    · obtain ⟨n', rfl⟩ : ∃ m, n = m + 1 := ⟨n - 1, by omega⟩
      exact br_t (Int32.le_refl _) hx
  | succ dd ih =>
    intro d lm hi hl
    have ok := am_ok2_tds (st := st) (tr := tr) (gn := gn) (L := L) (D := D) (r := r) hc h12 hs d (by omega)
    cases c : bt D d
    · obtain ⟨lm', q1, q2, q3⟩ := ih (d + 1) lm (by omega) (fun t a b j c e => hl t a b j c (by omega))
      refine ⟨lm', fun t a b j => ?_, q2, fun post n hn hx => ?_⟩
      · rw [q1 t a b j]
        by_cases e : j = d
        · rw [e, c, Bool.and_false, Bool.and_false]
        · rw [show decide (d + 1 ≤ j ∧ j < N) = decide (d ≤ j ∧ j < N) from decide_eq_decide.mpr ⟨fun z => ⟨by omega, z.2⟩, fun z => ⟨by omega, z.2⟩⟩]
      · obtain ⟨n', rfl⟩ : ∃ m, n = m + 1 := ⟨n - 1, by omega⟩
        refine br_f (nI_ge (by omega) (by omega)) (xv_has (by omega) ?_)
        rw [c]
        refine br_t rfl (nm_r (nI_1 d) ?_)
        have z := q3 post n' (by omega) hx
        rw [am_its, show am_td cap st tr gn L D r d (am_it (am_td cap st tr gn L D r) d s) = am_it (am_td cap st tr gn L D r) d s from if_neg (by rw [c]; decide)] at z
        exact z
    · obtain ⟨lm', q1, q2, q3⟩ := ih (d + 1) (am_lc st lm d N) (by omega) (fun t a b j c1 e => by
        show bt (if t < N ∧ st t = 1 then lm t &&& (am_one d ^^^ (-1)) else lm t) j = L t j
        have ht : t < N := by
          refine Classical.byContradiction fun no => ?_
          exact h0 t a (by omega) b
        rw [if_pos ⟨ht, b⟩, am_andn (by omega), hl t a b j c1 (by omega), decide_eq_false (by omega)]
        exact Bool.and_true _)
      refine ⟨lm', fun t a b j => ?_, fun t q => ?_, fun post n hn hx => ?_⟩
      · have ht : t < N := by
          refine Classical.byContradiction fun no => ?_
          exact h0 t a (by omega) b
        rw [q1 t a b j]
        show (bt (if t < N ∧ st t = 1 then lm t &&& (am_one d ^^^ (-1)) else lm t) j && _) = _
        rw [if_pos ⟨ht, b⟩, am_andn (by omega)]
        by_cases e : j = d
        · rw [decide_eq_true e, decide_eq_true (p := d ≤ j ∧ j < N) (by omega), e, c]
          simp
        · rw [decide_eq_false e, show decide (d + 1 ≤ j ∧ j < N) = decide (d ≤ j ∧ j < N) from decide_eq_decide.mpr ⟨fun z => ⟨by omega, z.2⟩, fun z => ⟨by omega, z.2⟩⟩]
          simp
      · rw [q2 t q]
        exact if_neg fun z => q z.2
      · obtain ⟨n', rfl⟩ : ∃ m, n = m + 1 := ⟨n - 1, by omega⟩
        have z := q3 post n' (by omega) hx
        rw [am_its, show am_td cap st tr gn L D r d (am_it (am_td cap st tr gn L D r) d s) = am_te cap st tr (fun t => L t d) (gn d * 8 + nI d) r d (am_it (am_td cap st tr gn L D r) d s) from if_pos c] at z
        unfold am_te at z
        rw [am_twN hN h0, am_tlN hN h0] at z
        refine br_f (nI_ge (by omega) (by omega)) (xv_has (by omega) ?_)
        rw [c]
        refine br_f (by decide) (xe_linked (L := fun t => L t d) hN (by omega) hc h12 ok.2 (fun t a b => hl t a b d (by omega) (by omega)) ?_)
        refine xe_watch (s := ((am_it (am_td cap st tr gn L D r) d s).1, am_it (am_tl cap st tr (fun t => L t d) (gn d * 8 + nI d) r) N (am_it (am_td cap st tr gn L D r) d s).2)) hN (by omega) hc h12 ⟨ok.1, am_mok_tls hc h12 ok.2 N hN⟩ ?_
        exact nm_r (nI_1 d) z
/-! what is forgotten -/
theorem xe_forget_l {post : SX → Prop} {d : Nat} {D : Int32} {s : (Nat → Int32) × (Nat → Int64)} (hd : d < 8) (hD : bt D d = true) (h : post (fl, nI N, nI cap, nI Q, nI CS, nI cc, nI now, nI tc, op, oa, ob, oc, st, gn, lr, rg, pc, tr, wt, dl, mc, mk, mf, mv, ms, lm, (am_it (am_fg D) (d * 8 + 8) s).1, par, ce, ct, ca, sg, mx, wd, cn, cl, rc, rk, tp, tv, (am_it (am_fg D) (d * 8 + 8) s).2)) : ∀ dd q n, q + dd = 8 → dd < n → wX_forgetRelations_9 post (nI d) fl (nI N) (nI cap) (nI Q) (nI CS) (nI cc) (nI now) (nI tc) n (nI q) op oa ob oc st gn lr rg pc tr wt dl mc mk mf mv ms lm ((am_it (am_fg D) (d * 8 + q) s).1) par ce ct ca sg mx wd cn cl rc rk tp tv ((am_it (am_fg D) (d * 8 + q) s).2) := by
  intro dd
  induction dd with
  | zero =>
    intro q n hq hn
    obtain ⟨n', rfl⟩ : ∃ m, n = m + 1 := ⟨n - 1, by omega⟩
    obtain rfl : q = 8 := hq
    exact br_t (by decide) h
  | succ dd ih =>
    intro q n hq hn
    obtain ⟨n', rfl⟩ : ∃ m, n = m + 1 := ⟨n - 1, by omega⟩
    have i3 : vp_in (nI d * 8 + nI q) 64 := pk_in (d * 8 + q) 64 (by omega) (am_8 d q)
    have e3 : (nI d * 8 + nI q).toNatClampNeg = d * 8 + q := by rw [am_8, nI_clamp (by omega)]
    have z := ih (q + 1) n' (by omega) (by omega)
    rw [show d * 8 + (q + 1) = d * 8 + q + 1 by omega, am_its] at z
    unfold am_fg at z
    rw [if_pos (by rw [show (d * 8 + q) / 8 = d by omega]; exact hD)] at z
    refine br_f (nI_ge (b := 8) (by omega) (by omega)) ⟨i3, ?_⟩
    rw [e3]
    exact nm_e ⟨i3, nm_e (nm_r (nI_1 q) z)⟩
theorem xe_forget {post : SX → Prop} {d : Nat} {D : Int32} {s : (Nat → Int32) × (Nat → Int64)} (hd : d < 8) (hD : bt D d = true) (h : post (fl, nI N, nI cap, nI Q, nI CS, nI cc, nI now, nI tc, op, oa, ob, oc, st, gn, lr, rg, pc, tr, wt, dl, mc, mk, mf, mv, ms, upd lm d 0, (am_it (am_fg D) (d * 8 + 8) s).1, par, ce, ct, ca, sg, mx, wd, cn, cl, rc, rk, tp, tv, (am_it (am_fg D) (d * 8 + 8) s).2)) : wpX_forgetRelations post (fl, nI N, nI cap, nI Q, nI CS, nI cc, nI now, nI tc, op, oa, ob, oc, st, gn, lr, rg, pc, tr, wt, dl, mc, mk, mf, mv, ms, lm, (am_it (am_fg D) (d * 8) s).1, par, ce, ct, ca, sg, mx, wd, cn, cl, rc, rk, tp, tv, (am_it (am_fg D) (d * 8) s).2) (nI d) := by
  refine ⟨vp_in_nI hd (by omega), nm_r (e' := upd lm d 0) (by rw [nI_clamp (by omega)]) ⟨9, ?_⟩⟩
  exact xe_forget_l hd hD h 8 0 9 (by omega) (by omega)
theorem xe_free {post : SX → Prop} {d : Nat} (hd : d < 8) (h : post (fl, nI N, nI cap, nI Q, nI CS, nI cc, nI now, nI tc, op, oa, ob, oc, upd st d 0, gn, lr, rg, pc, tr, wt, dl, mc, mk, mf, mv, ms, lm, mon, upd par d (-1), ce, ct, ca, sg, mx, wd, cn, cl, rc, rk, tp, tv, cnt)) : wpX_freeSlot post (fl, nI N, nI cap, nI Q, nI CS, nI cc, nI now, nI tc, op, oa, ob, oc, st, gn, lr, rg, pc, tr, wt, dl, mc, mk, mf, mv, ms, lm, mon, par, ce, ct, ca, sg, mx, wd, cn, cl, rc, rk, tp, tv, cnt) (nI d) := by
  have i1 : vp_in (nI d) 8 := vp_in_nI hd (by omega)
  refine ⟨i1, nm_r (by rw [nI_clamp (by omega)]) ⟨i1, nm_r (by rw [nI_clamp (by omega)]) h⟩⟩
def am_lz (D : Int32) (lm : Nat → Int32) (d : Nat) : Nat → Int32 := fun t => if t < d ∧ bt D t = true then 0 else lm t
theorem am_lz0 (D : Int32) (lm : Nat → Int32) : am_lz D lm 0 = lm := funext fun t => if_neg (by omega)
theorem am_lzn {D : Int32} {lm : Nat → Int32} {d : Nat} (h : ¬ bt D d = true) : am_lz D lm (d + 1) = am_lz D lm d := by
  funext t
  unfold am_lz
  by_cases c : t < d ∧ bt D t = true
  · rw [if_pos c, if_pos ⟨by omega, c.2⟩]
  · rw [if_neg c, if_neg fun z => c ⟨by
      have : t ≠ d := fun e => h (e ▸ z.2)
      omega, z.2⟩]
theorem am_lzs {D : Int32} {lm : Nat → Int32} {d : Nat} (h : bt D d = true) : upd (am_lz D lm d) d 0 = am_lz D lm (d + 1) := by
  funext t
  unfold am_lz upd
  dsimp only
  by_cases e : t = d
  · subst e; rw [if_pos rfl, if_pos ⟨by omega, h⟩]
  · rw [if_neg e]
    by_cases c : t < d ∧ bt D t = true
    · rw [if_pos c, if_pos ⟨by omega, c.2⟩]
    · rw [if_neg c, if_neg fun z => c ⟨by omega, z.2⟩]
theorem xe_65 {post : SX → Prop} {D : Int32} {s : (Nat → Int32) × (Nat → Int64)} (hN : N ≤ 8) (hp : ∀ j, j < 8 → par j < 0 → par j = -1) (h : post (fl, nI N, nI cap, nI Q, nI CS, nI cc, nI now, nI tc, op, oa, ob, oc, am_it (am_ff D par) N st, gn, lr, rg, pc, tr, wt, dl, mc, mk, mf, mv, ms, am_lz D lm N, (am_it (am_fg D) (N * 8) s).1, par, ce, ct, ca, sg, mx, wd, cn, cl, rc, rk, tp, tv, (am_it (am_fg D) (N * 8) s).2)) : ∀ dd d n, d + dd = N → dd < n → wX_endSet_65 post D n (nI d) fl (nI N) (nI cap) (nI Q) (nI CS) (nI cc) (nI now) (nI tc) op oa ob oc (am_it (am_ff D par) d st) gn lr rg pc tr wt dl mc mk mf mv ms (am_lz D lm d) ((am_it (am_fg D) (d * 8) s).1) par ce ct ca sg mx wd cn cl rc rk tp tv ((am_it (am_fg D) (d * 8) s).2) := by
  intro dd
  induction dd with
  | zero =>
    intro d n hd hn
    obtain ⟨n', rfl⟩ : ∃ m, n = m + 1 := ⟨n - 1, by omega⟩
    obtain rfl : d = N := hd
    exact br_t (Int32.le_refl _) h
  | succ dd ih =>
    intro d n hd hn
    obtain ⟨n', rfl⟩ : ∃ m, n = m + 1 := ⟨n - 1, by omega⟩
    have z := ih (d + 1) n' (by omega) (by omega)
    rw [am_its, show (d + 1) * 8 = d * 8 + 8 by omega] at z
    refine br_f (nI_ge (by omega) (by omega)) (xv_has (by omega) (am_br (fun c => ?_) (fun c => ?_)))
    · have c' : ¬ bt D d = true := by rw [c]; decide
      have ef : am_ff D par d (am_it (am_ff D par) d st) = am_it (am_ff D par) d st := if_neg fun y => c' y.1
      have eg : am_it (am_fg D) (d * 8 + 8) s = am_it (am_fg D) (d * 8) s := am_it_skip 8 fun i h1 h2 q => by
        have e8 : i / 8 = d := by omega
        unfold am_fg
        rw [e8, if_neg c']
      rw [ef, eg, am_lzn c'] at z
      exact nm_r (nI_1 d) z
    · refine xe_forget (by omega) c ⟨vp_in_nI (by omega) (by omega), ?_⟩
      rw [nI_clamp (by omega), am_lzs c]
      by_cases q : par d < 0
      · have ef : am_ff D par d (am_it (am_ff D par) d st) = upd (am_it (am_ff D par) d st) d 0 := if_pos ⟨c, q⟩
        rw [ef] at z
        refine br_f (Int32.not_le.mpr q) (xe_free (by omega) ?_)
        rw [am_ui (hp d (by omega) q)]
        exact nm_r (nI_1 d) z
      · have ef : am_ff D par d (am_it (am_ff D par) d st) = am_it (am_ff D par) d st := if_neg fun y => q y.2
        rw [ef] at z
        exact br_t (Int32.not_lt.mp q) (nm_r (nI_1 d) z)
theorem xe_bury {D r : Int32} {m : ML} (hN : N ≤ 8) : ∀ dd d (wt : Nat → Int32), d + dd = N → ∃ wt' : Nat → Int32, (∀ j, ¬ bt D j = true → wt' j = wt j) ∧ ∀ (post : SX → Prop) n, dd < n → post (fl, nI N, nI cap, nI Q, nI CS, nI cc, nI now, nI tc, op, oa, ob, oc, (am_it (am_bu D r) N (st, lr, m.1, m.2.2.2.2.2)).1, gn, (am_it (am_bu D r) N (st, lr, m.1, m.2.2.2.2.2)).2.1, rg, pc, tr, wt', dl, (am_it (am_bu D r) N (st, lr, m.1, m.2.2.2.2.2)).2.2.1, m.2.1, m.2.2.1, m.2.2.2.1, m.2.2.2.2.1, lm, mon, par, ce, ct, ca, sg, mx, wd, cn, cl, rc, rk, tp, tv, (am_it (am_bu D r) N (st, lr, m.1, m.2.2.2.2.2)).2.2.2) → wX_bury_2 post D r fl (nI N) (nI cap) (nI Q) (nI CS) (nI cc) (nI now) (nI tc) n (nI d) op oa ob oc ((am_it (am_bu D r) d (st, lr, m.1, m.2.2.2.2.2)).1) gn ((am_it (am_bu D r) d (st, lr, m.1, m.2.2.2.2.2)).2.1) rg pc tr wt dl ((am_it (am_bu D r) d (st, lr, m.1, m.2.2.2.2.2)).2.2.1) m.2.1 m.2.2.1 m.2.2.2.1 m.2.2.2.2.1 lm mon par ce ct ca sg mx wd cn cl rc rk tp tv ((am_it (am_bu D r) d (st, lr, m.1, m.2.2.2.2.2)).2.2.2) := by
  intro dd
  induction dd with
  | zero =>
    intro d wt hd
    obtain rfl : d = N := hd
    refine ⟨wt, fun _ _ => rfl, fun post n hn h => ?_⟩
    obtain ⟨n', rfl⟩ : ∃ m, n = m + 1 := ⟨n - 1, by omega⟩
    exact br_t (Int32.le_refl _) h
  | succ dd ih =>
    intro d wt hd
    cases c : bt D d
    · obtain ⟨wt', q1, q2⟩ := ih (d + 1) wt (by omega)
      refine ⟨wt', q1, fun post n hn h => ?_⟩
      obtain ⟨n', rfl⟩ : ∃ m, n = m + 1 := ⟨n - 1, by omega⟩
      have z := q2 post n' (by omega) h
      rw [am_its, show am_bu D r d (am_it (am_bu D r) d (st, lr, m.1, m.2.2.2.2.2)) = am_it (am_bu D r) d (st, lr, m.1, m.2.2.2.2.2) from if_neg (by rw [c]; decide)] at z
      refine br_f (nI_ge (by omega) (by omega)) (xv_has (by omega) ?_)
      rw [c]
      exact br_t rfl (nm_r (nI_1 d) z)
    · obtain ⟨wt', q1, q2⟩ := ih (d + 1) (upd wt d 0) (by omega)
      refine ⟨wt', fun j q => ?_, fun post n hn h => ?_⟩
      · rw [q1 j q, pk_un (j := j) (k := d) fun e => q (by rw [e]; exact c)]
      · obtain ⟨n', rfl⟩ : ∃ m, n = m + 1 := ⟨n - 1, by omega⟩
        have i1 : vp_in (nI d) 8 := vp_in_nI (by omega) (by omega)
        have e1 : (nI d).toNatClampNeg = d := nI_clamp (by omega)
        have z := q2 post n' (by omega) h
        rw [am_its] at z
        revert z
        generalize am_it (am_bu D r) d (st, lr, m.1, m.2.2.2.2.2) = q
        intro z
        unfold am_bu at z
        rw [if_pos c] at z
        refine br_f (nI_ge (by omega) (by omega)) (xv_has (by omega) ?_)
        rw [c, e1, am_vb0]
        exact br_f (by decide) ⟨i1, nm_e ⟨i1, nm_e (nm_e ⟨i1, nm_e ⟨i1, nm_e ⟨i1, nm_e (nm_r (nI_1 d) z)⟩⟩⟩)⟩⟩
end XE
end
section
/-! 12: the end of a set, the reference's side (one pass, steps 2 to 5) -/
def am_kz (D : Int32) (lk : Nat → Int32) (n : Nat) : Nat → Int32 := fun i => if i < n ∧ (bt D (i / 8) = true ∨ bt D (i % 8) = true) then 0 else lk i
theorem am_kz0 (D : Int32) (lk : Nat → Int32) : am_kz D lk 0 = lk := funext fun t => if_neg (by omega)
theorem am_kzn {D : Int32} {lk : Nat → Int32} {d : Nat} (h : ¬ (bt D (d / 8) = true ∨ bt D (d % 8) = true)) : am_kz D lk (d + 1) = am_kz D lk d := by
  funext t
  unfold am_kz
  by_cases c : t < d ∧ (bt D (t / 8) = true ∨ bt D (t % 8) = true)
  · rw [if_pos c, if_pos ⟨by omega, c.2⟩]
  · rw [if_neg c, if_neg fun z => c ⟨by
      have : t ≠ d := fun e => h (e ▸ z.2)
      omega, z.2⟩]
theorem am_kzs {D : Int32} {lk : Nat → Int32} {d : Nat} (h : bt D (d / 8) = true ∨ bt D (d % 8) = true) : upd (am_kz D lk d) d 0 = am_kz D lk (d + 1) := by
  funext t
  unfold am_kz upd
  dsimp only
  by_cases e : t = d
  · subst e; rw [if_pos rfl, if_pos ⟨by omega, h⟩]
  · rw [if_neg e]
    by_cases c : t < d ∧ (bt D (t / 8) = true ∨ bt D (t % 8) = true)
    · rw [if_pos c, if_pos ⟨by omega, c.2⟩]
    · rw [if_neg c, if_neg fun z => c ⟨by omega, z.2⟩]
theorem am_c38 (c : Nat → Int64) (x : Int64) : vp_updL (vp_updL c 3 (c 3 + x)) 8 (vp_updL c 3 (c 3 + x) 8 + 1) = vp_updL (vp_updL c 8 (c 8 + 1)) 3 (vp_updL c 8 (c 8 + 1) 3 + x) := by
  rw [pk_uLn (f := c) (k := 3) (j := 8) (by omega), pk_uLn (f := c) (k := 8) (j := 3) (by omega), am_uLcomm (by omega)]
section YE
variable {N cap Q CS cc now tc kn : Nat} {fl : Int32} {op oa ob oc st gn lr rg pc tr wt dl mc mk mf mv lm mon par ce ct ca sg mx wd cn cl rc rk tp tv wa dy kd rs lk cel trd : Nat → Int32} {ms cnt : Nat → Int64}
theorem ye_118 {post : SY → Prop} {J8 : _} {D r x5 : Int32} {m : ML} (h2 : ∀ i, i < 8 → st i = 2 → m.1 i = 0) (h : ∃ n218, wY_end_218 post J8 D r x5 (am_sx st D 8) n218 0 (nI N) (nI cap) (nI Q) (nI CS) (nI now) (nI cc) (nI tc) (nI kn) ((am_it (am_bu D r) 8 (st, lr, m.1, m.2.2.2.2.2)).1) gn ((am_it (am_bu D r) 8 (st, lr, m.1, m.2.2.2.2.2)).2.1) pc wa dy tr par ce ct ca kd sg mx wd rs rg mon lk ((am_it (am_bu D r) 8 (st, lr, m.1, m.2.2.2.2.2)).2.2.1) m.2.1 m.2.2.1 m.2.2.2.1 m.2.2.2.2.1 cel trd ((am_it (am_bu D r) 8 (st, lr, m.1, m.2.2.2.2.2)).2.2.2)) : ∀ dd d n, d + dd = 8 → dd < n → wY_end_118 post J8 D r x5 (nI N) (nI cap) (nI Q) (nI CS) (nI now) (nI cc) (nI tc) (nI kn) n (am_sx st D d) (nI d) ((am_it (am_bu D r) d (st, lr, m.1, m.2.2.2.2.2)).1) gn ((am_it (am_bu D r) d (st, lr, m.1, m.2.2.2.2.2)).2.1) pc wa dy tr par ce ct ca kd sg mx wd rs rg mon lk ((am_it (am_bu D r) d (st, lr, m.1, m.2.2.2.2.2)).2.2.1) m.2.1 m.2.2.1 m.2.2.2.1 m.2.2.2.2.1 cel trd ((am_it (am_bu D r) d (st, lr, m.1, m.2.2.2.2.2)).2.2.2) := by
  intro dd
  induction dd with
  | zero =>
    intro d n hd hn
    obtain ⟨n', rfl⟩ : ∃ m, n = m + 1 := ⟨n - 1, by omega⟩
    obtain rfl : d = 8 := hd
    exact br_t (by decide) h
  | succ dd ih =>
    intro d n hd hn
    obtain ⟨n', rfl⟩ : ∃ m, n = m + 1 := ⟨n - 1, by omega⟩
    have i1 : vp_in (nI d) 8 := vp_in_nI (by omega) (by omega)
    have e1 : (nI d).toNatClampNeg = d := nI_clamp (by omega)
    have z := ih (d + 1) n' (by omega) (by omega)
    have f := am_bu_f (D := D) (r := r) (s := (st, lr, m.1, m.2.2.2.2.2)) d (by omega)
    have f1 := f.1 d
    have f2 := f.2 d
    rw [if_neg (by omega)] at f1 f2
    rw [am_its] at z
    revert z f1 f2
    generalize am_it (am_bu D r) d (st, lr, m.1, m.2.2.2.2.2) = q
    intro z f1 f2
    unfold am_bu am_sx at z
    refine br_f (nI_ge (b := 8) (by omega) (by omega)) (yv_has (by omega) (am_br (fun c => ?_) (fun c => ⟨i1, ?_⟩)))
    · have c' : ¬ bt D d = true := by rw [c]; decide
      rw [if_neg c', if_neg fun y => c' y.1] at z
      exact nm_r (nI_1 d) z
    · rw [if_pos c] at z
      dsimp only at f1 f2 z
      rw [e1, f1]
      by_cases c2 : st d = 2
      · rw [if_pos ⟨c, c2⟩, f2, h2 d (by omega) c2] at z
        refine br_t c2 ?_
        unfold wY_end_173
        rw [e1]
        refine ⟨i1, nm_e ⟨i1, nm_e ⟨i1, nm_e (nm_r ?_ (nm_r (nI_1 d) z))⟩⟩⟩
        rw [pk_uLn (f := q.2.2.2) (k := 8) (j := 3) (by omega), show (0 : Int32).toInt64 = 0 from by decide, Int64.add_zero]
        exact (am_uLi (f := vp_updL q.2.2.2 8 (q.2.2.2 8 + 1)) (k := 3) (pk_uLn (k := 8) (j := 3) (by omega))).symm
      · rw [if_neg fun y => c2 y.2] at z
        refine br_f c2 ⟨i1, nm_e ?_⟩
        unfold wY_end_173
        rw [e1]
        exact ⟨i1, nm_e ⟨i1, nm_e ⟨i1, nm_e (nm_r (am_c38 _ _) (nm_r (nI_1 d) z))⟩⟩⟩
/-! tell -/
theorem ye_123 {post : SY → Prop} {d i n : Nat} {p r : Int32} (hi : i < 24) (h : wY_tell_123 post (wY_tell_99 post (nI d) r p n) (nI d) r p (nI i) (nI (i / 3)) (nI N) (nI cap) (nI Q) (nI CS) (nI now) (nI cc) (nI tc) (nI kn) st gn lr pc wa dy tr par ce ct ca kd sg mx wd rs rg mon lk mc mk mf mv ms cel trd cnt) : wY_tell_99 post (nI d) r p (n + 1) (nI i) (nI N) (nI cap) (nI Q) (nI CS) (nI now) (nI cc) (nI tc) (nI kn) st gn lr pc wa dy tr par ce ct ca kd sg mx wd rs rg mon lk mc mk mf mv ms cel trd cnt := by
  have e : nI i >>> ((2 : Int32) &&& 31) = nI (i / 4) := pk_shrN (by omega) _ 2 (by decide)
  refine br_f (nI_ge (b := 24) (by omega) (by omega)) ?_
  rw [e]
  by_cases c : i = 0
  · subst c
    exact br_t rfl h
  · refine br_f (fun z => c (by have := am_im z (by omega) (by omega); omega)) ⟨by decide, ?_⟩
    rw [show nI i / 3 = nI (i / 3) from pk_div (d := 3) (by omega) (by omega) (by omega)]
    exact h
theorem ye_s1 {post : SY → Prop} {d w i n k : Nat} {p r : Int32} {m : ML} (hd : d < 8) (hw : w < 8) (h12 : cap ≤ 12) (hm : am_mok cap m) (hi : i < 24) (ei : i / 3 = w) (c : st w = 1) (hk : mon (w * 8 + d) = nI (k + 1)) (hk3 : k ≤ 3) (h : wY_tell_99 post (nI d) r p n (nI (i + 1)) (nI N) (nI cap) (nI Q) (nI CS) (nI now) (nI cc) (nI tc) (nI kn) st gn lr pc wa dy tr par ce ct ca kd sg mx wd rs rg (upd mon (w * 8 + d) (nI k)) lk ((am_pw cap p r w m).1) ((am_pw cap p r w m).2.1) ((am_pw cap p r w m).2.2.1) ((am_pw cap p r w m).2.2.2.1) ((am_pw cap p r w m).2.2.2.2.1) cel trd ((am_pw cap p r w m).2.2.2.2.2)) : wY_tell_99 post (nI d) r p (n + 1) (nI i) (nI N) (nI cap) (nI Q) (nI CS) (nI now) (nI cc) (nI tc) (nI kn) st gn lr pc wa dy tr par ce ct ca kd sg mx wd rs rg mon lk m.1 m.2.1 m.2.2.1 m.2.2.2.1 m.2.2.2.2.1 cel trd m.2.2.2.2.2 := by
  have e1 : (nI w).toNatClampNeg = w := nI_clamp (by omega)
  have e3 : (nI w * 8 + nI d).toNatClampNeg = w * 8 + d := by rw [am_8, nI_clamp (by omega)]
  have i3 : vp_in (nI w * 8 + nI d) 64 := pk_in (w * 8 + d) 64 (by omega) (am_8 w d)
  obtain ⟨a, ha, ea⟩ := hm w hw
  refine ye_123 hi ?_
  rw [ei]
  refine ⟨vp_in_nI hw (by omega), br_t (by rw [e1]; exact c) ⟨i3, br_t (by rw [e3, hk]; exact nI_le (a := 1) (by omega) (by omega)) ⟨i3, i3, nm_r (e' := upd mon (w * 8 + d) (nI k)) (by rw [e3, hk, nI_pred]) (nm_e ?_)⟩⟩⟩
  exact yp_place (m := am_ct 5 m) hw ea ha h12 (nm_r (nI_1 i) h)
theorem ye_s0 {post : SY → Prop} {d w i n : Nat} {p r : Int32} (hd : d < 8) (hw : w < 8) (hi : i < 24) (ei : i / 3 = w) (hk : st w = 1 → mon (w * 8 + d) = nI 0) (h : wY_tell_99 post (nI d) r p n (nI (i + 1)) (nI N) (nI cap) (nI Q) (nI CS) (nI now) (nI cc) (nI tc) (nI kn) st gn lr pc wa dy tr par ce ct ca kd sg mx wd rs rg mon lk mc mk mf mv ms cel trd cnt) : wY_tell_99 post (nI d) r p (n + 1) (nI i) (nI N) (nI cap) (nI Q) (nI CS) (nI now) (nI cc) (nI tc) (nI kn) st gn lr pc wa dy tr par ce ct ca kd sg mx wd rs rg mon lk mc mk mf mv ms cel trd cnt := by
  have e1 : (nI w).toNatClampNeg = w := nI_clamp (by omega)
  have e3 : (nI w * 8 + nI d).toNatClampNeg = w * 8 + d := by rw [am_8, nI_clamp (by omega)]
  have i3 : vp_in (nI w * 8 + nI d) 64 := pk_in (w * 8 + d) 64 (by omega) (am_8 w d)
  refine ye_123 hi ?_
  rw [ei]
  refine ⟨vp_in_nI hw (by omega), ?_⟩
  by_cases c : st w = 1
  · exact br_t (by rw [e1]; exact c) ⟨i3, br_f (by rw [e3, hk c]; decide) (nm_r (nI_1 i) h)⟩
  · exact br_f (by rw [e1]; exact c) (nm_r (nI_1 i) h)
theorem ye_w3 {post : SY → Prop} {d w n : Nat} {p r : Int32} {s : (Nat → Int32) × ML} (hd : d < 8) (hw : w < 8) (hc : 1 ≤ cap) (h12 : cap ≤ 12) (hs : am_ok2 cap s) (h : wY_tell_99 post (nI d) r p n (nI (w * 3 + 3)) (nI N) (nI cap) (nI Q) (nI CS) (nI now) (nI cc) (nI tc) (nI kn) st gn lr pc wa dy tr par ce ct ca kd sg mx wd rs rg ((am_tw cap st p r d w s).1) lk (((am_tw cap st p r d w s).2).1) (((am_tw cap st p r d w s).2).2.1) (((am_tw cap st p r d w s).2).2.2.1) (((am_tw cap st p r d w s).2).2.2.2.1) (((am_tw cap st p r d w s).2).2.2.2.2.1) cel trd (((am_tw cap st p r d w s).2).2.2.2.2.2)) : wY_tell_99 post (nI d) r p (n + 3) (nI (w * 3)) (nI N) (nI cap) (nI Q) (nI CS) (nI now) (nI cc) (nI tc) (nI kn) st gn lr pc wa dy tr par ce ct ca kd sg mx wd rs rg s.1 lk s.2.1 s.2.2.1 s.2.2.2.1 s.2.2.2.2.1 s.2.2.2.2.2.1 cel trd s.2.2.2.2.2.2 := by
  unfold am_tw at h
  by_cases c : st w = 1
  · obtain ⟨k, hk, ek⟩ := hs.1 (w * 8 + d) (by omega)
    rw [if_pos c, ek, nI_clamp (by omega)] at h
    have o1 := am_mok_pw (p := p) (r := r) hc h12 hw hs.2
    rcases (by omega : k = 0 ∨ k = 1 ∨ k = 2 ∨ k = 3) with rfl | rfl | rfl | rfl
    · have eu : upd s.1 (w * 8 + d) 0 = s.1 := am_ui ek
      rw [eu] at h
      exact ye_s0 hd hw (by omega) (by omega) (fun _ => ek) (ye_s0 hd hw (by omega) (by omega) (fun _ => ek) (ye_s0 hd hw (by omega) (by omega) (fun _ => ek) h))
    · refine ye_s1 hd hw h12 hs.2 (by omega) (by omega) c ek (by omega) ?_
      exact ye_s0 hd hw (by omega) (by omega) (fun _ => pk_us) (ye_s0 hd hw (by omega) (by omega) (fun _ => pk_us) h)
    · refine ye_s1 hd hw h12 hs.2 (by omega) (by omega) c ek (by omega) ?_
      refine ye_s1 hd hw h12 (o1 1) (by omega) (by omega) c pk_us (by omega) ?_
      rw [am_uu]
      exact ye_s0 hd hw (by omega) (by omega) (fun _ => pk_us) h
    · refine ye_s1 hd hw h12 hs.2 (by omega) (by omega) c ek (by omega) ?_
      refine ye_s1 hd hw h12 (o1 1) (by omega) (by omega) c pk_us (by omega) ?_
      rw [am_uu]
      refine ye_s1 hd hw h12 (o1 2) (by omega) (by omega) c pk_us (by omega) ?_
      rw [am_uu]
      exact h
  · rw [if_neg c] at h
    exact ye_s0 hd hw (by omega) (by omega) (fun z => absurd z c) (ye_s0 hd hw (by omega) (by omega) (fun z => absurd z c) (ye_s0 hd hw (by omega) (by omega) (fun z => absurd z c) h))
theorem ye_99 {post : SY → Prop} {d : Nat} {p r : Int32} {s : (Nat → Int32) × ML} (hd : d < 8) (hc : 1 ≤ cap) (h12 : cap ≤ 12) (hs : am_ok2 cap s) (h : post (nI N, nI cap, nI Q, nI CS, nI now, nI cc, nI tc, nI kn, st, gn, lr, pc, wa, dy, tr, par, ce, ct, ca, kd, sg, mx, wd, rs, rg, (am_it (am_tw cap st p r d) 8 s).1, lk, ((am_it (am_tw cap st p r d) 8 s).2).1, ((am_it (am_tw cap st p r d) 8 s).2).2.1, ((am_it (am_tw cap st p r d) 8 s).2).2.2.1, ((am_it (am_tw cap st p r d) 8 s).2).2.2.2.1, ((am_it (am_tw cap st p r d) 8 s).2).2.2.2.2.1, cel, trd, ((am_it (am_tw cap st p r d) 8 s).2).2.2.2.2.2)) : ∀ dd w n, w + dd = 8 → n = dd * 3 + 1 → wY_tell_99 post (nI d) r p n (nI (w * 3)) (nI N) (nI cap) (nI Q) (nI CS) (nI now) (nI cc) (nI tc) (nI kn) st gn lr pc wa dy tr par ce ct ca kd sg mx wd rs rg ((am_it (am_tw cap st p r d) w s).1) lk (((am_it (am_tw cap st p r d) w s).2).1) (((am_it (am_tw cap st p r d) w s).2).2.1) (((am_it (am_tw cap st p r d) w s).2).2.2.1) (((am_it (am_tw cap st p r d) w s).2).2.2.2.1) (((am_it (am_tw cap st p r d) w s).2).2.2.2.2.1) cel trd (((am_it (am_tw cap st p r d) w s).2).2.2.2.2.2) := by
  intro dd
  induction dd with
  | zero =>
    intro w n hw hn
    obtain rfl : w = 8 := hw
    subst hn
    exact br_t (by decide) h
  | succ dd ih =>
    intro w n hw hn
    subst hn
    have z := ih (w + 1) (dd * 3 + 1) (by omega) rfl
    rw [am_its, show (w + 1) * 3 = w * 3 + 3 by omega] at z
    rw [show (dd + 1) * 3 + 1 = dd * 3 + 1 + 3 by omega]
    exact ye_w3 hd (by omega) hc h12 (am_ok2_tws hc h12 hs w (by omega)) z
theorem ye_9 {L : Nat → Bool} {d : Nat} {p r : Int32} {m : ML} (hd : d < 8) (hc : 1 ≤ cap) (h12 : cap ≤ 12) (hm : am_mok cap m) : ∀ dd t (lk : Nat → Int32), t + dd = 8 → (∀ a, t ≤ a → a < 8 → st a = 1 → (lk (a * 8 + d) = 0 ↔ L a = false)) → ∃ lk' : Nat → Int32, (∀ i, lk' i = lk i ∨ lk' i = 0) ∧ (∀ a b, a < 8 → b < 8 → a ≠ d → b ≠ d → lk' (a * 8 + b) = lk (a * 8 + b)) ∧ ∀ (post : SY → Prop) n, dd < n → (∃ n99, wY_tell_99 post (nI d) r p n99 0 (nI N) (nI cap) (nI Q) (nI CS) (nI now) (nI cc) (nI tc) (nI kn) st gn lr pc wa dy tr par ce ct ca kd sg mx wd rs rg mon lk' ((am_it (am_tl cap st tr L p r) 8 m).1) ((am_it (am_tl cap st tr L p r) 8 m).2.1) ((am_it (am_tl cap st tr L p r) 8 m).2.2.1) ((am_it (am_tl cap st tr L p r) 8 m).2.2.2.1) ((am_it (am_tl cap st tr L p r) 8 m).2.2.2.2.1) cel trd ((am_it (am_tl cap st tr L p r) 8 m).2.2.2.2.2)) → wY_tell_9 post (nI d) r p n (nI t) (nI N) (nI cap) (nI Q) (nI CS) (nI now) (nI cc) (nI tc) (nI kn) st gn lr pc wa dy tr par ce ct ca kd sg mx wd rs rg mon lk ((am_it (am_tl cap st tr L p r) t m).1) ((am_it (am_tl cap st tr L p r) t m).2.1) ((am_it (am_tl cap st tr L p r) t m).2.2.1) ((am_it (am_tl cap st tr L p r) t m).2.2.2.1) ((am_it (am_tl cap st tr L p r) t m).2.2.2.2.1) cel trd ((am_it (am_tl cap st tr L p r) t m).2.2.2.2.2) := by
  intro dd
  induction dd with
  | zero =>
    intro t lk ht hL
    obtain rfl : t = 8 := ht
    refine ⟨lk, fun _ => Or.inl rfl, fun _ _ _ _ _ _ => rfl, fun post n hn h => ?_⟩
    obtain ⟨n', rfl⟩ : ∃ m, n = m + 1 := ⟨n - 1, by omega⟩
    exact br_t (by decide) h
  | succ dd ih =>
    intro t lk ht hL
    have i1 : vp_in (nI t) 8 := vp_in_nI (by omega) (by omega)
    have e1 : (nI t).toNatClampNeg = t := nI_clamp (by omega)
    have e3 : (nI t * 8 + nI d).toNatClampNeg = t * 8 + d := by rw [am_8, nI_clamp (by omega)]
    have i3 : vp_in (nI t * 8 + nI d) 64 := pk_in (t * 8 + d) 64 (by omega) (am_8 t d)
    have e4 : (nI d * 8 + nI t).toNatClampNeg = d * 8 + t := by rw [am_8, nI_clamp (by omega)]
    have i4 : vp_in (nI d * 8 + nI t) 64 := pk_in (d * 8 + t) 64 (by omega) (am_8 d t)
    by_cases c1 : st t = 1
    · by_cases c2 : lk (t * 8 + d) = 0
      · obtain ⟨lk', q1, q2, q3⟩ := ih (t + 1) lk (by omega) (fun a q => hL a (by omega))
        refine ⟨lk', q1, q2, fun post n hn h => ?_⟩
        obtain ⟨n', rfl⟩ : ∃ m, n = m + 1 := ⟨n - 1, by omega⟩
        have z := q3 post n' (by omega) h
        rw [am_its, show am_tl cap st tr L p r t (am_it (am_tl cap st tr L p r) t m) = am_it (am_tl cap st tr L p r) t m from if_neg fun y => by rw [(hL t (by omega) (by omega) c1).mp c2] at y; exact absurd y.2.1 (by decide)] at z
        refine br_f (nI_ge (b := 8) (by omega) (by omega)) ⟨i1, ?_⟩
        rw [e1]
        refine br_t c1 ⟨i3, ?_⟩
        rw [e3]
        exact br_t c2 (nm_r (nI_1 t) z)
      · have hl : L t = true := by
          cases q : L t
          · exact absurd ((hL t (by omega) (by omega) c1).mpr q) c2
          · rfl
        obtain ⟨lk', q1, q2, q3⟩ := ih (t + 1) (upd (upd lk (t * 8 + d) 0) (d * 8 + t) 0) (by omega) (fun a q a8 sa => by
          rw [pk_un (by omega), pk_un (by omega)]; exact hL a (by omega) a8 sa)
        refine ⟨lk', fun i => ?_, fun a b ha hb xa xb => ?_, fun post n hn h => ?_⟩
        · rcases q1 i with e | e
          · rw [e]
            by_cases x1 : i = d * 8 + t
            · subst x1; rw [pk_us]; exact Or.inr rfl
            · rw [pk_un x1]
              by_cases x2 : i = t * 8 + d
              · subst x2; rw [pk_us]; exact Or.inr rfl
              · rw [pk_un x2]; exact Or.inl rfl
          · exact Or.inr e
        · rw [q2 a b ha hb xa xb, pk_un (by omega), pk_un (by omega)]
        · obtain ⟨n', rfl⟩ : ∃ m, n = m + 1 := ⟨n - 1, by omega⟩
          have z := q3 post n' (by omega) h
          rw [am_its] at z
          refine br_f (nI_ge (b := 8) (by omega) (by omega)) ⟨i1, ?_⟩
          rw [e1]
          refine br_t c1 ⟨i3, ?_⟩
          rw [e3]
          refine br_f c2 ⟨i3, nm_e ⟨i4, nm_r (e' := upd (upd lk (t * 8 + d) 0) (d * 8 + t) 0) (by rw [e4, am_vb0]) ⟨i1, ?_⟩⟩⟩
          by_cases c3 : tr t = 0
          · rw [show am_tl cap st tr L p r t (am_it (am_tl cap st tr L p r) t m) = am_it (am_tl cap st tr L p r) t m from if_neg fun y => y.2.2 c3] at z
            exact br_t c3 (nm_r (nI_1 t) z)
          · rw [show am_tl cap st tr L p r t (am_it (am_tl cap st tr L p r) t m) = am_pl cap t 2 p r (am_it (am_tl cap st tr L p r) t m) from if_pos ⟨c1, hl, c3⟩] at z
            obtain ⟨q, hq, eq⟩ := am_mok_tls (st := st) (tr := tr) (L := L) (p := p) (r := r) hc h12 hm t (by omega) t (by omega)
            refine br_f c3 ?_
            exact yp_place (m := am_it (am_tl cap st tr L p r) t m) (by omega) eq hq h12 (nm_r (nI_1 t) z)
    · obtain ⟨lk', q1, q2, q3⟩ := ih (t + 1) lk (by omega) (fun a q => hL a (by omega))
      refine ⟨lk', q1, q2, fun post n hn h => ?_⟩
      obtain ⟨n', rfl⟩ : ∃ m, n = m + 1 := ⟨n - 1, by omega⟩
      have z := q3 post n' (by omega) h
      rw [am_its, show am_tl cap st tr L p r t (am_it (am_tl cap st tr L p r) t m) = am_it (am_tl cap st tr L p r) t m from if_neg fun y => c1 y.1] at z
      refine br_f (nI_ge (b := 8) (by omega) (by omega)) ⟨i1, ?_⟩
      rw [e1]
      exact br_f c1 (nm_r (nI_1 t) z)
theorem ye_tell {L : Nat → Bool} {d : Nat} {r : Int32} {s : (Nat → Int32) × ML} (hd : d < 8) (hc : 1 ≤ cap) (h12 : cap ≤ 12) (hs : am_ok2 cap s) (hL : ∀ a, a < 8 → st a = 1 → (lk (a * 8 + d) = 0 ↔ L a = false)) : ∃ lk' : Nat → Int32, (∀ i, lk' i = lk i ∨ lk' i = 0) ∧ (∀ a b, a < 8 → b < 8 → a ≠ d → b ≠ d → lk' (a * 8 + b) = lk (a * 8 + b)) ∧ ∀ post : SY → Prop, post (nI N, nI cap, nI Q, nI CS, nI now, nI cc, nI tc, nI kn, st, gn, lr, pc, wa, dy, tr, par, ce, ct, ca, kd, sg, mx, wd, rs, rg, (am_te cap st tr L (gn d * 8 + nI d) r d s).1, lk', ((am_te cap st tr L (gn d * 8 + nI d) r d s).2).1, ((am_te cap st tr L (gn d * 8 + nI d) r d s).2).2.1, ((am_te cap st tr L (gn d * 8 + nI d) r d s).2).2.2.1, ((am_te cap st tr L (gn d * 8 + nI d) r d s).2).2.2.2.1, ((am_te cap st tr L (gn d * 8 + nI d) r d s).2).2.2.2.2.1, cel, trd, ((am_te cap st tr L (gn d * 8 + nI d) r d s).2).2.2.2.2.2) → wpY_tell post (nI N, nI cap, nI Q, nI CS, nI now, nI cc, nI tc, nI kn, st, gn, lr, pc, wa, dy, tr, par, ce, ct, ca, kd, sg, mx, wd, rs, rg, s.1, lk, s.2.1, s.2.2.1, s.2.2.2.1, s.2.2.2.2.1, s.2.2.2.2.2.1, cel, trd, s.2.2.2.2.2.2) (nI d) r := by
  obtain ⟨lk', q1, q2, q3⟩ := ye_9 (N := N) (cap := cap) (Q := Q) (CS := CS) (now := now) (cc := cc) (tc := tc) (kn := kn) (st := st) (gn := gn) (lr := lr) (pc := pc) (wa := wa) (dy := dy) (tr := tr) (par := par) (ce := ce) (ct := ct) (ca := ca) (kd := kd) (sg := sg) (mx := mx) (wd := wd) (rs := rs) (rg := rg) (mon := s.1) (cel := cel) (trd := trd) (L := L) (p := gn d * 8 + nI d) (r := r) (m := s.2) hd hc h12 hs.2 8 0 lk (by omega) (fun a _ => hL a)
  refine ⟨lk', q1, q2, fun post h => ?_⟩
  unfold wpY_tell
  refine yv_pid hd ?_
  refine ⟨9, q3 post 9 (by omega) ⟨25, ?_⟩⟩
  exact ye_99 (s := (s.1, am_it (am_tl cap st tr L (gn d * 8 + nI d) r) 8 s.2)) hd hc h12 ⟨hs.1, am_mok_tls hc h12 hs.2 8 (Nat.le_refl 8)⟩ h 8 0 25 (by omega) (by omega)
theorem ye_218 {L : Nat → Nat → Bool} {D r x6 : Int32} {s : (Nat → Int32) × ML} (hc : 1 ≤ cap) (h12 : cap ≤ 12) (hs : am_ok2 cap s) (hD : ∀ t, t < 8 → bt D t = true → ¬ st t = 1) : ∀ dd d (lk : Nat → Int32), d + dd = 8 → (∀ a b, a < 8 → b < 8 → d ≤ b → st a = 1 → (lk (a * 8 + b) = 0 ↔ L a b = false)) → ∃ lk' : Nat → Int32, (∀ i, lk' i = lk i ∨ lk' i = 0) ∧ (∀ a b, a < 8 → b < 8 → ¬ bt D a = true → ¬ bt D b = true → lk' (a * 8 + b) = lk (a * 8 + b)) ∧ ∀ (post : SY → Prop) J8 x5 n, dd < n → (∃ n252, wY_end_252 post J8 D x5 x6 (nI N) (nI cap) (nI Q) (nI CS) (nI now) (nI cc) (nI tc) (nI kn) n252 0 st gn lr pc wa dy tr par ce ct ca kd sg mx wd rs rg ((am_it (am_td cap st tr gn L D r) 8 s).1) lk' (((am_it (am_td cap st tr gn L D r) 8 s).2).1) (((am_it (am_td cap st tr gn L D r) 8 s).2).2.1) (((am_it (am_td cap st tr gn L D r) 8 s).2).2.2.1) (((am_it (am_td cap st tr gn L D r) 8 s).2).2.2.2.1) (((am_it (am_td cap st tr gn L D r) 8 s).2).2.2.2.2.1) cel trd (((am_it (am_td cap st tr gn L D r) 8 s).2).2.2.2.2.2)) → wY_end_218 post J8 D r x5 x6 n (nI d) (nI N) (nI cap) (nI Q) (nI CS) (nI now) (nI cc) (nI tc) (nI kn) st gn lr pc wa dy tr par ce ct ca kd sg mx wd rs rg ((am_it (am_td cap st tr gn L D r) d s).1) lk (((am_it (am_td cap st tr gn L D r) d s).2).1) (((am_it (am_td cap st tr gn L D r) d s).2).2.1) (((am_it (am_td cap st tr gn L D r) d s).2).2.2.1) (((am_it (am_td cap st tr gn L D r) d s).2).2.2.2.1) (((am_it (am_td cap st tr gn L D r) d s).2).2.2.2.2.1) cel trd (((am_it (am_td cap st tr gn L D r) d s).2).2.2.2.2.2) := by
  intro dd
  induction dd with
  | zero =>
    intro t lk ht hL
    obtain rfl : t = 8 := ht
    refine ⟨lk, fun _ => Or.inl rfl, fun _ _ _ _ _ _ => rfl, fun post J8 x5 n hn h => ?_⟩
    obtain ⟨n', rfl⟩ : ∃ m, n = m + 1 := ⟨n - 1, by omega⟩
    exact br_t (by decide) h
  | succ dd ih =>
    intro d lk ht hL
    cases c : bt D d
    · obtain ⟨lk', q1, q2, q3⟩ := ih (d + 1) lk (by omega) (fun a b ha hb q => hL a b ha hb (by omega))
      refine ⟨lk', q1, q2, fun post J8 x5 n hn h => ?_⟩
      obtain ⟨n', rfl⟩ : ∃ m, n = m + 1 := ⟨n - 1, by omega⟩
      have z := q3 post J8 x5 n' (by omega) h
      rw [am_its, show am_td cap st tr gn L D r d (am_it (am_td cap st tr gn L D r) d s) = am_it (am_td cap st tr gn L D r) d s from if_neg (by rw [c]; decide)] at z
      refine br_f (nI_ge (b := 8) (by omega) (by omega)) (yv_has (by omega) ?_)
      rw [c]
      exact br_t rfl (nm_r (nI_1 d) z)
    · have ok := am_ok2_tds (st := st) (tr := tr) (gn := gn) (L := L) (D := D) (r := r) hc h12 hs d (by omega)
      obtain ⟨lk1, p1, p2, p3⟩ := ye_tell (N := N) (cap := cap) (Q := Q) (CS := CS) (now := now) (cc := cc) (tc := tc) (kn := kn) (st := st) (gn := gn) (lr := lr) (pc := pc) (wa := wa) (dy := dy) (tr := tr) (par := par) (ce := ce) (ct := ct) (ca := ca) (kd := kd) (sg := sg) (mx := mx) (wd := wd) (rs := rs) (rg := rg) (lk := lk) (cel := cel) (trd := trd) (r := r) (L := fun t => L t d) (s := am_it (am_td cap st tr gn L D r) d s) (d := d) (by omega) hc h12 ok (fun a ha sa => hL a d ha (by omega) (Nat.le_refl d) sa)
      obtain ⟨lk', q1, q2, q3⟩ := ih (d + 1) lk1 (by omega) (fun a b ha hb q sa => by
        rw [p2 a b ha hb (fun e => hD d (by omega) c (e ▸ sa)) (by omega)]
        exact hL a b ha hb (by omega) sa)
      refine ⟨lk', fun i => ?_, fun a b ha hb xa xb => ?_, fun post J8 x5 n hn h => ?_⟩
      · rcases q1 i with e | e
        · rw [e]; exact p1 i
        · exact Or.inr e
      · rw [q2 a b ha hb xa xb, p2 a b ha hb (fun e => xa (e ▸ c)) (fun e => xb (e ▸ c))]
      · obtain ⟨n', rfl⟩ : ∃ m, n = m + 1 := ⟨n - 1, by omega⟩
        have z := q3 post J8 x5 n' (by omega) h
        rw [am_its, show am_td cap st tr gn L D r d (am_it (am_td cap st tr gn L D r) d s) = am_te cap st tr (fun t => L t d) (gn d * 8 + nI d) r d (am_it (am_td cap st tr gn L D r) d s) from if_pos c] at z
        refine br_f (nI_ge (b := 8) (by omega) (by omega)) (yv_has (by omega) ?_)
        rw [c]
        exact br_f (by decide) (p3 _ (nm_r (nI_1 d) z))
theorem ye_252 {post : SY → Prop} {J8 : _} {D x5 x6 : Int32} {s : (Nat → Int32) × (Nat → Int64)} (h : ∃ n339, wY_end_339 post J8 D x5 x6 (nI N) (nI cap) (nI Q) (nI CS) (nI now) (nI cc) (nI tc) (nI kn) n339 0 st gn lr pc wa dy tr par ce ct ca kd sg mx wd rs rg ((am_it (am_fg D) 64 s).1) (am_kz D lk 64) mc mk mf mv ms cel trd ((am_it (am_fg D) 64 s).2)) : ∀ dd i n, i + dd = 64 → dd < n → wY_end_252 post J8 D x5 x6 (nI N) (nI cap) (nI Q) (nI CS) (nI now) (nI cc) (nI tc) (nI kn) n (nI i) st gn lr pc wa dy tr par ce ct ca kd sg mx wd rs rg ((am_it (am_fg D) i s).1) (am_kz D lk i) mc mk mf mv ms cel trd ((am_it (am_fg D) i s).2) := by
  intro dd
  induction dd with
  | zero =>
    intro i n hi hn
    obtain ⟨n', rfl⟩ : ∃ m, n = m + 1 := ⟨n - 1, by omega⟩
    obtain rfl : i = 64 := hi
    exact br_t (by decide) h
  | succ dd ih =>
    intro i n hi hn
    obtain ⟨n', rfl⟩ : ∃ m, n = m + 1 := ⟨n - 1, by omega⟩
    have i1 : vp_in (nI i) 64 := vp_in_nI (by omega) (by omega)
    have e1 : (nI i).toNatClampNeg = i := nI_clamp (by omega)
    have z := ih (i + 1) n' (by omega) (by omega)
    rw [am_its] at z
    unfold am_fg at z
    refine br_f (nI_ge (b := 64) (by omega) (by omega)) ?_
    rw [am_div8 (by omega), am_mod8 (by omega)]
    refine yv_has (by omega) (am_br (fun c => ?_) (fun c => ?_))
    · have c' : ¬ bt D (i / 8) = true := by rw [c]; decide
      rw [if_neg c'] at z
      refine yv_has (by omega) (am_br (fun c2 => ?_) (fun c2 => ?_))
      · rw [am_kzn (fun y => y.elim c' (by rw [c2]; decide))] at z
        unfold wY_end_292
        rw [am_div8 (by omega)]
        refine yv_has (by omega) ?_
        rw [c]
        exact br_t rfl (nm_r (nI_1 i) z)
      · unfold wY_end_284
        rw [e1, am_vb0]
        refine ⟨i1, nm_r (am_kzs (Or.inr c2)) ?_⟩
        unfold wY_end_292
        rw [am_div8 (by omega)]
        refine yv_has (by omega) ?_
        rw [c]
        exact br_t rfl (nm_r (nI_1 i) z)
    · rw [if_pos c] at z
      unfold wY_end_284
      rw [e1, am_vb0]
      refine ⟨i1, nm_r (am_kzs (Or.inl c)) ?_⟩
      unfold wY_end_292
      rw [am_div8 (by omega), e1]
      refine yv_has (by omega) ?_
      rw [c]
      exact br_f (by decide) ⟨i1, nm_e ⟨i1, nm_e (nm_r (nI_1 i) z)⟩⟩
theorem ye_339 {post : SY → Prop} {J8 : _} {D x5 x6 : Int32} (h : ∃ n388, wY_end_388 post J8 3 x5 x6 n388 0 0 (nI N) (nI cap) (nI Q) (nI CS) (nI now) (nI cc) (nI tc) (nI kn) (am_it (am_ff D par) 8 st) gn lr pc wa dy tr par ce ct ca kd sg mx wd rs rg mon lk mc mk mf mv ms cel trd cnt) : ∀ dd d n, d + dd = 8 → dd < n → wY_end_339 post J8 D x5 x6 (nI N) (nI cap) (nI Q) (nI CS) (nI now) (nI cc) (nI tc) (nI kn) n (nI d) (am_it (am_ff D par) d st) gn lr pc wa dy tr par ce ct ca kd sg mx wd rs rg mon lk mc mk mf mv ms cel trd cnt := by
  intro dd
  induction dd with
  | zero =>
    intro d n hd hn
    obtain ⟨n', rfl⟩ : ∃ m, n = m + 1 := ⟨n - 1, by omega⟩
    obtain rfl : d = 8 := hd
    exact br_t (by decide) h
  | succ dd ih =>
    intro d n hd hn
    obtain ⟨n', rfl⟩ : ∃ m, n = m + 1 := ⟨n - 1, by omega⟩
    have i1 : vp_in (nI d) 8 := vp_in_nI (by omega) (by omega)
    have e1 : (nI d).toNatClampNeg = d := nI_clamp (by omega)
    have z := ih (d + 1) n' (by omega) (by omega)
    rw [am_its] at z
    unfold am_ff at z
    refine br_f (nI_ge (b := 8) (by omega) (by omega)) (yv_has (by omega) (am_br (fun c => ?_) (fun c => ⟨i1, ?_⟩)))
    · rw [if_neg fun y => by rw [c] at y; exact absurd y.1 (by decide)] at z
      exact nm_r (nI_1 d) z
    · rw [e1]
      by_cases q : par d < 0
      · rw [if_pos ⟨c, q⟩] at z
        exact br_f (Int32.not_le.mpr q) ⟨i1, nm_e (nm_r (nI_1 d) z)⟩
      · rw [if_neg fun y => q y.2] at z
        exact br_t (Int32.not_lt.mp q) (nm_r (nI_1 d) z)
end YE
end
section
/-! 13: the end of a set on both sides at once -/
def iS (N cap Q CS cc now tc : Nat) : Prop := 2 ≤ N ∧ N ≤ 8 ∧ 2 ≤ cap ∧ cap ≤ 12 ∧ 1 ≤ Q ∧ Q ≤ 8 ∧ 8 ≤ CS ∧ CS ≤ 64 ∧ cc ≤ CS ∧ now ≤ 1000 ∧ tc ≤ 64
def iSt (N : Nat) (st : Nat → Int32) : Prop := ∀ j, j < 8 → (st j = 0 ∨ st j = 1 ∨ st j = 2 ∨ st j = 3) ∧ (N ≤ j → st j = 0)
def iG (gn : Nat → Int32) : Prop := ∀ j, j < 8 → ∃ g, g ≤ 1000000 ∧ gn j = nI g
def iM (cap : Nat) (st mc : Nat → Int32) : Prop := ∀ j, j < 8 → ∃ n, n ≤ cap ∧ mc j = nI n ∧ (¬ st j = 1 → n = 0)
def iW (st wt dl wa dy : Nat → Int32) : Prop := ∀ j, j < 8 → st j = 1 → (wt j = 0 ∧ wa j = 0) ∨ (wt j = 1 ∧ wa j = 1 ∧ dl j = -1) ∨ (wt j = 1 ∧ wa j = 2 ∧ ∃ d, d ≤ 1100 ∧ dl j = nI d ∧ dy j = nI d)
def iLk (st lm lk : Nat → Int32) (L : Nat → Nat → Bool) : Prop := (∀ t j, t < 8 → j < 8 → bt (lm t) j = L t j) ∧ (∀ t j, t < 8 → j < 8 → lk (t * 8 + j) = am_b (L t j)) ∧ (∀ t j, t < 8 → j < 8 → L t j = L j t) ∧ (∀ t j, t < 8 → j < 8 → L t j = true → st t = 1 ∧ st j = 1 ∧ t ≠ j)
def iL (st lm lk : Nat → Int32) : Prop := ∃ L, iLk st lm lk L
def iMo (st mon : Nat → Int32) : Prop := ∀ w t, w < 8 → t < 8 → ∃ k, k ≤ 3 ∧ mon (w * 8 + t) = nI k ∧ (k ≠ 0 → st w = 1 ∧ (st t = 1 ∨ st t = 2))
/-- a mask of given bits -/
def am_mk (f : Nat → Bool) : Int32 := am_it (fun i m => if f i = true then m ||| am_one i else m) 8 0
theorem am_mk_b (f : Nat → Bool) (j : Nat) : bt (am_mk f) j = (decide (j < 8) && f j) := by
  have k := am_it_inv (f := fun i m => if f i = true then m ||| am_one i else m) (fun i m => ∀ j, bt m j = (decide (j < i) && f j)) (s := 0) (fun j => by rw [b_0, decide_eq_false (by omega)]; rfl) 8 (fun i m hi hm j => by
    by_cases c : f i = true
    · show bt (if f i = true then m ||| am_one i else m) j = _
      rw [if_pos c, am_orb (by omega), hm j]
      by_cases e : j = i
      · rw [e, c, decide_eq_true (p := i = i) rfl, decide_eq_true (p := i < i + 1) (by omega)]; simp
      · rw [decide_eq_false e, Bool.or_false, show decide (j < i + 1) = decide (j < i) from decide_eq_decide.mpr (by omega)]
    · show bt (if f i = true then m ||| am_one i else m) j = _
      rw [if_neg c, hm j]
      by_cases e : j = i
      · rw [e, eq_false_of_ne_true c]; simp
      · rw [show decide (j < i + 1) = decide (j < i) from decide_eq_decide.mpr (by omega)]) 8 (Nat.le_refl 8)
  exact k j
theorem am_dead_in {st tr : Nat → Int32} {L : Nat → Nat → Bool} {se r D : Int32} (hm : am_B8 se) (hD : am_Dead st tr L se r D) : am_B8 D ∧ am_sub se D ∧ (∀ j, bt D j = true → bt se j = true ∨ st j = 1) ∧ (∀ c, am_B8 c → am_Cl (am_go st tr) L c → am_sub se c → am_sub D c) := by
  by_cases c : r = 0
  · rw [hD.1 c]
    exact ⟨hm, am_sub_r _, fun j h => Or.inl h, fun _ _ _ h => h⟩
  · obtain ⟨h1, h2, h3, h4⟩ := hD.2 c
    refine ⟨h1, h2, fun j hj => ?_, h4⟩
    have q := h4 (am_mk fun j => bt se j || decide (st j = 1)) (fun j e => by
      rw [am_mk_b] at e
      have := (Bool.and_eq_true _ _ ▸ e).1
      exact of_decide_eq_true this) (fun t j ht _ g _ _ => by
      rw [am_mk_b, decide_eq_true ht, decide_eq_true g.1]; simp) (fun j e => by
      rw [am_mk_b, decide_eq_true (hm j e), e]; rfl) j hj
    rw [am_mk_b, Bool.and_eq_true, Bool.or_eq_true] at q
    rcases q.2 with z | z
    · exact Or.inl z
    · exact Or.inr (of_decide_eq_true z)
/-- a dead set is there -/
theorem am_dead_ex {st tr : Nat → Int32} {L : Nat → Nat → Bool} (N : Nat) (hN : N ≤ 8) (h0 : ∀ t, t < 8 → N ≤ t → st t = 0) {se : Int32} (r : Int32) (hm : am_B8 se) : ∃ D, am_Dead st tr L se r D := by
  by_cases c : r = 0
  · exact ⟨se, fun _ => rfl, fun z => absurd c z⟩
  · refine ⟨_, fun z => absurd z c, fun _ => am_clo (go := am_go st tr) (L := L) (xw_St (N := N) (tr := tr) (lm := fun t => am_mk (L t)) hN fun t j ht hj _ => ?_) (fun i j _ _ z => z) (fun t j ht hj g l => ⟨t, ?_, rfl, g, l⟩) hm⟩
    · rw [am_mk_b, decide_eq_true hj]; rfl
    · refine Classical.byContradiction fun no => ?_
      have q := h0 t ht (by omega)
      rw [g.1] at q
      exact absurd q (by decide)
section CO
variable {N cap Q CS cc now tc kn : Nat} {fl : Int32} {op oa ob oc st gn lr rg pc tr wt dl mc mk mf mv lm mon par ce ct ca sg mx wd cn cl rc rk tp tv wa dy kd rs lk cel trd : Nat → Int32} {ms cnt : Nat → Int64}
theorem am_buN {D r : Int32} {s : S4} (hN : N ≤ 8) (hD : ∀ j, bt D j = true → j < N) : am_it (am_bu D r) N s = am_it (am_bu D r) 8 s :=
  (am_it_le hN fun i h1 _ s => if_neg fun z => absurd (hD i z) (by omega)).symm
theorem am_tdN {st tr gn : Nat → Int32} {L : Nat → Nat → Bool} {D r : Int32} {s : (Nat → Int32) × ML} (hN : N ≤ 8) (hD : ∀ j, bt D j = true → j < N) : am_it (am_td cap st tr gn L D r) N s = am_it (am_td cap st tr gn L D r) 8 s :=
  (am_it_le hN fun i h1 _ s => if_neg fun z => absurd (hD i z) (by omega)).symm
theorem am_fgN {D : Int32} {s : (Nat → Int32) × (Nat → Int64)} (hN : N ≤ 8) (hD : ∀ j, bt D j = true → j < N) : am_it (am_fg D) (N * 8) s = am_it (am_fg D) 64 s :=
  (am_it_le (by omega) fun i h1 _ s => if_neg fun z => absurd (hD (i / 8) z) (by omega)).symm
theorem am_ffN {D : Int32} {par st : Nat → Int32} (hN : N ≤ 8) (hD : ∀ j, bt D j = true → j < N) : am_it (am_ff D par) N st = am_it (am_ff D par) 8 st :=
  (am_it_le hN fun i h1 _ s => if_neg fun z => absurd (hD i z.1) (by omega)).symm
theorem xe_end {L : Nat → Nat → Bool} {se r D : Int32} {m : ML} (hN : N ≤ 8) (hc : 1 ≤ cap) (h12 : cap ≤ 12) (hm : am_mok cap m) (hk : am_kok mon) (h0 : ∀ t, t < 8 → N ≤ t → st t = 0) (hL : ∀ t j, t < 8 → j < 8 → bt (lm t) j = L t j) (hp : ∀ j, j < 8 → par j < 0 → par j = -1) (hs : am_B8 se) (hD : am_Dead st tr L se r D) (hDN : ∀ j, bt D j = true → j < N) : ∃ wt' lm' : Nat → Int32, (∀ j, ¬ bt D j = true → wt' j = wt j) ∧ (∀ t, t < 8 → bt D t = true → lm' t = 0) ∧ (∀ t, t < 8 → ¬ bt D t = true → st t = 1 → ∀ j, bt (lm' t) j = (bt (lm t) j && !bt D j)) ∧ (∀ t, t < 8 → ¬ bt D t = true → ¬ st t = 1 → lm' t = lm t) ∧ ∀ post : SX → Prop, post (fl, nI N, nI cap, nI Q, nI CS, nI cc, nI now, nI tc, op, oa, ob, oc, am_Est D r par st lr m, gn, am_Elr D r st lr m, rg, pc, tr, wt', dl, (am_Em cap tr gn L D r st lr mon m).1, (am_Em cap tr gn L D r st lr mon m).2.1, (am_Em cap tr gn L D r st lr mon m).2.2.1, (am_Em cap tr gn L D r st lr mon m).2.2.2.1, (am_Em cap tr gn L D r st lr mon m).2.2.2.2.1, lm', am_Emo cap tr gn L D r st lr mon m, par, ce, ct, ca, sg, mx, wd, cn, cl, rc, rk, tp, tv, (am_Em cap tr gn L D r st lr mon m).2.2.2.2.2) → wpX_endSet post (fl, nI N, nI cap, nI Q, nI CS, nI cc, nI now, nI tc, op, oa, ob, oc, st, gn, lr, rg, pc, tr, wt, dl, m.1, m.2.1, m.2.2.1, m.2.2.2.1, m.2.2.2.2.1, lm, mon, par, ce, ct, ca, sg, mx, wd, cn, cl, rc, rk, tp, tv, m.2.2.2.2.2) se r := by
  have e1 : ∀ t, (am_E1 D r st lr m).1 t = if t < 8 ∧ bt D t = true then 3 else st t := fun t => am_E1st t
  obtain ⟨wt', w1, w2⟩ := xe_bury (fl := fl) (N := N) (cap := cap) (Q := Q) (CS := CS) (cc := cc) (now := now) (tc := tc) (op := op) (oa := oa) (ob := ob) (oc := oc) (st := st) (gn := gn) (lr := lr) (rg := rg) (pc := pc) (tr := tr) (dl := dl) (lm := lm) (mon := mon) (par := par) (ce := ce) (ct := ct) (ca := ca) (sg := sg) (mx := mx) (wd := wd) (cn := cn) (cl := cl) (rc := rc) (rk := rk) (tp := tp) (tv := tv) (D := D) (r := r) (m := m) hN N 0 wt (by omega)
  obtain ⟨lm', q1, q2, q3⟩ := xe_23 (fl := fl) (N := N) (cap := cap) (Q := Q) (CS := CS) (cc := cc) (now := now) (tc := tc) (op := op) (oa := oa) (ob := ob) (oc := oc) (st := (am_E1 D r st lr m).1) (gn := gn) (lr := (am_E1 D r st lr m).2.1) (rg := rg) (pc := pc) (tr := tr) (wt := wt') (dl := dl) (par := par) (ce := ce) (ct := ct) (ca := ca) (sg := sg) (mx := mx) (wd := wd) (cn := cn) (cl := cl) (rc := rc) (rk := rk) (tp := tp) (tv := tv) (L := L) (D := D) (r := r) (s := (mon, ((am_E1 D r st lr m).2.2.1, m.2.1, m.2.2.1, m.2.2.2.1, m.2.2.2.2.1, (am_E1 D r st lr m).2.2.2))) hN hc h12 (am_E1ok hk hm) (fun t a b => by rw [e1 t, if_neg fun z => absurd (hDN t z.2) (by omega), h0 t a b]; decide) N 0 lm (by omega) (fun t a _ j b _ => hL t j a b)
  refine ⟨wt', am_lz D lm' N, w1, fun t a b => if_pos ⟨hDN t b, b⟩, fun t a b c j => ?_, fun t a b c => ?_, fun post h => ?_⟩
  · show bt (if t < N ∧ bt D t = true then 0 else lm' t) j = _
    rw [if_neg fun z => b z.2, q1 t a (by rw [e1 t, if_neg fun z => b z.2]; exact c) j]
    cases x : bt D j
    · simp
    · rw [decide_eq_true (p := 0 ≤ j ∧ j < N) ⟨Nat.zero_le _, hDN j x⟩]; simp
  · show (if t < N ∧ bt D t = true then 0 else lm' t) = _
    rw [if_neg fun z => b z.2, q2 t (by rw [e1 t, if_neg fun z => b z.2]; exact c)]
  · have K : wX_endSet_13 post r D fl (nI N) (nI cap) (nI Q) (nI CS) (nI cc) (nI now) (nI tc) op oa ob oc st gn lr rg pc tr wt dl m.1 m.2.1 m.2.2.1 m.2.2.2.1 m.2.2.2.2.1 lm mon par ce ct ca sg mx wd cn cl rc rk tp tv m.2.2.2.2.2 := by
      refine ⟨N + 1, w2 _ (N + 1) (by omega) ?_⟩
      rw [am_buN hN hDN]
      refine ⟨N + 1, q3 post (N + 1) (by omega) ?_⟩
      rw [am_tdN hN hDN]
      refine ⟨N + 1, ?_⟩
      have z := xe_65 (post := post) (D := D) (st := (am_E1 D r st lr m).1) (lm := lm') (s := ((am_E2 cap tr gn L D r mon m (am_E1 D r st lr m)).1, (am_E2 cap tr gn L D r mon m (am_E1 D r st lr m)).2.2.2.2.2.2)) (lr := (am_E1 D r st lr m).2.1) (wt := wt') (mc := (am_E2 cap tr gn L D r mon m (am_E1 D r st lr m)).2.1) (mk := (am_E2 cap tr gn L D r mon m (am_E1 D r st lr m)).2.2.1) (mf := (am_E2 cap tr gn L D r mon m (am_E1 D r st lr m)).2.2.2.1) (mv := (am_E2 cap tr gn L D r mon m (am_E1 D r st lr m)).2.2.2.2.1) (ms := (am_E2 cap tr gn L D r mon m (am_E1 D r st lr m)).2.2.2.2.2.1) hN hp (by
        rw [am_fgN hN hDN, am_ffN hN hDN]
        exact h) N 0 (N + 1) (by omega) (by omega)
      rw [am_lz0] at z
      exact z
    by_cases c : r = 0
    · rw [hD.1 c] at K
      exact br_t c K
    · exact br_f c (xw_spread hN h0 (fun t j a b _ => hL t j a b) hs (hD.2 c) K)
theorem ye_end {L : Nat → Nat → Bool} {se r D : Int32} {m : ML} (hc : 1 ≤ cap) (h12 : cap ≤ 12) (hm : am_mok cap m) (hk : am_kok mon) (hL : ∀ t j, t < 8 → j < 8 → lk (t * 8 + j) = am_b (L t j)) (hy : ∀ t j, t < 8 → j < 8 → L t j = L j t) (h2 : ∀ i, i < 8 → st i = 2 → m.1 i = 0) (hs : am_B8 se) (hD : am_Dead st tr L se r D) : ∃ lk' : Nat → Int32, (∀ a b, a < 8 → b < 8 → lk' (a * 8 + b) = if bt D a = true ∨ bt D b = true then 0 else lk (a * 8 + b)) ∧ ∀ (post : SY → Prop) J8 (x5 : Int32), (∃ n388, wY_end_388 post J8 3 x5 (am_sx st D 8) n388 0 0 (nI N) (nI cap) (nI Q) (nI CS) (nI now) (nI cc) (nI tc) (nI kn) (am_Est D r par st lr m) gn (am_Elr D r st lr m) pc wa dy tr par ce ct ca kd sg mx wd rs rg (am_Emo cap tr gn L D r st lr mon m) lk' ((am_Em cap tr gn L D r st lr mon m).1) ((am_Em cap tr gn L D r st lr mon m).2.1) ((am_Em cap tr gn L D r st lr mon m).2.2.1) ((am_Em cap tr gn L D r st lr mon m).2.2.2.1) ((am_Em cap tr gn L D r st lr mon m).2.2.2.2.1) cel trd ((am_Em cap tr gn L D r st lr mon m).2.2.2.2.2)) → ∃ n21, wY_end_21 post J8 r x5 (nI N) (nI cap) (nI Q) (nI CS) (nI now) (nI cc) (nI tc) (nI kn) st gn lr pc wa dy tr par ce ct ca kd sg mx wd rs rg mon lk m.1 m.2.1 m.2.2.1 m.2.2.2.1 m.2.2.2.2.1 cel trd m.2.2.2.2.2 n21 se 0 := by
  have hL0 : ∀ t j, t < 8 → j < 8 → (lk (t * 8 + j) = 0 ↔ L t j = false) := fun t j a b => by rw [hL t j a b, am_b0]
  have e1 : ∀ t, (am_E1 D r st lr m).1 t = if t < 8 ∧ bt D t = true then 3 else st t := fun t => am_E1st t
  obtain ⟨lk', q1, q2, q3⟩ := ye_218 (N := N) (cap := cap) (Q := Q) (CS := CS) (now := now) (cc := cc) (tc := tc) (kn := kn) (st := (am_E1 D r st lr m).1) (gn := gn) (lr := (am_E1 D r st lr m).2.1) (pc := pc) (wa := wa) (dy := dy) (tr := tr) (par := par) (ce := ce) (ct := ct) (ca := ca) (kd := kd) (sg := sg) (mx := mx) (wd := wd) (rs := rs) (rg := rg) (cel := cel) (trd := trd) (L := L) (D := D) (r := r) (x6 := am_sx st D 8) (s := (mon, ((am_E1 D r st lr m).2.2.1, m.2.1, m.2.2.1, m.2.2.2.1, m.2.2.2.2.1, (am_E1 D r st lr m).2.2.2))) hc h12 (am_E1ok hk hm) (fun t a b => by rw [e1 t, if_pos ⟨a, b⟩]; decide) 8 0 lk (by omega) (fun a b ha hb _ _ => hL0 a b ha hb)
  refine ⟨am_kz D lk' 64, fun a b ha hb => ?_, fun post J8 x5 h => ?_⟩
  · show (if a * 8 + b < 64 ∧ (bt D ((a * 8 + b) / 8) = true ∨ bt D ((a * 8 + b) % 8) = true) then 0 else lk' (a * 8 + b)) = _
    rw [show (a * 8 + b) / 8 = a by omega, show (a * 8 + b) % 8 = b by omega]
    by_cases c : bt D a = true ∨ bt D b = true
    · rw [if_pos c, if_pos ⟨by omega, c⟩]
    · rw [if_neg c, if_neg fun z => c z.2]
      exact q2 a b ha hb (fun e => c (Or.inl e)) (fun e => c (Or.inr e))
  · refine yw_dead hL0 hy hs hD ⟨9, ye_118 h2 ⟨9, q3 post J8 x5 9 (by omega) ⟨65, ?_⟩⟩ 8 0 9 (by omega) (by omega)⟩
    have z := ye_252 (post := post) (J8 := J8) (D := D) (x5 := x5) (x6 := am_sx st D 8) (lk := lk') (s := ((am_E2 cap tr gn L D r mon m (am_E1 D r st lr m)).1, (am_E2 cap tr gn L D r mon m (am_E1 D r st lr m)).2.2.2.2.2.2)) (st := (am_E1 D r st lr m).1) (lr := (am_E1 D r st lr m).2.1) (mc := (am_E2 cap tr gn L D r mon m (am_E1 D r st lr m)).2.1) (mk := (am_E2 cap tr gn L D r mon m (am_E1 D r st lr m)).2.2.1) (mf := (am_E2 cap tr gn L D r mon m (am_E1 D r st lr m)).2.2.2.1) (mv := (am_E2 cap tr gn L D r mon m (am_E1 D r st lr m)).2.2.2.2.1) (ms := (am_E2 cap tr gn L D r mon m (am_E1 D r st lr m)).2.2.2.2.2.1) ⟨9, ye_339 h 8 0 9 (by omega) (by omega)⟩ 64 0 65 (by omega) (by omega)
    rw [am_kz0] at z
    exact z
/-- both sides: a set ends -/
theorem ed_core {se r : Int32} (hS : iS N cap Q CS cc now tc) (hSt : iSt N st) (hM : iM cap st mc) (hW : iW st wt dl wa dy) (hL : iL st lm lk) (hMo : iMo st mon) (hp : ∀ j, j < 8 → par j < 0 → par j = -1) (hms : ∀ j, bt se j = true → j < 8 ∧ (st j = 1 ∨ st j = 2)) : ∃ (D : Int32) (st' lr' mon' : Nat → Int32) (m : ML) (wt' lm' lk' : Nat → Int32), (∀ j, bt se j = true → bt D j = true) ∧ (∀ j, bt D j = true → j < 8 ∧ (bt se j = true ∨ st j = 1)) ∧ (∀ s, s < 8 → st s = 2 → se = am_one s → D = se) ∧ (∀ j, j < 8 → st' j = if bt D j = true then (if par j < 0 then 0 else 3) else st j) ∧ iSt N st' ∧ iM cap st' m.1 ∧ iW st' wt' dl wa dy ∧ iL st' lm' lk' ∧ iMo st' mon' ∧ (∀ post : SX → Prop, post (fl, nI N, nI cap, nI Q, nI CS, nI cc, nI now, nI tc, op, oa, ob, oc, st', gn, lr', rg, pc, tr, wt', dl, m.1, m.2.1, m.2.2.1, m.2.2.2.1, m.2.2.2.2.1, lm', mon', par, ce, ct, ca, sg, mx, wd, cn, cl, rc, rk, tp, tv, m.2.2.2.2.2) → wpX_endSet post (fl, nI N, nI cap, nI Q, nI CS, nI cc, nI now, nI tc, op, oa, ob, oc, st, gn, lr, rg, pc, tr, wt, dl, mc, mk, mf, mv, ms, lm, mon, par, ce, ct, ca, sg, mx, wd, cn, cl, rc, rk, tp, tv, cnt) se r) ∧ (∀ (post : SY → Prop) J8 (x5 : Int32), (∃ n388, wY_end_388 post J8 3 x5 (am_sx st D 8) n388 0 0 (nI N) (nI cap) (nI Q) (nI CS) (nI now) (nI cc) (nI tc) (nI kn) st' gn lr' pc wa dy tr par ce ct ca kd sg mx wd rs rg mon' lk' m.1 m.2.1 m.2.2.1 m.2.2.2.1 m.2.2.2.2.1 cel trd m.2.2.2.2.2) → ∃ n21, wY_end_21 post J8 r x5 (nI N) (nI cap) (nI Q) (nI CS) (nI now) (nI cc) (nI tc) (nI kn) st gn lr pc wa dy tr par ce ct ca kd sg mx wd rs rg mon lk mc mk mf mv ms cel trd cnt n21 se 0) := by
  obtain ⟨hN2, hN, hc2, h12, -⟩ := hS
  obtain ⟨L, l1, l2, l3, l4⟩ := hL
  have h0 : ∀ t, t < 8 → N ≤ t → st t = 0 := fun t a b => (hSt t a).2 b
  have hB : am_B8 se := fun j h => (hms j h).1
  obtain ⟨D, hD⟩ := am_dead_ex (tr := tr) (L := L) N hN h0 r hB
  obtain ⟨d1, d2, d3, d4⟩ := am_dead_in hB hD
  have d5 : ∀ j, bt D j = true → st j = 1 ∨ st j = 2 := fun j h => (d3 j h).elim (fun z => (hms j z).2) Or.inl
  have hDN : ∀ j, bt D j = true → j < N := fun j h => by
    refine Classical.byContradiction fun no => ?_
    have q := h0 j (d1 j h) (by omega)
    rcases d5 j h with e | e <;> rw [q] at e <;> exact absurd e (by decide)
  have hm : am_mok cap (mc, mk, mf, mv, ms, cnt) := fun t a => by
    obtain ⟨n, h1, h2, -⟩ := hM t a
    exact ⟨n, h1, h2⟩
  have hk : am_kok mon := fun i hi => by
    obtain ⟨k, h1, h2, -⟩ := hMo (i / 8) (i % 8) (by omega) (by omega)
    rw [show i / 8 * 8 + i % 8 = i by omega] at h2
    exact ⟨k, h1, h2⟩
  obtain ⟨wt', lm', w1, w2, w3, w4, w5⟩ := xe_end (fl := fl) (N := N) (cap := cap) (Q := Q) (CS := CS) (cc := cc) (now := now) (tc := tc) (op := op) (oa := oa) (ob := ob) (oc := oc) (st := st) (gn := gn) (lr := lr) (rg := rg) (pc := pc) (tr := tr) (wt := wt) (dl := dl) (lm := lm) (mon := mon) (par := par) (ce := ce) (ct := ct) (ca := ca) (sg := sg) (mx := mx) (wd := wd) (cn := cn) (cl := cl) (rc := rc) (rk := rk) (tp := tp) (tv := tv) (L := L) (se := se) (r := r) (D := D) (m := (mc, mk, mf, mv, ms, cnt)) hN (by omega) h12 hm hk h0 l1 hp hB hD hDN
  obtain ⟨lk', k1, k2⟩ := ye_end (N := N) (cap := cap) (Q := Q) (CS := CS) (now := now) (cc := cc) (tc := tc) (kn := kn) (st := st) (gn := gn) (lr := lr) (pc := pc) (wa := wa) (dy := dy) (tr := tr) (par := par) (ce := ce) (ct := ct) (ca := ca) (kd := kd) (sg := sg) (mx := mx) (wd := wd) (rs := rs) (rg := rg) (mon := mon) (lk := lk) (cel := cel) (trd := trd) (L := L) (se := se) (r := r) (D := D) (m := (mc, mk, mf, mv, ms, cnt)) (by omega) h12 hm hk l2 l3 (fun i hi e => by
    obtain ⟨n, h1, h2, h3⟩ := hM i hi
    show mc i = 0
    rw [h2, h3 (by rw [e]; decide)]; rfl) hB hD
  have hst : ∀ j, j < 8 → am_Est D r par st lr (mc, mk, mf, mv, ms, cnt) j = if bt D j = true then (if par j < 0 then 0 else 3) else st j := fun j hj => am_Est_f hj
  have hst1 : ∀ j, j < 8 → am_Est D r par st lr (mc, mk, mf, mv, ms, cnt) j = 1 → ¬ bt D j = true ∧ st j = 1 := fun j hj e => by
    rw [hst j hj] at e
    by_cases c : bt D j = true
    · rw [if_pos c] at e
      by_cases c2 : par j < 0
      · rw [if_pos c2] at e; exact absurd e (by decide)
      · rw [if_neg c2] at e; exact absurd e (by decide)
    · rw [if_neg c] at e; exact ⟨c, e⟩
  refine ⟨D, am_Est D r par st lr (mc, mk, mf, mv, ms, cnt), am_Elr D r st lr (mc, mk, mf, mv, ms, cnt), am_Emo cap tr gn L D r st lr mon (mc, mk, mf, mv, ms, cnt), am_Em cap tr gn L D r st lr mon (mc, mk, mf, mv, ms, cnt), wt', lm', lk', d2, fun j h => ⟨d1 j h, d3 j h⟩, fun s hs e es => ?_, hst, ?_, ?_, ?_, ?_, ?_, w5, k2⟩
  · refine am_sub_e (d4 se hB (fun t j ht hj g l hb => ?_) (am_sub_r _)) d2
    rw [es, am_oneb (by omega)] at hb
    have ej := of_decide_eq_true hb
    have q := (l4 t j ht hj l).2.1
    rw [ej, e] at q
    exact absurd q (by decide)
  · intro j hj
    rw [hst j hj]
    by_cases c : bt D j = true
    · refine ⟨?_, fun z => absurd (hDN j c) (by omega)⟩
      rw [if_pos c]
      by_cases c2 : par j < 0
      · rw [if_pos c2]; exact Or.inl rfl
      · rw [if_neg c2]; exact Or.inr (Or.inr (Or.inr rfl))
    · rw [if_neg c]; exact hSt j hj
  · intro j hj
    by_cases c : am_Est D r par st lr (mc, mk, mf, mv, ms, cnt) j = 1
    · obtain ⟨n, h1, h2⟩ := am_Em_ok (tr := tr) (gn := gn) (L := L) (D := D) (r := r) (st := st) (lr := lr) (mon := mon) (by omega) h12 hk hm j hj
      exact ⟨n, h1, h2, fun z => absurd c z⟩
    · refine ⟨0, by omega, ?_, fun _ => rfl⟩
      have hx : bt D j = true ∨ ¬ st j = 1 := by
        by_cases c2 : bt D j = true
        · exact Or.inl c2
        · refine Or.inr fun e => c ?_
          rw [hst j hj, if_neg c2]; exact e
      rw [am_Em_n hj hx]
      by_cases c2 : bt D j = true
      · rw [if_pos c2]; rfl
      · rw [if_neg c2]
        obtain ⟨n, h1, h2, h3⟩ := hM j hj
        show mc j = nI 0
        rw [h2, h3 (hx.elim (fun z => absurd z c2) id)]
  · intro j hj e
    obtain ⟨x1, x2⟩ := hst1 j hj e
    rw [w1 j x1]
    exact hW j hj x2
  · refine ⟨fun t j => L t j && !bt D t && !bt D j, fun t j ht hj => ?_, fun t j ht hj => ?_, fun t j ht hj => ?_, fun t j ht hj e => ?_⟩
    · show bt (lm' t) j = (L t j && !bt D t && !bt D j)
      by_cases c : bt D t = true
      · rw [w2 t ht c, b_0, c]; simp
      · rw [eq_false_of_ne_true c]
        by_cases c2 : st t = 1
        · rw [w3 t ht c c2, l1 t j ht hj]; simp
        · rw [w4 t ht c c2, l1 t j ht hj]
          cases x : L t j
          · rfl
          · exact absurd (l4 t j ht hj x).1 c2
    · show lk' (t * 8 + j) = am_b (L t j && !bt D t && !bt D j)
      rw [k1 t j ht hj, l2 t j ht hj]
      cases x : bt D t <;> cases y : bt D j <;> cases z : L t j <;> rfl
    · show (L t j && !bt D t && !bt D j) = (L j t && !bt D j && !bt D t)
      rw [l3 t j ht hj]
      cases bt D t <;> cases bt D j <;> cases L j t <;> rfl
    · rw [Bool.and_eq_true, Bool.and_eq_true] at e
      obtain ⟨⟨e1, e2⟩, e3⟩ := e
      obtain ⟨x1, x2, x3⟩ := l4 t j ht hj e1
      refine ⟨?_, ?_, x3⟩
      · rw [hst t ht, if_neg (by intro z; rw [z] at e2; exact absurd e2 (by decide))]; exact x1
      · rw [hst j hj, if_neg (by intro z; rw [z] at e3; exact absurd e3 (by decide))]; exact x2
  · intro w t hw ht
    rw [am_Emo_f hw ht]
    by_cases c : bt D w = true ∨ (bt D t = true ∧ st w = 1)
    · rw [if_pos c]; exact ⟨0, by omega, rfl, fun z => absurd rfl z⟩
    · rw [if_neg c]
      obtain ⟨k, h1, h2, h3⟩ := hMo w t hw ht
      refine ⟨k, h1, h2, fun z => ?_⟩
      obtain ⟨x1, x2⟩ := h3 z
      rw [hst w hw, hst t ht, if_neg fun e => c (Or.inl e), if_neg fun e => c (Or.inr ⟨e, x1⟩)]
      exact ⟨x1, x2⟩
end CO
end
section
/-! 14: the relation -/
def iC (cc : Nat) (op oa ob oc cel : Nat → Int32) : Prop := ∀ i, i < cc → (∃ o, o ≤ 21 ∧ op i = nI o) ∧ (∃ a, a ≤ 7 ∧ oa i = nI a) ∧ (op i = 12 → (∃ b, b ≤ 6 ∧ ob i = nI b) ∧ (oc i = -1 ∨ ∃ c, c ≤ 100 ∧ oc i = nI c)) ∧ cel (i * 4) = op i ∧ cel (i * 4 + 1) = oa i ∧ cel (i * 4 + 2) = ob i ∧ cel (i * 4 + 3) = oc i
def iT (tc : Nat) (tp tv trd : Nat → Int32) : Prop := ∀ i, i < tc → trd (i * 2) = tp i ∧ trd (i * 2 + 1) = tv i
/-- the children of s, in their order -/
def am_CL (K : List Nat) (par : Nat → Int32) (s : Nat) : List Nat := K.filter (fun x => decide (par x = nI s))
def iKy (K : List Nat) (kn : Nat) (kd : Nat → Int32) : Prop := K.Nodup ∧ kn = K.length ∧ ∀ i x, K[i]? = some x → kd i = nI x
def iKs (K : List Nat) (st par : Nat → Int32) : Prop := (∀ x, x ∈ K → x < 8 ∧ (st x = 1 ∨ st x = 3) ∧ ∃ p, p < 8 ∧ par x = nI p ∧ st p = 2) ∧ (∀ j, j < 8 → ¬ j ∈ K → par j = -1 ∧ ¬ st j = 3)
def am_XL (cn cl : Nat → Int32) (s : Nat) (l : List Nat) : Prop := cn s = nI l.length ∧ ∀ i x, l[i]? = some x → cl (s * 8 + i) = nI x
def iKx (K : List Nat) (st par cn cl : Nat → Int32) : Prop := ∀ s, s < 8 → st s = 2 → am_XL cn cl s (am_CL K par s)
def iRs (now : Nat) (wd rc rk rs : Nat → Int32) (s : Nat) : Prop := ∃ (w c : Nat) (f : Nat → Nat), 1 ≤ w ∧ w ≤ 100 ∧ wd s = nI w ∧ c ≤ 5 ∧ rc s = nI c ∧ (∀ i, i < c → rk (s * 5 + i) = nI (f i) ∧ f i ≤ now) ∧ (∀ i, i + 1 < c → f (i + 1) ≤ f i) ∧ (∀ t, t ≤ 1000 → now < t + w → rs (s * 1001 + t) = nI (am_cn (fun i => decide (f i = t)) c))
def iR (now : Nat) (st sg mx wd rc rk rs : Nat → Int32) : Prop := ∀ s, s < 8 → st s = 2 → (sg s = 0 ∨ sg s = 1 ∨ sg s = 2) ∧ (∃ m, m ≤ 5 ∧ mx s = nI m) ∧ iRs now wd rc rk rs s
def am_I (K : List Nat) (N cap Q CS cc now tc kn : Nat) (fl : Int32) (op oa ob oc st gn lr rg pc tr wt dl mc mk mf mv lm mon par ce ct ca sg mx wd cn cl rc rk tp tv wa dy kd rs lk cel trd : Nat → Int32) (ms cnt : Nat → Int64) : Prop :=
  iS N cap Q CS cc now tc ∧ iC cc op oa ob oc cel ∧ iT tc tp tv trd ∧ iSt N st ∧ iG gn ∧ iM cap st mc ∧ iW st wt dl wa dy ∧ iL st lm lk ∧ iMo st mon ∧ iKy K kn kd ∧ iKs K st par ∧ iKx K st par cn cl ∧ iR now st sg mx wd rc rk rs
def am_R (K : List Nat) (u : SX) (v : SY) : Prop := ∀ P : SX → SY → Prop, (∀ (N cap Q CS cc now tc kn : Nat) (fl : Int32) (op oa ob oc st gn lr rg pc tr wt dl mc mk mf mv lm mon par ce ct ca sg mx wd cn cl rc rk tp tv wa dy kd rs lk cel trd : Nat → Int32) (ms cnt : Nat → Int64), am_I K N cap Q CS cc now tc kn fl op oa ob oc st gn lr rg pc tr wt dl mc mk mf mv lm mon par ce ct ca sg mx wd cn cl rc rk tp tv wa dy kd rs lk cel trd ms cnt → P (fl, nI N, nI cap, nI Q, nI CS, nI cc, nI now, nI tc, op, oa, ob, oc, st, gn, lr, rg, pc, tr, wt, dl, mc, mk, mf, mv, ms, lm, mon, par, ce, ct, ca, sg, mx, wd, cn, cl, rc, rk, tp, tv, cnt) (nI N, nI cap, nI Q, nI CS, nI now, nI cc, nI tc, nI kn, st, gn, lr, pc, wa, dy, tr, par, ce, ct, ca, kd, sg, mx, wd, rs, rg, mon, lk, mc, mk, mf, mv, ms, cel, trd, cnt)) → P u v
theorem am_Ri {K : List Nat} {N cap Q CS cc now tc kn : Nat} {fl : Int32} {op oa ob oc st gn lr rg pc tr wt dl mc mk mf mv lm mon par ce ct ca sg mx wd cn cl rc rk tp tv wa dy kd rs lk cel trd : Nat → Int32} {ms cnt : Nat → Int64} (h : am_I K N cap Q CS cc now tc kn fl op oa ob oc st gn lr rg pc tr wt dl mc mk mf mv lm mon par ce ct ca sg mx wd cn cl rc rk tp tv wa dy kd rs lk cel trd ms cnt) : am_R K (fl, nI N, nI cap, nI Q, nI CS, nI cc, nI now, nI tc, op, oa, ob, oc, st, gn, lr, rg, pc, tr, wt, dl, mc, mk, mf, mv, ms, lm, mon, par, ce, ct, ca, sg, mx, wd, cn, cl, rc, rk, tp, tv, cnt) (nI N, nI cap, nI Q, nI CS, nI now, nI cc, nI tc, nI kn, st, gn, lr, pc, wa, dy, tr, par, ce, ct, ca, kd, sg, mx, wd, rs, rg, mon, lk, mc, mk, mf, mv, ms, cel, trd, cnt) := fun _ f => f N cap Q CS cc now tc kn fl op oa ob oc st gn lr rg pc tr wt dl mc mk mf mv lm mon par ce ct ca sg mx wd cn cl rc rk tp tv wa dy kd rs lk cel trd ms cnt h
/-! lists -/
theorem am_len : ∀ (n : Nat) (l : List Nat), l.Nodup → (∀ x, x ∈ l → x < n) → l.length ≤ n := by
  intro n
  induction n with
  | zero =>
    intro l _ h
    cases l with
    | nil => exact Nat.le_refl 0
    | cons a l => exact absurd (h a List.mem_cons_self) (by omega)
  | succ n ih =>
    intro l hl h
    by_cases c : n ∈ l
    · have k := ih (l.erase n) (hl.erase n) (fun x hx => by
        have z := (hl.mem_erase_iff).mp hx
        have := h x z.2
        have := z.1
        omega)
      rw [List.length_erase_of_mem c] at k
      omega
    · have k := ih l hl (fun x hx => by
        have := h x hx
        have : x ≠ n := fun e => c (e ▸ hx)
        omega)
      omega
theorem am_K8 {K : List Nat} {kn : Nat} {kd st par : Nat → Int32} (h1 : iKy K kn kd) (h2 : iKs K st par) : K.length ≤ 8 := am_len 8 K h1.1 (fun x hx => (h2.1 x hx).1)
theorem am_CL8 {K : List Nat} {par : Nat → Int32} {s : Nat} : (am_CL K par s).length ≤ K.length := List.length_filter_le _ _
theorem am_CLm {K : List Nat} {par : Nat → Int32} {s x : Nat} : x ∈ am_CL K par s ↔ x ∈ K ∧ par x = nI s := by
  unfold am_CL
  rw [List.mem_filter, decide_eq_true_eq]
theorem am_parn {K : List Nat} {st par : Nat → Int32} (h : iKs K st par) (j : Nat) (hj : j < 8) (hn : par j < 0) : par j = -1 := by
  by_cases c : j ∈ K
  · obtain ⟨-, -, p, hp, e, -⟩ := h.1 j c
    rw [e] at hn
    exact absurd hn (nI_pos (by omega))
  · exact (h.2 j hj c).1
end
section
/-! 15: a set of workers ends -/
section ES
variable {N cap Q CS cc now tc kn : Nat} {fl : Int32} {op oa ob oc st gn lr rg pc tr wt dl mc mk mf mv lm mon par ce ct ca sg mx wd cn cl rc rk tp tv wa dy kd rs lk cel trd : Nat → Int32} {ms cnt : Nat → Int64}
theorem yd_388n {post : SY → Prop} {J8 : _} {x3 x4 : Int32} {k : Nat} (h : J8 x3 x4 (nI (k + 1)) (nI N) (nI cap) (nI Q) (nI CS) (nI now) (nI cc) (nI tc) (nI kn) st gn lr pc wa dy tr par ce ct ca kd sg mx wd rs rg mon lk mc mk mf mv ms cel trd cnt) : ∃ n388, wY_end_388 post J8 x4 (nI k) (-1) n388 x3 0 (nI N) (nI cap) (nI Q) (nI CS) (nI now) (nI cc) (nI tc) (nI kn) st gn lr pc wa dy tr par ce ct ca kd sg mx wd rs rg mon lk mc mk mf mv ms cel trd cnt := by
  refine am_lp0 (σ := Unit) (W := fun n i _ => wY_end_388 post J8 x4 (nI k) (-1) n x3 (nI i) (nI N) (nI cap) (nI Q) (nI CS) (nI now) (nI cc) (nI tc) (nI kn) st gn lr pc wa dy tr par ce ct ca kd sg mx wd rs rg mon lk mc mk mf mv ms cel trd cnt) (fun _ s => s) (fun _ _ => True) 8 (s := ()) trivial (fun _ _ _ _ => trivial) (fun n => ?_) (fun n i s hi _ hw => ?_)
  · exact br_t (by decide) (nm_r (nI_1 k) h)
  · exact br_f (nI_ge (b := 8) (by omega) (by omega)) (br_t (by decide) (nm_r (nI_1 i) hw))
theorem am_sxn {st : Nat → Int32} {D : Int32} (h : ∀ j, bt D j = true → ¬ st j = 2) : ∀ n, am_sx st D n = -1 := by
  intro n
  induction n with
  | zero => rfl
  | succ n ih =>
    show (if bt D n = true ∧ st n = 2 then nI n else am_sx st D n) = -1
    rw [if_neg fun z => h n z.1 z.2, ih]
theorem am_sx1 {st : Nat → Int32} {s : Nat} (h : st s = 2) (hs : s < 8) : ∀ n, n ≤ 8 → am_sx st (am_one s) n = if s < n then nI s else -1 := by
  intro n
  induction n with
  | zero => intro _; exact (if_neg (by omega)).symm
  | succ n ih =>
    intro hn
    show (if bt (am_one s) n = true ∧ st n = 2 then nI n else am_sx st (am_one s) n) = _
    rw [am_oneb (by omega), ih (by omega)]
    by_cases e : n = s
    · subst e
      rw [if_pos ⟨decide_eq_true rfl, h⟩, if_pos (by omega)]
    · rw [if_neg fun z => e (of_decide_eq_true z.1)]
      by_cases c : s < n
      · rw [if_pos c, if_pos (by omega)]
      · rw [if_neg c, if_neg (by omega)]
theorem ed_set {K : List Nat} {se r : Int32} (I : am_I K N cap Q CS cc now tc kn fl op oa ob oc st gn lr rg pc tr wt dl mc mk mf mv lm mon par ce ct ca sg mx wd cn cl rc rk tp tv wa dy kd rs lk cel trd ms cnt) (hse : ∀ j, bt se j = true → j < 8 ∧ st j = 1) (hz : ¬ se = 0) : ∃ (D : Int32) (st' lr' mon' : Nat → Int32) (m : ML) (wt' lm' lk' : Nat → Int32), am_I K N cap Q CS cc now tc kn fl op oa ob oc st' gn lr' rg pc tr wt' dl m.1 m.2.1 m.2.2.1 m.2.2.2.1 lm' mon' par ce ct ca sg mx wd cn cl rc rk tp tv wa dy kd rs lk' cel trd m.2.2.2.2.1 m.2.2.2.2.2 ∧ (∀ j, bt se j = true → bt D j = true) ∧ (∀ j, bt D j = true → j < 8 ∧ st j = 1) ∧ (∀ j, j < 8 → st' j = if bt D j = true then (if par j < 0 then 0 else 3) else st j) ∧ (∀ post : SX → Prop, post (fl, nI N, nI cap, nI Q, nI CS, nI cc, nI now, nI tc, op, oa, ob, oc, st', gn, lr', rg, pc, tr, wt', dl, m.1, m.2.1, m.2.2.1, m.2.2.2.1, m.2.2.2.2.1, lm', mon', par, ce, ct, ca, sg, mx, wd, cn, cl, rc, rk, tp, tv, m.2.2.2.2.2) → wpX_endSet post (fl, nI N, nI cap, nI Q, nI CS, nI cc, nI now, nI tc, op, oa, ob, oc, st, gn, lr, rg, pc, tr, wt, dl, mc, mk, mf, mv, ms, lm, mon, par, ce, ct, ca, sg, mx, wd, cn, cl, rc, rk, tp, tv, cnt) se r) ∧ (∀ (post : SY → Prop) n k, 2 ≤ n → k ≤ 1 → post (nI N, nI cap, nI Q, nI CS, nI now, nI cc, nI tc, nI kn, st', gn, lr', pc, wa, dy, tr, par, ce, ct, ca, kd, sg, mx, wd, rs, rg, mon', lk', m.1, m.2.1, m.2.2.1, m.2.2.2.1, m.2.2.2.2.1, cel, trd, m.2.2.2.2.2) → wY_end_8 post n se r (nI k) (nI N) (nI cap) (nI Q) (nI CS) (nI now) (nI cc) (nI tc) (nI kn) st gn lr pc wa dy tr par ce ct ca kd sg mx wd rs rg mon lk mc mk mf mv ms cel trd cnt) := by
  obtain ⟨h1, h2, h3, h4, h5, h6, h7, h8, h9, h10, h11, h12, h13⟩ := I
  obtain ⟨D, st', lr', mon', m, wt', lm', lk', c1, c2, -, c4, c5, c6, c7, c8, c9, cX, cY⟩ := ed_core (fl := fl) (N := N) (cap := cap) (Q := Q) (CS := CS) (cc := cc) (now := now) (tc := tc) (op := op) (oa := oa) (ob := ob) (oc := oc) (st := st) (gn := gn) (lr := lr) (rg := rg) (pc := pc) (tr := tr) (wt := wt) (dl := dl) (mc := mc) (mk := mk) (mf := mf) (mv := mv) (ms := ms) (lm := lm) (mon := mon) (par := par) (ce := ce) (ct := ct) (ca := ca) (sg := sg) (mx := mx) (wd := wd) (cn := cn) (cl := cl) (rc := rc) (rk := rk) (tp := tp) (tv := tv) (cnt := cnt) (kn := kn) (wa := wa) (dy := dy) (kd := kd) (rs := rs) (lk := lk) (cel := cel) (trd := trd) (r := r) h1 h4 h6 h7 h8 h9 (am_parn h11) (fun j h => ⟨(hse j h).1, Or.inl (hse j h).2⟩)
  have d1 : ∀ j, bt D j = true → j < 8 ∧ st j = 1 := fun j h => ⟨(c2 j h).1, (c2 j h).2.elim (fun z => (hse j z).2) id⟩
  have s2 : ∀ s, s < 8 → (st' s = 2 ↔ st s = 2) := fun s hs => by
    rw [c4 s hs]
    by_cases c : bt D s = true
    · rw [if_pos c, (d1 s c).2]
      by_cases c' : par s < 0
      · rw [if_pos c']; decide
      · rw [if_neg c']; decide
    · rw [if_neg c]
  refine ⟨D, st', lr', mon', m, wt', lm', lk', ⟨h1, h2, h3, c5, h5, c6, c7, c8, c9, h10, ⟨fun x hx => ?_, fun j hj hn => ?_⟩, fun s hs e => h12 s hs ((s2 s hs).mp e), fun s hs e => h13 s hs ((s2 s hs).mp e)⟩, c1, d1, c4, cX, fun post n k hn hk hp => ?_⟩
  · obtain ⟨a1, a2, p, a3, a4, a5⟩ := h11.1 x hx
    refine ⟨a1, ?_, p, a3, a4, (s2 p a3).mpr a5⟩
    rw [c4 x a1]
    by_cases c : bt D x = true
    · rw [if_pos c, if_neg (by rw [a4]; exact nI_pos (by omega))]; exact Or.inr rfl
    · rw [if_neg c]; exact a2
  · obtain ⟨a1, a2⟩ := h11.2 j hj hn
    refine ⟨a1, ?_⟩
    rw [c4 j hj]
    by_cases c : bt D j = true
    · rw [if_pos c, if_pos (by rw [a1]; decide)]; decide
    · rw [if_neg c]; exact a2
  · obtain ⟨n', rfl⟩ : ∃ m, n = m + 2 := ⟨n - 2, by omega⟩
    refine br_f (nI_ge (b := 2) (by omega) (by omega)) (br_f hz (cY post _ (nI k) ?_))
    rw [am_sxn (fun j h => by rw [(d1 j h).2]; decide)]
    refine yd_388n ?_
    exact ⟨fun _ => hp, fun _ => br_t rfl hp⟩
end ES
end
section
/-! 16: a child leaves its list -/
def am_d3 (st : Nat → Int32) (c : Nat) : Nat → Int32 := if st c = 3 then upd st c 0 else st
theorem am_get_app {l : List Nat} {a x : Nat} {i : Nat} (h : (l ++ [a])[i]? = some x) : (l[i]? = some x) ∨ (i = l.length ∧ x = a) := by
  by_cases c : i < l.length
  · rw [List.getElem?_append_left c] at h; exact Or.inl h
  · rw [List.getElem?_append_right (by omega)] at h
    cases e : i - l.length with
    | zero =>
      rw [e] at h
      exact Or.inr ⟨by omega, (Option.some.inj h).symm⟩
    | succ n => rw [e] at h; exact absurd h (by simp)
section DR
variable {N cap Q CS cc now tc kn : Nat} {fl : Int32} {op oa ob oc st gn lr rg pc tr wt dl mc mk mf mv lm mon par ce ct ca sg mx wd cn cl rc rk tp tv wa dy kd rs lk cel trd : Nat → Int32} {ms cnt : Nat → Int64}
theorem xd_15 {post : SX → Prop} {s len c p : Nat} (hs : s < 8) (h1 : 1 ≤ len) (h8 : len ≤ 8) (hcn : cn s = nI len) (hc8 : c < 8) (h : post (fl, nI N, nI cap, nI Q, nI CS, nI cc, nI now, nI tc, op, oa, ob, oc, upd st c 0, gn, lr, rg, pc, tr, wt, dl, mc, mk, mf, mv, ms, lm, mon, upd par c (-1), ce, ct, ca, sg, mx, wd, upd cn s (nI (len - 1)), am_dn cl p (s * 8 + (len - 1)), rc, rk, tp, tv, cnt)) : ∀ d x n, x + d = len - 1 → p ≤ s * 8 + x → d < n → wX_dropChild_15 post (nI s) (nI c) fl (nI N) (nI cap) (nI Q) (nI CS) (nI cc) (nI now) (nI tc) n (nI x) op oa ob oc st gn lr rg pc tr wt dl mc mk mf mv ms lm mon par ce ct ca sg mx wd cn (am_dn cl p (s * 8 + x)) rc rk tp tv cnt := by
  have i1 : vp_in (nI s) 8 := vp_in_nI hs (by omega)
  have e1 : (nI s).toNatClampNeg = s := nI_clamp (by omega)
  have e2 : cn (nI s).toNatClampNeg - 1 = nI (len - 1) := by rw [e1, hcn, am_s1 (by omega)]
  intro d
  induction d with
  | zero =>
    intro x n hx hpx hn
    obtain ⟨m, rfl⟩ : ∃ m, n = m + 1 := ⟨n - 1, by omega⟩
    obtain rfl : x = len - 1 := hx
    refine ⟨i1, br_t (by rw [e2]; exact Int32.le_refl _) ⟨i1, i1, nm_r (e' := upd cn s (nI (len - 1))) (by rw [e2, e1]) (xe_free hc8 h)⟩⟩
  | succ d ih =>
    intro x n hx hpx hn
    obtain ⟨m, rfl⟩ : ∃ m, n = m + 1 := ⟨n - 1, by omega⟩
    have e3 : nI s * 8 + nI x + 1 = nI (s * 8 + x + 1) := by rw [am_8, nI_1]
    refine ⟨i1, br_f (by rw [e2]; exact nI_ge (by omega) (by omega)) ⟨pk_in (s * 8 + x + 1) 64 (by omega) e3, pk_in (s * 8 + x) 64 (by omega) (am_8 s x), nm_r (e' := am_dn cl p (s * 8 + (x + 1))) ?_ (nm_r (nI_1 x) (ih (x + 1) m (by omega) (by omega) (by omega)))⟩⟩
    rw [e3, am_8, nI_clamp (by omega), nI_clamp (by omega), am_dns cl hpx]
    rfl
theorem xd_drop {post : SX → Prop} {s len c i : Nat} (hs : s < 8) (h8 : len ≤ 8) (hi : i < len) (hcn : cn s = nI len) (hc : cl (s * 8 + i) = nI c) (hc8 : c < 8) (h : post (fl, nI N, nI cap, nI Q, nI CS, nI cc, nI now, nI tc, op, oa, ob, oc, upd st c 0, gn, lr, rg, pc, tr, wt, dl, mc, mk, mf, mv, ms, lm, mon, upd par c (-1), ce, ct, ca, sg, mx, wd, upd cn s (nI (len - 1)), am_dn cl (s * 8 + i) (s * 8 + (len - 1)), rc, rk, tp, tv, cnt)) : wpX_dropChild post (fl, nI N, nI cap, nI Q, nI CS, nI cc, nI now, nI tc, op, oa, ob, oc, st, gn, lr, rg, pc, tr, wt, dl, mc, mk, mf, mv, ms, lm, mon, par, ce, ct, ca, sg, mx, wd, cn, cl, rc, rk, tp, tv, cnt) (nI s) (nI i) := by
  refine ⟨pk_in (s * 8 + i) 64 (by omega) (am_8 s i), nm_r (e' := nI c) (by rw [am_8, nI_clamp (by omega), hc]) ⟨len, ?_⟩⟩
  have z := xd_15 (post := post) (p := s * 8 + i) hs (by omega) h8 hcn hc8 h (len - 1 - i) i len (by omega) (by omega) (by omega)
  rw [am_dn0] at z
  exact z
theorem yd_drop_l {c : Nat} (hc8 : c < 8) : ∀ (K2 K1 : List Nat) (kd : Nat → Int32), K1.length + K2.length ≤ 8 → (∀ x, x ∈ K2 → x < 8) → (∀ j x, (K1.filter (fun y => decide (y ≠ c)))[j]? = some x → kd j = nI x) → (∀ j x, K2[j]? = some x → kd (K1.length + j) = nI x) → ∃ kd' : Nat → Int32, (∀ j x, ((K1 ++ K2).filter (fun y => decide (y ≠ c)))[j]? = some x → kd' j = nI x) ∧ ∀ (post : SY → Prop) n, K2.length < n → kn = K1.length + K2.length → post (nI N, nI cap, nI Q, nI CS, nI now, nI cc, nI tc, nI (((K1 ++ K2).filter (fun y => decide (y ≠ c))).length), am_d3 st c, gn, lr, pc, wa, dy, tr, upd par c (-1), ce, ct, ca, kd', sg, mx, wd, rs, rg, mon, lk, mc, mk, mf, mv, ms, cel, trd, cnt) → wY_drop_4 post (nI c) (nI N) (nI cap) (nI Q) (nI CS) (nI now) (nI cc) (nI tc) (nI kn) n (nI (K1.filter (fun y => decide (y ≠ c))).length) (nI K1.length) st gn lr pc wa dy tr par ce ct ca kd sg mx wd rs rg mon lk mc mk mf mv ms cel trd cnt := by
  have i1 : vp_in (nI c) 8 := vp_in_nI hc8 (by omega)
  have e1 : (nI c).toNatClampNeg = c := nI_clamp (by omega)
  intro K2
  induction K2 with
  | nil =>
    intro K1 kd hl _ h1 _
    rw [List.append_nil]
    refine ⟨kd, h1, fun post n hn hk h => ?_⟩
    obtain ⟨m, rfl⟩ : ∃ m, n = m + 1 := ⟨n - 1, by omega⟩
    rw [hk]
    refine br_t (Int32.le_refl _) ⟨i1, nm_r (e' := upd par c (-1)) (by rw [e1]) ⟨i1, ?_⟩⟩
    rw [e1]
    unfold am_d3 at h
    by_cases q : st c = 3
    · rw [if_pos q] at h
      exact br_t q ⟨i1, nm_e h⟩
    · rw [if_neg q] at h
      exact br_f q h
  | cons x K2 ih =>
    intro K1 kd hl hx8 h1 h2
    have hx : kd K1.length = nI x := h2 0 x rfl
    have x8 : x < 8 := hx8 x List.mem_cons_self
    have i2 : vp_in (nI K1.length) 8 := vp_in_nI (by rw [List.length_cons] at hl; omega) (by omega)
    have e2 : (nI K1.length).toNatClampNeg = K1.length := nI_clamp (by rw [List.length_cons] at hl; omega)
    have ea : K1 ++ x :: K2 = (K1 ++ [x]) ++ K2 := by rw [List.append_assoc]; rfl
    rw [ea]
    rw [List.length_cons] at hl
    have hw : (K1.filter (fun y => decide (y ≠ c))).length ≤ K1.length := List.length_filter_le _ _
    by_cases q : x = c
    · have ef : (K1 ++ [x]).filter (fun y => decide (y ≠ c)) = K1.filter (fun y => decide (y ≠ c)) := by
        rw [List.filter_append, List.filter_cons_of_neg (by rw [q]; simp), List.filter_nil, List.append_nil]
      obtain ⟨kd', z1, z2⟩ := ih (K1 ++ [x]) kd (by rw [List.length_append, List.length_singleton]; omega) (fun y hy => hx8 y (List.mem_cons_of_mem _ hy)) (by rw [ef]; exact h1) (fun j y hy => by
        rw [List.length_append, List.length_singleton, Nat.add_assoc, Nat.add_comm 1 j]
        exact h2 (j + 1) y hy)
      refine ⟨kd', z1, fun post n hn hk h => ?_⟩
      obtain ⟨m, rfl⟩ : ∃ m, n = m + 1 := ⟨n - 1, by omega⟩
      rw [List.length_cons] at hn
      have z := z2 post m (by omega) (by rw [hk, List.length_cons, List.length_append, List.length_singleton]; omega) h
      rw [ef, List.length_append, List.length_singleton] at z
      refine br_f (nI_ge (by rw [hk, List.length_cons]; omega) (by rw [hk, List.length_cons]; omega)) ⟨i2, ?_⟩
      rw [e2, hx]
      exact br_t (by rw [q]) (nm_r (nI_1 _) z)
    · have ef : (K1 ++ [x]).filter (fun y => decide (y ≠ c)) = K1.filter (fun y => decide (y ≠ c)) ++ [x] := by
        rw [List.filter_append, List.filter_cons_of_pos (by simp [q]), List.filter_nil]
      obtain ⟨kd', z1, z2⟩ := ih (K1 ++ [x]) (upd kd (K1.filter (fun y => decide (y ≠ c))).length (nI x)) (by rw [List.length_append, List.length_singleton]; omega) (fun y hy => hx8 y (List.mem_cons_of_mem _ hy)) (fun j y hy => by
        rw [ef] at hy
        rcases am_get_app hy with hy | ⟨e3, e4⟩
        · have hj : j < (K1.filter (fun y => decide (y ≠ c))).length := by
            refine Classical.byContradiction fun no => ?_
            rw [List.getElem?_eq_none (by omega)] at hy
            exact absurd hy (by simp)
          rw [pk_un (by omega)]; exact h1 j y hy
        · rw [e3, pk_us, e4]) (fun j y hy => by
        rw [List.length_append, List.length_singleton, pk_un (by omega), Nat.add_assoc, Nat.add_comm 1 j]
        exact h2 (j + 1) y hy)
      refine ⟨kd', z1, fun post n hn hk h => ?_⟩
      obtain ⟨m, rfl⟩ : ∃ m, n = m + 1 := ⟨n - 1, by omega⟩
      rw [List.length_cons] at hn
      have z := z2 post m (by omega) (by rw [hk, List.length_cons, List.length_append, List.length_singleton]; omega) h
      rw [ef, List.length_append, List.length_append, List.length_singleton] at z
      refine br_f (nI_ge (by rw [hk, List.length_cons]; omega) (by rw [hk, List.length_cons]; omega)) ⟨i2, ?_⟩
      rw [e2, hx]
      refine br_f (fun w => q (am_im w (by omega) (by omega))) ⟨i2, vp_in_nI (by omega) (by omega), nm_r (e' := upd kd (K1.filter (fun y => decide (y ≠ c))).length (nI x)) (by rw [nI_clamp (by omega)]) (nm_r (nI_1 _) (nm_r (nI_1 _) z))⟩
theorem yd_drop {K : List Nat} {c : Nat} (hc8 : c < 8) (hK : iKy K kn kd) (h8 : ∀ x, x ∈ K → x < 8) : ∃ kd' : Nat → Int32, iKy (K.filter (fun y => decide (y ≠ c))) (K.filter (fun y => decide (y ≠ c))).length kd' ∧ ∀ post : SY → Prop, post (nI N, nI cap, nI Q, nI CS, nI now, nI cc, nI tc, nI ((K.filter (fun y => decide (y ≠ c))).length), am_d3 st c, gn, lr, pc, wa, dy, tr, upd par c (-1), ce, ct, ca, kd', sg, mx, wd, rs, rg, mon, lk, mc, mk, mf, mv, ms, cel, trd, cnt) → wpY_drop post (nI N, nI cap, nI Q, nI CS, nI now, nI cc, nI tc, nI kn, st, gn, lr, pc, wa, dy, tr, par, ce, ct, ca, kd, sg, mx, wd, rs, rg, mon, lk, mc, mk, mf, mv, ms, cel, trd, cnt) (nI c) := by
  obtain ⟨k1, k2, k3⟩ := hK
  have hl : K.length ≤ 8 := am_len 8 K k1 h8
  obtain ⟨kd', z1, z2⟩ := yd_drop_l (N := N) (cap := cap) (Q := Q) (CS := CS) (now := now) (cc := cc) (tc := tc) (kn := kn) (st := st) (gn := gn) (lr := lr) (pc := pc) (wa := wa) (dy := dy) (tr := tr) (par := par) (ce := ce) (ct := ct) (ca := ca) (sg := sg) (mx := mx) (wd := wd) (rs := rs) (rg := rg) (mon := mon) (lk := lk) (mc := mc) (mk := mk) (mf := mf) (mv := mv) (ms := ms) (cel := cel) (trd := trd) (cnt := cnt) hc8 K [] kd (by rw [List.length_nil]; omega) h8 (fun j x h => absurd h (by simp)) (fun j x h => by rw [List.length_nil, Nat.zero_add]; exact k3 j x h)
  rw [List.nil_append] at z1
  refine ⟨kd', ⟨k1.filter _, rfl, z1⟩, fun post h => ⟨K.length + 1, ?_⟩⟩
  exact z2 post (K.length + 1) (by omega) (by rw [List.length_nil, Nat.zero_add]; exact k2) h
end DR
end
section
/-! 17: a supervisor ends, and then its children -/
def am_e3 (s : Int32 × (Nat → Int32) × (Nat → Int32)) (x : Nat) : Int32 × (Nat → Int32) × (Nat → Int32) :=
  if s.2.1 x = 1 then (s.1 ||| am_one x, s.2.1, upd s.2.2 x (-1)) else (s.1, upd s.2.1 x 0, upd s.2.2 x (-1))
theorem am_e3_f : ∀ (l : List Nat) (s : Int32 × (Nat → Int32) × (Nat → Int32)), l.Nodup → (∀ x, x ∈ l → x < 8) → (∀ j, bt (l.foldl am_e3 s).1 j = (bt s.1 j || decide (j ∈ l ∧ s.2.1 j = 1))) ∧ (∀ j, (l.foldl am_e3 s).2.1 j = if j ∈ l ∧ ¬ s.2.1 j = 1 then 0 else s.2.1 j) ∧ (∀ j, (l.foldl am_e3 s).2.2 j = if j ∈ l then -1 else s.2.2 j) := by
  intro l
  induction l with
  | nil =>
    intro s _ _
    refine ⟨fun j => ?_, fun j => ?_, fun j => ?_⟩
    · rw [decide_eq_false (by simp)]; exact (Bool.or_false _).symm
    · exact (if_neg (by simp)).symm
    · exact (if_neg (by simp)).symm
  | cons x l ih =>
    intro s hn h8
    have hx : ¬ x ∈ l := (List.nodup_cons.mp hn).1
    obtain ⟨k1, k2, k3⟩ := ih (am_e3 s x) (List.nodup_cons.mp hn).2 (fun y hy => h8 y (List.mem_cons_of_mem _ hy))
    have a1 : ∀ j, j ≠ x → (am_e3 s x).2.1 j = s.2.1 j := fun j hj => by
      unfold am_e3
      split
      · rfl
      · exact pk_un hj
    have a2 : ∀ j, (am_e3 s x).2.2 j = if j = x then -1 else s.2.2 j := fun j => by
      unfold am_e3
      split <;> rfl
    have a3 : ∀ j, bt (am_e3 s x).1 j = (bt s.1 j || decide (j = x ∧ s.2.1 x = 1)) := fun j => by
      unfold am_e3
      by_cases c : s.2.1 x = 1
      · rw [if_pos c]
        show bt (s.1 ||| am_one x) j = _
        have := h8 x List.mem_cons_self
        rw [am_orb (by omega)]
        exact congrArg _ (decide_eq_decide.mpr ⟨fun z => ⟨z, c⟩, fun z => z.1⟩)
      · rw [if_neg c, decide_eq_false fun z => c z.2]
        exact (Bool.or_false _).symm
    rw [List.foldl_cons]
    refine ⟨fun j => ?_, fun j => ?_, fun j => ?_⟩
    · rw [k1 j, a3 j, Bool.or_assoc]
      refine congrArg _ ?_
      rw [← Bool.decide_or]
      refine decide_eq_decide.mpr ⟨fun z => ?_, fun z => ?_⟩
      · rcases z with z | z
        · exact ⟨by rw [z.1]; exact List.mem_cons_self, by rw [z.1]; exact z.2⟩
        · have : j ≠ x := fun e => hx (e ▸ z.1)
          rw [a1 j this] at z
          exact ⟨List.mem_cons_of_mem _ z.1, z.2⟩
      · rcases List.mem_cons.mp z.1 with e | e
        · exact Or.inl ⟨e, by rw [← e]; exact z.2⟩
        · have : j ≠ x := fun w => hx (w ▸ e)
          exact Or.inr ⟨e, by rw [a1 j this]; exact z.2⟩
    · rw [k2 j]
      by_cases e : j = x
      · subst e
        rw [if_neg fun z => hx z.1]
        unfold am_e3
        by_cases c : s.2.1 j = 1
        · rw [if_pos c, if_neg fun z => z.2 c]
        · rw [if_neg c, if_pos ⟨List.mem_cons_self, c⟩]
          exact pk_us
      · rw [a1 j e]
        by_cases c : j ∈ l ∧ ¬ s.2.1 j = 1
        · rw [if_pos c, if_pos ⟨List.mem_cons_of_mem _ c.1, c.2⟩]
        · rw [if_neg c, if_neg fun z => c ⟨(List.mem_cons.mp z.1).elim (fun w => absurd w e) id, z.2⟩]
    · rw [k3 j, a2 j]
      by_cases c : j ∈ l
      · rw [if_pos c, if_pos (List.mem_cons_of_mem _ c)]
      · rw [if_neg c]
        by_cases e : j = x
        · rw [if_pos e, if_pos (by rw [e]; exact List.mem_cons_self)]
        · rw [if_neg e, if_neg fun z => (List.mem_cons.mp z).elim e c]
def am_pz (par : Nat → Int32) (s x : Nat) : Nat → Int32 := fun j => if j < x ∧ par j = nI s then -1 else par j
def am_sz (st par : Nat → Int32) (s x : Nat) : Nat → Int32 := fun j => if j < x ∧ par j = nI s ∧ st j = 3 then 0 else st j
def am_Kz (K : List Nat) (par : Nat → Int32) (s x : Nat) : List Nat := K.filter (fun y => !decide (y < x ∧ par y = nI s))
theorem am_pz0 (par : Nat → Int32) (s : Nat) : am_pz par s 0 = par := funext fun j => if_neg (by omega)
theorem am_sz0 (st par : Nat → Int32) (s : Nat) : am_sz st par s 0 = st := funext fun j => if_neg (by omega)
theorem am_Kz0 (K : List Nat) (par : Nat → Int32) (s : Nat) : am_Kz K par s 0 = K := by
  unfold am_Kz
  exact List.filter_eq_self.mpr fun x _ => by rw [decide_eq_false (by omega)]; rfl
theorem am_pzx {par : Nat → Int32} {s x : Nat} : am_pz par s x x = par x := if_neg (by omega)
theorem am_szx {st par : Nat → Int32} {s x : Nat} : am_sz st par s x x = st x := if_neg (by omega)
theorem am_pzn {par : Nat → Int32} {s x : Nat} (h : ¬ par x = nI s) : am_pz par s (x + 1) = am_pz par s x := by
  funext j
  unfold am_pz
  by_cases c : j < x ∧ par j = nI s
  · rw [if_pos c, if_pos ⟨by omega, c.2⟩]
  · rw [if_neg c, if_neg fun z => c ⟨by
      have : j ≠ x := fun e => h (e ▸ z.2)
      omega, z.2⟩]
theorem am_pzs {par : Nat → Int32} {s x : Nat} (h : par x = nI s) : upd (am_pz par s x) x (-1) = am_pz par s (x + 1) := by
  funext j
  unfold am_pz upd
  dsimp only
  by_cases e : j = x
  · subst e; rw [if_pos rfl, if_pos ⟨by omega, h⟩]
  · rw [if_neg e]
    by_cases c : j < x ∧ par j = nI s
    · rw [if_pos c, if_pos ⟨by omega, c.2⟩]
    · rw [if_neg c, if_neg fun z => c ⟨by omega, z.2⟩]
theorem am_szn {st par : Nat → Int32} {s x : Nat} (h : ¬ (par x = nI s ∧ st x = 3)) : am_sz st par s (x + 1) = am_sz st par s x := by
  funext j
  unfold am_sz
  by_cases c : j < x ∧ par j = nI s ∧ st j = 3
  · rw [if_pos c, if_pos ⟨by omega, c.2⟩]
  · rw [if_neg c, if_neg fun z => c ⟨by
      have : j ≠ x := fun e => h (e ▸ z.2)
      omega, z.2⟩]
theorem am_szs {st par : Nat → Int32} {s x : Nat} (h : par x = nI s) : am_d3 (am_sz st par s x) x = am_sz st par s (x + 1) := by
  unfold am_d3
  rw [am_szx]
  by_cases c : st x = 3
  · rw [if_pos c]
    funext j
    unfold am_sz upd
    dsimp only
    by_cases e : j = x
    · subst e; rw [if_pos rfl, if_pos ⟨by omega, h, c⟩]
    · rw [if_neg e]
      by_cases c2 : j < x ∧ par j = nI s ∧ st j = 3
      · rw [if_pos c2, if_pos ⟨by omega, c2.2⟩]
      · rw [if_neg c2, if_neg fun z => c2 ⟨by omega, z.2⟩]
  · rw [if_neg c, am_szn fun z => c z.2]
theorem am_Kzn {K : List Nat} {par : Nat → Int32} {s x : Nat} (h : ¬ par x = nI s) : am_Kz K par s (x + 1) = am_Kz K par s x := by
  unfold am_Kz
  refine List.filter_congr fun y _ => ?_
  refine congrArg _ (decide_eq_decide.mpr ⟨fun z => ⟨?_, z.2⟩, fun z => ⟨by omega, z.2⟩⟩)
  have : y ≠ x := fun e => h (e ▸ z.2)
  omega
theorem am_Kzs {K : List Nat} {par : Nat → Int32} {s x : Nat} (h : par x = nI s) : (am_Kz K par s x).filter (fun y => decide (y ≠ x)) = am_Kz K par s (x + 1) := by
  unfold am_Kz
  rw [List.filter_filter]
  refine List.filter_congr fun y _ => ?_
  by_cases e : y = x
  · subst e
    rw [decide_eq_false (p := y ≠ y) (by simp), decide_eq_true (p := y < y + 1 ∧ par y = nI s) ⟨by omega, h⟩]; rfl
  · rw [decide_eq_true (p := y ≠ x) e, Bool.true_and]
    exact congrArg _ (decide_eq_decide.mpr ⟨fun z => ⟨by omega, z.2⟩, fun z => ⟨by omega, z.2⟩⟩)
section SU
variable {N cap Q CS cc now tc kn : Nat} {fl : Int32} {op oa ob oc st gn lr rg pc tr wt dl mc mk mf mv lm mon par ce ct ca sg mx wd cn cl rc rk tp tv wa dy kd rs lk cel trd : Nat → Int32} {ms cnt : Nat → Int64}
theorem xu_13 {post : SX → Prop} {s len : Nat} (hs : s < 8) (hcn : cn s = nI len) (h8 : len ≤ 8) : ∀ (l : List Nat) (i n : Nat) (q : Int32 × (Nat → Int32) × (Nat → Int32)), i + l.length = len → l.length < n → (∀ x, x ∈ l → x < 8) → (∀ j x, l[j]? = some x → cl (s * 8 + (i + j)) = nI x) → (∀ f, wX_endSupervisor_13 post (nI s) (f + 1) (l.foldl am_e3 q).1 (nI len) fl (nI N) (nI cap) (nI Q) (nI CS) (nI cc) (nI now) (nI tc) op oa ob oc ((l.foldl am_e3 q).2.1) gn lr rg pc tr wt dl mc mk mf mv ms lm mon ((l.foldl am_e3 q).2.2) ce ct ca sg mx wd cn cl rc rk tp tv cnt) → wX_endSupervisor_13 post (nI s) n q.1 (nI i) fl (nI N) (nI cap) (nI Q) (nI CS) (nI cc) (nI now) (nI tc) op oa ob oc q.2.1 gn lr rg pc tr wt dl mc mk mf mv ms lm mon q.2.2 ce ct ca sg mx wd cn cl rc rk tp tv cnt := by
  have i1 : vp_in (nI s) 8 := vp_in_nI hs (by omega)
  have e1 : (nI s).toNatClampNeg = s := nI_clamp (by omega)
  intro l
  induction l with
  | nil =>
    intro i n q hi hn _ _ h
    obtain ⟨m, rfl⟩ : ∃ m, n = m + 1 := ⟨n - 1, by omega⟩
    obtain rfl : i = len := hi
    exact h m
  | cons x l ih =>
    intro i n q hi hn hx hcl h
    obtain ⟨m, rfl⟩ : ∃ m, n = m + 1 := ⟨n - 1, by omega⟩
    rw [List.length_cons] at hi hn
    have x8 : x < 8 := hx x List.mem_cons_self
    have i2 : vp_in (nI x) 8 := vp_in_nI x8 (by omega)
    have e2 : (nI x).toNatClampNeg = x := nI_clamp (by omega)
    have z := ih (i + 1) m (am_e3 q x) (by omega) (by omega) (fun y hy => hx y (List.mem_cons_of_mem _ hy)) (fun j y hy => by
      have := hcl (j + 1) y hy
      rw [show i + (j + 1) = i + 1 + j by omega] at this
      exact this) h
    refine ⟨i1, br_f (by rw [e1, hcn]; exact nI_ge (by omega) (by omega)) ⟨pk_in (s * 8 + i) 64 (by omega) (am_8 s i), nm_r (e' := nI x) (by rw [am_8, nI_clamp (by omega)]; exact hcl 0 x rfl) ⟨i2, ?_⟩⟩⟩
    rw [e2]
    unfold am_e3 at z
    by_cases c : q.2.1 x = 1
    · rw [if_pos c] at z
      exact br_t c (nm_e ⟨i2, nm_e (nm_r (nI_1 i) z)⟩)
    · rw [if_neg c] at z
      exact br_f c (xe_free x8 (nm_r (nI_1 i) z))
theorem yu_388 {K : List Nat} {s : Nat} (hs : s < 8) (h8 : ∀ x, x ∈ K → x < 8) : ∀ dd x (kd : Nat → Int32) (d : Int32), x + dd = 8 → iKy (am_Kz K par s x) (am_Kz K par s x).length kd → (∀ j, bt d j = decide (j < x ∧ par j = nI s ∧ st j = 1)) → ∃ (kd' : Nat → Int32) (d' : Int32), iKy (am_Kz K par s 8) (am_Kz K par s 8).length kd' ∧ (∀ j, bt d' j = decide (j < 8 ∧ par j = nI s ∧ st j = 1)) ∧ ∀ (post : SY → Prop) J8 (x4 : Int32) k n, dd < n → J8 d' x4 (nI (k + 1)) (nI N) (nI cap) (nI Q) (nI CS) (nI now) (nI cc) (nI tc) (nI ((am_Kz K par s 8).length)) (am_sz st par s 8) gn lr pc wa dy tr (am_pz par s 8) ce ct ca kd' sg mx wd rs rg mon lk mc mk mf mv ms cel trd cnt → wY_end_388 post J8 x4 (nI k) (nI s) n d (nI x) (nI N) (nI cap) (nI Q) (nI CS) (nI now) (nI cc) (nI tc) (nI ((am_Kz K par s x).length)) (am_sz st par s x) gn lr pc wa dy tr (am_pz par s x) ce ct ca kd sg mx wd rs rg mon lk mc mk mf mv ms cel trd cnt := by
  intro dd
  induction dd with
  | zero =>
    intro x kd d hx hk hd
    obtain rfl : x = 8 := hx
    refine ⟨kd, d, hk, hd, fun post J8 x4 k n hn h => ?_⟩
    obtain ⟨m, rfl⟩ : ∃ m, n = m + 1 := ⟨n - 1, by omega⟩
    exact br_t (by decide) (nm_r (nI_1 k) h)
  | succ dd ih =>
    intro x kd d hx hk hd
    have i1 : vp_in (nI x) 8 := vp_in_nI (by omega) (by omega)
    have e1 : (nI x).toNatClampNeg = x := nI_clamp (by omega)
    by_cases c : par x = nI s
    · obtain ⟨kd1, y1, y2⟩ := yd_drop (N := N) (cap := cap) (Q := Q) (CS := CS) (now := now) (cc := cc) (tc := tc) (kn := (am_Kz K par s x).length) (st := am_sz st par s x) (gn := gn) (lr := lr) (pc := pc) (wa := wa) (dy := dy) (tr := tr) (par := am_pz par s x) (ce := ce) (ct := ct) (ca := ca) (kd := kd) (sg := sg) (mx := mx) (wd := wd) (rs := rs) (rg := rg) (mon := mon) (lk := lk) (mc := mc) (mk := mk) (mf := mf) (mv := mv) (ms := ms) (cel := cel) (trd := trd) (cnt := cnt) (c := x) (by omega) hk (fun y hy => h8 y (List.mem_filter.mp hy).1)
      rw [am_Kzs c] at y1
      have hd1 : ∀ d1 : Int32, (d1 = if st x = 1 then d ||| am_one x else d) → ∀ j, bt d1 j = decide (j < x + 1 ∧ par j = nI s ∧ st j = 1) := fun d1 e j => by
        rw [e]
        by_cases c1 : st x = 1
        · rw [if_pos c1, am_orb (by omega), hd j, ← Bool.decide_or]
          refine decide_eq_decide.mpr ⟨fun z => ?_, fun z => ?_⟩
          · rcases z with z | z
            · exact ⟨by omega, z.2⟩
            · rw [z]; exact ⟨by omega, c, c1⟩
          · by_cases w : j = x
            · exact Or.inr w
            · exact Or.inl ⟨by omega, z.2⟩
        · rw [if_neg c1, hd j]
          refine decide_eq_decide.mpr ⟨fun z => ⟨by omega, z.2⟩, fun z => ⟨?_, z.2⟩⟩
          have : j ≠ x := fun e => c1 (e ▸ z.2.2)
          omega
      obtain ⟨kd', d', z1, z2, z3⟩ := ih (x + 1) kd1 (if st x = 1 then d ||| am_one x else d) (by omega) y1 (hd1 _ rfl)
      refine ⟨kd', d', z1, z2, fun post J8 x4 k n hn h => ?_⟩
      obtain ⟨m, rfl⟩ : ∃ m, n = m + 1 := ⟨n - 1, by omega⟩
      have z := z3 post J8 x4 k m (by omega) h
      refine br_f (nI_ge (b := 8) (by omega) (by omega)) (br_f (nI_pos (by omega)) ⟨i1, ?_⟩)
      rw [e1, am_pzx, am_szx]
      refine br_t c ⟨i1, ?_⟩
      by_cases c1 : st x = 1
      · rw [if_pos c1] at z
        refine br_t c1 (nm_e (y2 _ ?_))
        rw [am_pzs c, am_szs c, am_Kzs c]
        exact nm_r (nI_1 x) z
      · rw [if_neg c1] at z
        refine br_f c1 (y2 _ ?_)
        rw [am_pzs c, am_szs c, am_Kzs c]
        exact nm_r (nI_1 x) z
    · obtain ⟨kd', d', z1, z2, z3⟩ := ih (x + 1) kd d (by omega) (by rw [am_Kzn c]; exact hk) (fun j => by
        rw [hd j]
        refine decide_eq_decide.mpr ⟨fun z => ⟨by omega, z.2⟩, fun z => ⟨?_, z.2⟩⟩
        have : j ≠ x := fun e => c (e ▸ z.2.1)
        omega)
      refine ⟨kd', d', z1, z2, fun post J8 x4 k n hn h => ?_⟩
      obtain ⟨m, rfl⟩ : ∃ m, n = m + 1 := ⟨n - 1, by omega⟩
      have z := z3 post J8 x4 k m (by omega) h
      rw [am_Kzn c, am_pzn c, am_szn fun z => c z.1] at z
      refine br_f (nI_ge (b := 8) (by omega) (by omega)) (br_f (nI_pos (by omega)) ⟨i1, ?_⟩)
      rw [e1, am_pzx]
      exact br_f c (nm_r (nI_1 x) z)
end SU
end
section
/-! 18: a supervisor ends: both sides -/
theorem am_tM {cap : Nat} {st st' mc : Nat → Int32} (h : iM cap st mc) (e : ∀ j, j < 8 → (st' j = 1 ↔ st j = 1)) : iM cap st' mc := fun j hj => by
  obtain ⟨n, a, b, c⟩ := h j hj
  exact ⟨n, a, b, fun z => c fun w => z ((e j hj).mpr w)⟩
theorem am_tW {st st' wt dl wa dy : Nat → Int32} (h : iW st wt dl wa dy) (e : ∀ j, j < 8 → st' j = 1 → st j = 1) : iW st' wt dl wa dy := fun j hj z => h j hj (e j hj z)
theorem am_tL {st st' lm lk : Nat → Int32} (h : iL st lm lk) (e : ∀ j, j < 8 → st j = 1 → st' j = 1) : iL st' lm lk := by
  obtain ⟨L, a, b, c, d⟩ := h
  exact ⟨L, a, b, c, fun t j ht hj z => ⟨e t ht (d t j ht hj z).1, e j hj (d t j ht hj z).2.1, (d t j ht hj z).2.2⟩⟩
theorem am_tMo {st st' mon : Nat → Int32} (h : iMo st mon) (e : ∀ j, j < 8 → st j = 1 → st' j = 1) (e2 : ∀ j, j < 8 → st j = 2 → st' j = 2) : iMo st' mon := fun w t hw ht => by
  obtain ⟨k, a, b, c⟩ := h w t hw ht
  exact ⟨k, a, b, fun z => ⟨e w hw (c z).1, (c z).2.imp (e t ht) (e2 t ht)⟩⟩
theorem am_one_ne {s : Nat} (hs : s < 32) : ¬ am_one s = 0 := fun z => by
  have q := (am_z.mp z) s hs
  rw [am_oneb hs, decide_eq_true rfl] at q
  exact absurd q (by decide)
theorem am_nm1 {p : Nat} (h : p < 2 ^ 31) : ¬ (-1 : Int32) = nI p := fun z => am_ne1 h z.symm
section S2
variable {N cap Q CS cc now tc kn : Nat} {fl : Int32} {op oa ob oc st gn lr rg pc tr wt dl mc mk mf mv lm mon par ce ct ca sg mx wd cn cl rc rk tp tv wa dy kd rs lk cel trd : Nat → Int32} {ms cnt : Nat → Int64}
theorem ed_sup {K : List Nat} {s : Nat} {r : Int32} (I : am_I K N cap Q CS cc now tc kn fl op oa ob oc st gn lr rg pc tr wt dl mc mk mf mv lm mon par ce ct ca sg mx wd cn cl rc rk tp tv wa dy kd rs lk cel trd ms cnt) (hs : s < 8) (hs2 : st s = 2) : ∃ (K' : List Nat) (st' lr' mon' : Nat → Int32) (m : ML) (wt' lm' lk' par' kd' : Nat → Int32), am_I K' N cap Q CS cc now tc K'.length fl op oa ob oc st' gn lr' rg pc tr wt' dl m.1 m.2.1 m.2.2.1 m.2.2.2.1 lm' mon' par' ce ct ca sg mx wd (upd cn s 0) cl (upd rc s 0) rk tp tv wa dy kd' rs lk' cel trd m.2.2.2.2.1 m.2.2.2.2.2 ∧ K'.length ≤ K.length ∧ (∀ j, j < 8 → st' j = 1 → st j = 1) ∧ (∀ j, j < 8 → (st' j = 2 ↔ st j = 2 ∧ j ≠ s)) ∧ ¬ st' s = 1 ∧ (∀ post : SX → Prop, post (fl, nI N, nI cap, nI Q, nI CS, nI cc, nI now, nI tc, op, oa, ob, oc, st', gn, lr', rg, pc, tr, wt', dl, m.1, m.2.1, m.2.2.1, m.2.2.2.1, m.2.2.2.2.1, lm', mon', par', ce, ct, ca, sg, mx, wd, upd cn s 0, cl, upd rc s 0, rk, tp, tv, m.2.2.2.2.2) → wpX_endSupervisor post (fl, nI N, nI cap, nI Q, nI CS, nI cc, nI now, nI tc, op, oa, ob, oc, st, gn, lr, rg, pc, tr, wt, dl, mc, mk, mf, mv, ms, lm, mon, par, ce, ct, ca, sg, mx, wd, cn, cl, rc, rk, tp, tv, cnt) (nI s) r) ∧ (∀ post : SY → Prop, post (nI N, nI cap, nI Q, nI CS, nI now, nI cc, nI tc, nI K'.length, st', gn, lr', pc, wa, dy, tr, par', ce, ct, ca, kd', sg, mx, wd, rs, rg, mon', lk', m.1, m.2.1, m.2.2.1, m.2.2.2.1, m.2.2.2.2.1, cel, trd, m.2.2.2.2.2) → wpY_end post (nI N, nI cap, nI Q, nI CS, nI now, nI cc, nI tc, nI kn, st, gn, lr, pc, wa, dy, tr, par, ce, ct, ca, kd, sg, mx, wd, rs, rg, mon, lk, mc, mk, mf, mv, ms, cel, trd, cnt) (am_one s) r) := by
  obtain ⟨h1, h2, h3, h4, h5, h6, h7, h8, h9, h10, h11, h12, h13⟩ := I
  have sK : ¬ s ∈ K := fun z => by
    rcases (h11.1 s z).2.1 with e | e <;> rw [hs2] at e <;> exact absurd e (by decide)
  have sp : par s = -1 := (h11.2 s hs sK).1
  obtain ⟨D, st1, lr1, mon1, m1, wt1, lm1, lk1, c1, c2, c3, c4, c5, c6, c7, c8, c9, cX, cY⟩ := ed_core (fl := fl) (N := N) (cap := cap) (Q := Q) (CS := CS) (cc := cc) (now := now) (tc := tc) (op := op) (oa := oa) (ob := ob) (oc := oc) (st := st) (gn := gn) (lr := lr) (rg := rg) (pc := pc) (tr := tr) (wt := wt) (dl := dl) (mc := mc) (mk := mk) (mf := mf) (mv := mv) (ms := ms) (lm := lm) (mon := mon) (par := par) (ce := ce) (ct := ct) (ca := ca) (sg := sg) (mx := mx) (wd := wd) (cn := cn) (cl := cl) (rc := rc) (rk := rk) (tp := tp) (tv := tv) (cnt := cnt) (kn := kn) (wa := wa) (dy := dy) (kd := kd) (rs := rs) (lk := lk) (cel := cel) (trd := trd) (se := am_one s) (r := r) h1 h4 h6 h7 h8 h9 (am_parn h11) (fun j h => by
    rw [am_oneb (by omega)] at h
    have e := of_decide_eq_true h
    rw [e]
    exact ⟨hs, Or.inr hs2⟩)
  have eD : D = am_one s := c3 s hs hs2 rfl
  subst eD
  have t1 : ∀ j, j < 8 → j ≠ s → st1 j = st j := fun j hj e => by
    rw [c4 j hj, am_oneb (by omega), decide_eq_false e]; rfl
  have t2 : st1 s = 0 := by
    rw [c4 s hs, am_oneb (by omega), decide_eq_true rfl, if_pos rfl, if_pos (by rw [sp]; decide)]
  have k8 : ∀ x, x ∈ K → x < 8 := fun x hx => (h11.1 x hx).1
  obtain ⟨kl1, kl2, kl3⟩ := h10
  subst kl2
  obtain ⟨kd', d', z1, z2, z3⟩ := yu_388 (N := N) (cap := cap) (Q := Q) (CS := CS) (now := now) (cc := cc) (tc := tc) (st := st1) (gn := gn) (lr := lr1) (pc := pc) (wa := wa) (dy := dy) (tr := tr) (par := par) (ce := ce) (ct := ct) (ca := ca) (sg := sg) (mx := mx) (wd := wd) (rs := rs) (rg := rg) (mon := mon1) (lk := lk1) (mc := m1.1) (mk := m1.2.1) (mf := m1.2.2.1) (mv := m1.2.2.2.1) (ms := m1.2.2.2.2.1) (cel := cel) (trd := trd) (cnt := m1.2.2.2.2.2) (K := K) hs k8 8 0 kd 0 (by omega) (by rw [am_Kz0]; exact ⟨kl1, rfl, kl3⟩) (fun j => by rw [b_0, decide_eq_false (by omega)])
  have ml : ∀ j, j ∈ am_CL K par s ↔ j < 8 ∧ par j = nI s := fun j => by
    rw [am_CLm]
    refine ⟨fun z => ⟨k8 j z.1, z.2⟩, fun z => ⟨?_, z.2⟩⟩
    refine Classical.byContradiction fun no => ?_
    have q := (h11.2 j z.1 no).1
    rw [z.2] at q
    exact am_ne1 (by omega) q
  have mls : ∀ j, j ∈ am_CL K par s → j ≠ s := fun j z e => sK (e ▸ (am_CLm.mp z).1)
  have mlk : ∀ j, j ∈ am_CL K par s → st1 j = 1 ∨ st1 j = 3 := fun j z => by
    rw [t1 j ((ml j).mp z).1 (mls j z)]
    exact (h11.1 j (am_CLm.mp z).1).2.1
  have xl := h12 s hs hs2
  obtain ⟨f1, f2, f3⟩ := am_e3_f (am_CL K par s) (0, st1, par) (kl1.filter _) (fun x hx => ((ml x).mp hx).1)
  have g1 : ((am_CL K par s).foldl am_e3 (0, st1, par)).1 = d' := b_ext fun j _ => by
    rw [f1 j, z2 j]
    show (bt 0 j || _) = _
    rw [b_0, Bool.false_or]
    refine decide_eq_decide.mpr ?_
    show (j ∈ am_CL K par s ∧ st1 j = 1) ↔ _
    rw [ml j, and_assoc]
  have g2 : ((am_CL K par s).foldl am_e3 (0, st1, par)).2.1 = am_sz st1 par s 8 := funext fun j => by
    rw [f2 j]
    show (if j ∈ am_CL K par s ∧ ¬ st1 j = 1 then 0 else st1 j) = if j < 8 ∧ par j = nI s ∧ st1 j = 3 then 0 else st1 j
    by_cases c : j ∈ am_CL K par s
    · rcases mlk j c with e | e
      · rw [if_neg fun z => z.2 e, if_neg fun z => by rw [e] at z; exact absurd z.2.2 (by decide)]
      · rw [if_pos ⟨c, by rw [e]; decide⟩, if_pos ⟨((ml j).mp c).1, ((ml j).mp c).2, e⟩]
    · rw [if_neg fun z => c z.1, if_neg fun z => c ((ml j).mpr ⟨z.1, z.2.1⟩)]
  have g3 : ((am_CL K par s).foldl am_e3 (0, st1, par)).2.2 = am_pz par s 8 := funext fun j => by
    rw [f3 j]
    show (if j ∈ am_CL K par s then -1 else par j) = if j < 8 ∧ par j = nI s then -1 else par j
    by_cases c : j ∈ am_CL K par s
    · rw [if_pos c, if_pos ((ml j).mp c)]
    · rw [if_neg c, if_neg fun z => c ((ml j).mpr z)]
  have u1 : ∀ j, j < 8 → (am_sz st1 par s 8 j = 1 ↔ st1 j = 1) := fun j hj => by
    show (if j < 8 ∧ par j = nI s ∧ st1 j = 3 then 0 else st1 j) = 1 ↔ _
    by_cases c : j < 8 ∧ par j = nI s ∧ st1 j = 3
    · rw [if_pos c, c.2.2]; decide
    · rw [if_neg c]
  have u2 : ∀ j, j < 8 → (am_sz st1 par s 8 j = 2 ↔ st1 j = 2) := fun j hj => by
    show (if j < 8 ∧ par j = nI s ∧ st1 j = 3 then 0 else st1 j) = 2 ↔ _
    by_cases c : j < 8 ∧ par j = nI s ∧ st1 j = 3
    · rw [if_pos c, c.2.2]; decide
    · rw [if_neg c]
  have v2 : ∀ j, j < 8 → (am_sz st1 par s 8 j = 2 ↔ st j = 2 ∧ j ≠ s) := fun j hj => by
    rw [u2 j hj]
    by_cases e : j = s
    · subst e; rw [t2]; exact ⟨fun z => absurd z (by decide), fun z => absurd rfl z.2⟩
    · rw [t1 j hj e]; exact ⟨fun z => ⟨z, e⟩, fun z => z.1⟩
  have v1 : ∀ j, j < 8 → am_sz st1 par s 8 j = 1 → st j = 1 := fun j hj z => by
    have q := (u1 j hj).mp z
    by_cases e : j = s
    · subst e; rw [t2] at q; exact absurd q (by decide)
    · rw [t1 j hj e] at q; exact q
  have vs : ¬ am_sz st1 par s 8 s = 1 := fun z => by
    have q := (u1 s hs).mp z
    rw [t2] at q; exact absurd q (by decide)
  have I2 : am_I (am_Kz K par s 8) N cap Q CS cc now tc ((am_Kz K par s 8).length) fl op oa ob oc (am_sz st1 par s 8) gn lr1 rg pc tr wt1 dl m1.1 m1.2.1 m1.2.2.1 m1.2.2.2.1 lm1 mon1 (am_pz par s 8) ce ct ca sg mx wd (upd cn s 0) cl (upd rc s 0) rk tp tv wa dy kd' rs lk1 cel trd m1.2.2.2.2.1 m1.2.2.2.2.2 := by
    refine ⟨h1, h2, h3, fun j hj => ?_, h5, am_tM c6 u1, am_tW c7 fun j hj z => (u1 j hj).mp z, am_tL c8 fun j hj z => (u1 j hj).mpr z, am_tMo c9 (fun j hj z => (u1 j hj).mpr z) (fun j hj z => (u2 j hj).mpr z), z1, ⟨fun x hx => ?_, fun j hj hn => ?_⟩, fun t ht e => ?_, fun t ht e => ?_⟩
    · show ((if j < 8 ∧ par j = nI s ∧ st1 j = 3 then 0 else st1 j) = 0 ∨ _) ∧ (_ → (if j < 8 ∧ par j = nI s ∧ st1 j = 3 then 0 else st1 j) = 0)
      by_cases c : j < 8 ∧ par j = nI s ∧ st1 j = 3
      · rw [if_pos c]; exact ⟨Or.inl rfl, fun _ => rfl⟩
      · have := c5 j hj
        refine ⟨?_, ?_⟩
        · rw [if_neg c]
          show st1 j = 0 ∨ (if j < 8 ∧ par j = nI s ∧ st1 j = 3 then 0 else st1 j) = 1 ∨ (if j < 8 ∧ par j = nI s ∧ st1 j = 3 then 0 else st1 j) = 2 ∨ (if j < 8 ∧ par j = nI s ∧ st1 j = 3 then 0 else st1 j) = 3
          rw [if_neg c]; exact this.1
        · rw [if_neg c]; exact this.2
    · obtain ⟨q1, q2⟩ := List.mem_filter.mp hx
      have x8 := k8 x q1
      have xp : ¬ par x = nI s := fun e => by rw [decide_eq_true (p := x < 8 ∧ par x = nI s) ⟨x8, e⟩] at q2; exact absurd q2 (by decide)
      have xs : x ≠ s := fun e => sK (e ▸ q1)
      obtain ⟨a1, a2, p, a3, a4, a5⟩ := h11.1 x q1
      have ps : p ≠ s := fun e => xp (by rw [a4, e])
      refine ⟨x8, ?_, p, a3, ?_, (v2 p a3).mpr ⟨a5, ps⟩⟩
      · show (if x < 8 ∧ par x = nI s ∧ st1 x = 3 then 0 else st1 x) = 1 ∨ (if x < 8 ∧ par x = nI s ∧ st1 x = 3 then 0 else st1 x) = 3
        rw [if_neg fun z => xp z.2.1, t1 x x8 xs]; exact a2
      · show (if x < 8 ∧ par x = nI s then -1 else par x) = nI p
        rw [if_neg fun z => xp z.2]; exact a4
    · by_cases c : j ∈ K
      · have xp : par j = nI s := by
          refine Classical.byContradiction fun no => hn (List.mem_filter.mpr ⟨c, ?_⟩)
          rw [decide_eq_false fun z => no z.2]; rfl
        refine ⟨if_pos ⟨hj, xp⟩, ?_⟩
        show ¬ (if j < 8 ∧ par j = nI s ∧ st1 j = 3 then 0 else st1 j) = 3
        by_cases e : st1 j = 3
        · rw [if_pos ⟨hj, xp, e⟩]; decide
        · rw [if_neg fun z => e z.2.2]; exact e
      · obtain ⟨a1, a2⟩ := h11.2 j hj c
        have xp : ¬ par j = nI s := fun e => by rw [a1] at e; exact am_nm1 (by omega) e
        refine ⟨?_, ?_⟩
        · show (if j < 8 ∧ par j = nI s then -1 else par j) = -1
          rw [if_neg fun z => xp z.2]; exact a1
        · show ¬ (if j < 8 ∧ par j = nI s ∧ st1 j = 3 then 0 else st1 j) = 3
          rw [if_neg fun z => xp z.2.1]
          by_cases e : j = s
          · subst e; rw [t2]; decide
          · rw [t1 j hj e]; exact a2
    · obtain ⟨q1, q2⟩ := (v2 t ht).mp e
      obtain ⟨b1, b2⟩ := h12 t ht q1
      have ec : am_CL (am_Kz K par s 8) (am_pz par s 8) t = am_CL K par t := by
        unfold am_CL am_Kz
        rw [List.filter_filter]
        refine List.filter_congr fun x hx => ?_
        have x8 := k8 x hx
        by_cases w : par x = nI s
        · rw [decide_eq_true (p := x < 8 ∧ par x = nI s) ⟨x8, w⟩, decide_eq_false (p := par x = nI t) fun y => q2 (am_im (by rw [← y, w]) (by omega) (by omega))]
          exact Bool.and_false _
        · rw [decide_eq_false (p := x < 8 ∧ par x = nI s) fun y => w y.2]
          show (decide ((if x < 8 ∧ par x = nI s then -1 else par x) = nI t) && true) = _
          rw [if_neg fun y => w y.2]
          exact Bool.and_true _
      refine ⟨?_, ?_⟩
      · rw [ec, pk_un q2]; exact b1
      · rw [ec]; exact b2
    · obtain ⟨q1, q2⟩ := (v2 t ht).mp e
      obtain ⟨b1, b2, w, c, f, b3⟩ := h13 t ht q1
      refine ⟨b1, b2, w, c, f, ?_⟩
      rw [pk_un q2]
      exact b3
  have hX : ∀ post : SX → Prop, (d' = 0 → post (fl, nI N, nI cap, nI Q, nI CS, nI cc, nI now, nI tc, op, oa, ob, oc, am_sz st1 par s 8, gn, lr1, rg, pc, tr, wt1, dl, m1.1, m1.2.1, m1.2.2.1, m1.2.2.2.1, m1.2.2.2.2.1, lm1, mon1, am_pz par s 8, ce, ct, ca, sg, mx, wd, upd cn s 0, cl, upd rc s 0, rk, tp, tv, m1.2.2.2.2.2)) → (¬ d' = 0 → wpX_endSet post (fl, nI N, nI cap, nI Q, nI CS, nI cc, nI now, nI tc, op, oa, ob, oc, am_sz st1 par s 8, gn, lr1, rg, pc, tr, wt1, dl, m1.1, m1.2.1, m1.2.2.1, m1.2.2.2.1, m1.2.2.2.2.1, lm1, mon1, am_pz par s 8, ce, ct, ca, sg, mx, wd, upd cn s 0, cl, upd rc s 0, rk, tp, tv, m1.2.2.2.2.2) d' 3) → wpX_endSupervisor post (fl, nI N, nI cap, nI Q, nI CS, nI cc, nI now, nI tc, op, oa, ob, oc, st, gn, lr, rg, pc, tr, wt, dl, mc, mk, mf, mv, ms, lm, mon, par, ce, ct, ca, sg, mx, wd, cn, cl, rc, rk, tp, tv, cnt) (nI s) r := fun post p1 p2 => by
    have i1 : vp_in (nI s) 8 := vp_in_nI hs (by omega)
    have e1 : (nI s).toNatClampNeg = s := nI_clamp (by omega)
    have l8 : (am_CL K par s).length ≤ 8 := Nat.le_trans am_CL8 (am_len 8 K kl1 k8)
    refine cX _ ⟨(am_CL K par s).length + 1, ?_⟩
    refine xu_13 (len := (am_CL K par s).length) hs xl.1 l8 (am_CL K par s) 0 _ (0, st1, par) (by omega) (by omega) (fun x hx => ((ml x).mp hx).1) (fun j x h => by rw [Nat.zero_add]; exact xl.2 j x h) (fun f => ?_)
    rw [g1, g2, g3]
    refine ⟨i1, br_t (by rw [e1, xl.1]; exact Int32.le_refl _) ⟨i1, nm_r (e' := upd cn s 0) (by rw [e1]) ⟨i1, nm_r (e' := upd rc s 0) (by rw [e1]) ⟨p1, p2⟩⟩⟩⟩
  have hY : ∀ post : SY → Prop, wY_end_8 post 3 d' 3 (nI 1) (nI N) (nI cap) (nI Q) (nI CS) (nI now) (nI cc) (nI tc) (nI ((am_Kz K par s 8).length)) (am_sz st1 par s 8) gn lr1 pc wa dy tr (am_pz par s 8) ce ct ca kd' sg mx wd rs rg mon1 lk1 m1.1 m1.2.1 m1.2.2.1 m1.2.2.2.1 m1.2.2.2.2.1 cel trd m1.2.2.2.2.2 → wpY_end post (nI N, nI cap, nI Q, nI CS, nI now, nI cc, nI tc, nI K.length, st, gn, lr, pc, wa, dy, tr, par, ce, ct, ca, kd, sg, mx, wd, rs, rg, mon, lk, mc, mk, mf, mv, ms, cel, trd, cnt) (am_one s) r := fun post p => by
    refine ⟨4, br_f (by decide) (br_f (am_one_ne (by omega)) (cY post _ 0 ⟨9, ?_⟩))⟩
    rw [am_sx1 hs2 hs 8 (by omega), if_pos hs]
    have z := z3 post (wY_end_8 post 3) 3 0 9 (by omega) p
    rw [am_Kz0, am_pz0, am_sz0] at z
    exact z
  by_cases cd : d' = 0
  · refine ⟨am_Kz K par s 8, am_sz st1 par s 8, lr1, mon1, m1, wt1, lm1, lk1, am_pz par s 8, kd', I2, List.length_filter_le _ _, v1, v2, vs, fun post p => hX post (fun _ => p) (fun z => absurd cd z), fun post p => hY post ?_⟩
    exact br_f (by decide) (br_t cd p)
  · obtain ⟨D2, st3, lr3, mon3, m3, wt3, lm3, lk3, I3, a1, a2, a3, a4, a5⟩ := ed_set (r := 3) I2 (fun j h => by
      rw [z2 j] at h
      have q := of_decide_eq_true h
      exact ⟨q.1, (u1 j q.1).mpr q.2.2⟩) cd
    have w1 : ∀ j, j < 8 → st3 j = 1 → am_sz st1 par s 8 j = 1 := fun j hj z => by
      rw [a3 j hj] at z
      by_cases c : bt D2 j = true
      · exact (a2 j c).2
      · rw [if_neg c] at z; exact z
    have w2 : ∀ j, j < 8 → (st3 j = 2 ↔ am_sz st1 par s 8 j = 2) := fun j hj => by
      rw [a3 j hj]
      by_cases c : bt D2 j = true
      · rw [if_pos c, (a2 j c).2]
        by_cases c' : am_pz par s 8 j < 0
        · rw [if_pos c']; decide
        · rw [if_neg c']; decide
      · rw [if_neg c]
    refine ⟨am_Kz K par s 8, st3, lr3, mon3, m3, wt3, lm3, lk3, am_pz par s 8, kd', I3, List.length_filter_le _ _, fun j hj z => v1 j hj (w1 j hj z), fun j hj => (w2 j hj).trans (v2 j hj), fun z => vs (w1 s hs z), fun post p => hX post (fun z => absurd z cd) (fun _ => a4 post p), fun post p => hY post (a5 post 3 1 (by omega) (by omega) p)⟩
end S2
end
section
/-! 19: the end of one process, signals, values sent -/
def xSt (u : SX) : Nat → Int32 := u.2.2.2.2.2.2.2.2.2.2.2.2.1
def xGn (u : SX) : Nat → Int32 := u.2.2.2.2.2.2.2.2.2.2.2.2.2.1
/-- what lasts: the sizes, the clock; no new supervisor -/
def am_T (N Q now : Nat) (st : Nat → Int32) (u : SX) : Prop := (u.2.1 = nI N ∧ u.2.2.2.1 = nI Q ∧ u.2.2.2.2.2.2.1 = nI now) ∧ ∀ i, i < 8 → xSt u i = 2 → st i = 2
section SG
variable {N cap Q CS cc now tc kn : Nat} {fl : Int32} {op oa ob oc st gn lr rg pc tr wt dl mc mk mf mv lm mon par ce ct ca sg mx wd cn cl rc rk tp tv wa dy kd rs lk cel trd : Nat → Int32} {ms cnt : Nat → Int64}
theorem pl_I {K : List Nat} {t : Nat} {k f v : Int32} {m : ML} (I : am_I K N cap Q CS cc now tc kn fl op oa ob oc st gn lr rg pc tr wt dl m.1 m.2.1 m.2.2.1 m.2.2.2.1 lm mon par ce ct ca sg mx wd cn cl rc rk tp tv wa dy kd rs lk cel trd m.2.2.2.2.1 m.2.2.2.2.2) (ht : t < 8) (h1 : st t = 1) : am_I K N cap Q CS cc now tc kn fl op oa ob oc st gn lr rg pc tr wt dl ((am_pl cap t k f v m).1) ((am_pl cap t k f v m).2.1) ((am_pl cap t k f v m).2.2.1) ((am_pl cap t k f v m).2.2.2.1) lm mon par ce ct ca sg mx wd cn cl rc rk tp tv wa dy kd rs lk cel trd ((am_pl cap t k f v m).2.2.2.2.1) ((am_pl cap t k f v m).2.2.2.2.2) := by
  obtain ⟨h1', h2, h3, h4, h5, h6, h7⟩ := I
  refine ⟨h1', h2, h3, h4, h5, fun j hj => ?_, h7⟩
  obtain ⟨n, a, b, c⟩ := h6 j hj
  by_cases e : j = t
  · subst e
    obtain ⟨n', a', b'⟩ := am_pl_c (k := k) (f := f) (v := v) (t := j) (m := m) (by have := h1'.2.2.1; omega) h1'.2.2.2.1 b a
    exact ⟨n', a', b', fun z => absurd h1 z⟩
  · exact ⟨n, a, by rw [am_pl_n j e]; exact b, c⟩
theorem ct_I {K : List Nat} {i : Nat} {m : ML} (I : am_I K N cap Q CS cc now tc kn fl op oa ob oc st gn lr rg pc tr wt dl m.1 m.2.1 m.2.2.1 m.2.2.2.1 lm mon par ce ct ca sg mx wd cn cl rc rk tp tv wa dy kd rs lk cel trd m.2.2.2.2.1 m.2.2.2.2.2) : am_I K N cap Q CS cc now tc kn fl op oa ob oc st gn lr rg pc tr wt dl ((am_ct i m).1) ((am_ct i m).2.1) ((am_ct i m).2.2.1) ((am_ct i m).2.2.2.1) lm mon par ce ct ca sg mx wd cn cl rc rk tp tv wa dy kd rs lk cel trd ((am_ct i m).2.2.2.2.1) ((am_ct i m).2.2.2.2.2) := I
theorem ed_proc {K : List Nat} {j : Nat} {r : Int32} (I : am_I K N cap Q CS cc now tc kn fl op oa ob oc st gn lr rg pc tr wt dl mc mk mf mv lm mon par ce ct ca sg mx wd cn cl rc rk tp tv wa dy kd rs lk cel trd ms cnt) (hj : j < 8) (hl : st j = 1 ∨ st j = 2) : ∃ K' u' v', am_R K' u' v' ∧ xGn u' = gn ∧ am_T N Q now st u' ∧ (¬ xSt u' j = 1 ∧ ¬ xSt u' j = 2) ∧ (∀ post : SX → Prop, post u' → wpX_endProcess post (fl, nI N, nI cap, nI Q, nI CS, nI cc, nI now, nI tc, op, oa, ob, oc, st, gn, lr, rg, pc, tr, wt, dl, mc, mk, mf, mv, ms, lm, mon, par, ce, ct, ca, sg, mx, wd, cn, cl, rc, rk, tp, tv, cnt) (nI j) r) ∧ (∀ post : SY → Prop, post v' → wpY_end post (nI N, nI cap, nI Q, nI CS, nI now, nI cc, nI tc, nI kn, st, gn, lr, pc, wa, dy, tr, par, ce, ct, ca, kd, sg, mx, wd, rs, rg, mon, lk, mc, mk, mf, mv, ms, cel, trd, cnt) (am_one j) r) := by
  have i1 : vp_in (nI j) 8 := vp_in_nI hj (by omega)
  have e1 : (nI j).toNatClampNeg = j := nI_clamp (by omega)
  by_cases c : st j = 2
  · obtain ⟨K', st', lr', mon', m, wt', lm', lk', par', kd', I', -, a1, a2, a3, aX, aY⟩ := ed_sup (r := r) I hj c
    refine ⟨K', _, _, am_Ri I', rfl, ⟨⟨rfl, rfl, rfl⟩, fun i hi z => ((a2 i hi).mp z).1⟩, ⟨a3, fun z => ((a2 j hj).mp z).2 rfl⟩, fun post p => ?_, fun post p => aY post p⟩
    refine ⟨i1, br_t (by rw [e1]; exact c) (aX _ p)⟩
  · have c1 : st j = 1 := hl.elim id fun z => absurd z c
    obtain ⟨D, st', lr', mon', m, wt', lm', lk', I', a1, a2, a3, aX, aY⟩ := ed_set (se := am_one j) (r := r) I (fun i h => by
      rw [am_oneb (by omega)] at h
      have e := of_decide_eq_true h
      rw [e]; exact ⟨hj, c1⟩) (am_one_ne (by omega))
    refine ⟨K, _, _, am_Ri I', rfl, ⟨⟨rfl, rfl, rfl⟩, fun i hi z => ?_⟩, ?_, fun post p => ?_, fun post p => ⟨2, aY post 2 0 (by omega) (by omega) p⟩⟩
    · have z' : st' i = 2 := z
      rw [a3 i hi] at z'
      by_cases q : bt D i = true
      · rw [if_pos q] at z'
        by_cases q2 : par i < 0
        · rw [if_pos q2] at z'; exact absurd z' (by decide)
        · rw [if_neg q2] at z'; exact absurd z' (by decide)
      · rw [if_neg q] at z'; exact z'
    · show ¬ st' j = 1 ∧ ¬ st' j = 2
      have q : bt D j = true := a1 j (by rw [am_oneb (by omega)]; exact decide_eq_true rfl)
      rw [a3 j hj, if_pos q]
      by_cases q2 : par j < 0
      · rw [if_pos q2]; decide
      · rw [if_neg q2]; decide
    · exact ⟨i1, br_f (by rw [e1]; exact c) (aX _ p)⟩
theorem ds_sig {K : List Nat} {p fr r : Int32} (I : am_I K N cap Q CS cc now tc kn fl op oa ob oc st gn lr rg pc tr wt dl mc mk mf mv lm mon par ce ct ca sg mx wd cn cl rc rk tp tv wa dy kd rs lk cel trd ms cnt) : ∃ (a : Int32) (K' : List Nat) (u' : SX) (v' : SY), am_R K' u' v' ∧ am_T N Q now st u' ∧ (∀ post : Int32 → SX → Prop, post a u' → wpX_deliverSignal post (fl, nI N, nI cap, nI Q, nI CS, nI cc, nI now, nI tc, op, oa, ob, oc, st, gn, lr, rg, pc, tr, wt, dl, mc, mk, mf, mv, ms, lm, mon, par, ce, ct, ca, sg, mx, wd, cn, cl, rc, rk, tp, tv, cnt) p fr r) ∧ (∀ post : Int32 → SY → Prop, post a v' → wpY_signalTo post (nI N, nI cap, nI Q, nI CS, nI now, nI cc, nI tc, nI kn, st, gn, lr, pc, wa, dy, tr, par, ce, ct, ca, kd, sg, mx, wd, rs, rg, mon, lk, mc, mk, mf, mv, ms, cel, trd, cnt) p fr r) := by
  have hN : N ≤ 8 := I.1.2.1
  cases e : am_fd N st gn p with
  | none =>
    refine ⟨-1, K, _, _, am_Ri I, ⟨⟨rfl, rfl, rfl⟩, fun i _ z => z⟩, fun post q => xv_live hN ?_, fun post q => yv_live hN ?_⟩
    · rw [e]; exact br_f am_n1le q
    · rw [e]; exact br_f am_n1le q
  | some x =>
    obtain ⟨-, x8, hl, -⟩ := am_fd_some e
    have i1 : vp_in (nI x) 8 := vp_in_nI x8 (by omega)
    have e1 : (nI x).toNatClampNeg = x := nI_clamp (by omega)
    have p0 : (0 : Int32) ≤ nI x := nI_pos' (by omega)
    by_cases c1 : r = 1
    · obtain ⟨K', u', v', R, -, t2, -, aX, aY⟩ := ed_proc (r := 2) I x8 hl
      refine ⟨1, K', u', v', R, t2, fun post q => xv_live hN ?_, fun post q => yv_live hN ?_⟩
      · rw [e]; exact br_t p0 (br_t c1 (aX _ q))
      · rw [e]; exact br_t p0 (br_t c1 (aY _ q))
    · have fin : ¬ (st x = 1 ∧ ¬ tr x = 0) → ∃ (a : Int32) (K' : List Nat) (u' : SX) (v' : SY), am_R K' u' v' ∧ am_T N Q now st u' ∧ (∀ post : Int32 → SX → Prop, post a u' → wX_deliverSignal_61 post r (nI x) fl (nI N) (nI cap) (nI Q) (nI CS) (nI cc) (nI now) (nI tc) op oa ob oc st gn lr rg pc tr wt dl mc mk mf mv ms lm mon par ce ct ca sg mx wd cn cl rc rk tp tv cnt) ∧ (∀ post : Int32 → SY → Prop, post a v' → wY_signalTo_62 post r (nI x) (nI N) (nI cap) (nI Q) (nI CS) (nI now) (nI cc) (nI tc) (nI kn) st gn lr pc wa dy tr par ce ct ca kd sg mx wd rs rg mon lk mc mk mf mv ms cel trd cnt) := fun _ => by
        by_cases c2 : r = 0
        · exact ⟨0, K, _, _, am_Ri I, ⟨⟨rfl, rfl, rfl⟩, fun i _ z => z⟩, fun post q => br_t c2 q, fun post q => br_t c2 q⟩
        · obtain ⟨K', u', v', R, -, t2, -, aX, aY⟩ := ed_proc (r := r) I x8 hl
          exact ⟨1, K', u', v', R, t2, fun post q => br_f c2 (aX _ q), fun post q => br_f c2 (aY _ q)⟩
      by_cases c3 : st x = 1
      · by_cases c4 : tr x = 0
        · obtain ⟨a, K', u', v', R, t2, aX, aY⟩ := fin fun z => z.2 c4
          refine ⟨a, K', u', v', R, t2, fun post q => xv_live hN ?_, fun post q => yv_live hN ?_⟩
          · rw [e]; exact br_t p0 (br_f c1 ⟨i1, br_t (by show st (nI x).toNatClampNeg = 1; rw [e1]; exact c3) ⟨i1, br_t (by show tr (nI x).toNatClampNeg = 0; rw [e1]; exact c4) (aX post q)⟩⟩)
          · rw [e]; exact br_t p0 (br_f c1 ⟨i1, br_t (by show st (nI x).toNatClampNeg = 1; rw [e1]; exact c3) ⟨i1, br_t (by show tr (nI x).toNatClampNeg = 0; rw [e1]; exact c4) (aY post q)⟩⟩)
        · obtain ⟨n, n1, n2, -⟩ := I.2.2.2.2.2.1 x x8
          have I' := pl_I (m := (mc, mk, mf, mv, ms, cnt)) (k := 2) (f := fr) (v := r) I x8 c3
          refine ⟨2, K, _, _, am_Ri I', ⟨⟨rfl, rfl, rfl⟩, fun i _ z => z⟩, fun post q => xv_live hN ?_, fun post q => yv_live hN ?_⟩
          · rw [e]; exact br_t p0 (br_f c1 ⟨i1, br_t (by show st (nI x).toNatClampNeg = 1; rw [e1]; exact c3) ⟨i1, br_f (by show ¬ tr (nI x).toNatClampNeg = 0; rw [e1]; exact c4) (xp_place (m := (mc, mk, mf, mv, ms, cnt)) x8 n2 n1 I.1.2.2.2.1 (fun _ _ => q))⟩⟩)
          · rw [e]; exact br_t p0 (br_f c1 ⟨i1, br_t (by show st (nI x).toNatClampNeg = 1; rw [e1]; exact c3) ⟨i1, br_f (by show ¬ tr (nI x).toNatClampNeg = 0; rw [e1]; exact c4) (yp_place (m := (mc, mk, mf, mv, ms, cnt)) x8 n2 n1 I.1.2.2.2.1 q)⟩⟩)
      · obtain ⟨a, K', u', v', R, t2, aX, aY⟩ := fin fun z => c3 z.1
        refine ⟨a, K', u', v', R, t2, fun post q => xv_live hN ?_, fun post q => yv_live hN ?_⟩
        · rw [e]; exact br_t p0 (br_f c1 ⟨i1, br_f (by show ¬ st (nI x).toNatClampNeg = 1; rw [e1]; exact c3) (aX post q)⟩)
        · rw [e]; exact br_t p0 (br_f c1 ⟨i1, br_f (by show ¬ st (nI x).toNatClampNeg = 1; rw [e1]; exact c3) (aY post q)⟩)
theorem sd_send {K : List Nat} {p fr w : Int32} (I : am_I K N cap Q CS cc now tc kn fl op oa ob oc st gn lr rg pc tr wt dl mc mk mf mv lm mon par ce ct ca sg mx wd cn cl rc rk tp tv wa dy kd rs lk cel trd ms cnt) : ∃ (a : Int32) (m : ML), am_I K N cap Q CS cc now tc kn fl op oa ob oc st gn lr rg pc tr wt dl m.1 m.2.1 m.2.2.1 m.2.2.2.1 lm mon par ce ct ca sg mx wd cn cl rc rk tp tv wa dy kd rs lk cel trd m.2.2.2.2.1 m.2.2.2.2.2 ∧ (∀ post : Int32 → SX → Prop, post a (fl, nI N, nI cap, nI Q, nI CS, nI cc, nI now, nI tc, op, oa, ob, oc, st, gn, lr, rg, pc, tr, wt, dl, m.1, m.2.1, m.2.2.1, m.2.2.2.1, m.2.2.2.2.1, lm, mon, par, ce, ct, ca, sg, mx, wd, cn, cl, rc, rk, tp, tv, m.2.2.2.2.2) → wpX_sendValue post (fl, nI N, nI cap, nI Q, nI CS, nI cc, nI now, nI tc, op, oa, ob, oc, st, gn, lr, rg, pc, tr, wt, dl, mc, mk, mf, mv, ms, lm, mon, par, ce, ct, ca, sg, mx, wd, cn, cl, rc, rk, tp, tv, cnt) p fr w) ∧ (∀ post : Int32 → SY → Prop, post a (nI N, nI cap, nI Q, nI CS, nI now, nI cc, nI tc, nI kn, st, gn, lr, pc, wa, dy, tr, par, ce, ct, ca, kd, sg, mx, wd, rs, rg, mon, lk, m.1, m.2.1, m.2.2.1, m.2.2.2.1, m.2.2.2.2.1, cel, trd, m.2.2.2.2.2) → wpY_deliver post (nI N, nI cap, nI Q, nI CS, nI now, nI cc, nI tc, nI kn, st, gn, lr, pc, wa, dy, tr, par, ce, ct, ca, kd, sg, mx, wd, rs, rg, mon, lk, mc, mk, mf, mv, ms, cel, trd, cnt) fr p w) := by
  have hN : N ≤ 8 := I.1.2.1
  cases e : am_fw N st gn p with
  | none =>
    refine ⟨-1, am_ct 3 (am_ct 0 (mc, mk, mf, mv, ms, cnt)), I, fun post q => ?_, fun post q => ?_⟩
    · unfold wpX_sendValue
      refine xv_worker hN ?_
      rw [e]; exact br_f am_n1le (nm_e (nm_e q))
    · unfold wpY_deliver
      refine yv_worker hN ?_
      rw [e]; exact br_f am_n1le (nm_e (nm_e q))
  | some x =>
    obtain ⟨-, x8, hl, -⟩ := am_fw_some e
    have i1 : vp_in (nI x) 8 := vp_in_nI x8 (by omega)
    have e1 : (nI x).toNatClampNeg = x := nI_clamp (by omega)
    have p0 : (0 : Int32) ≤ nI x := nI_pos' (by omega)
    obtain ⟨n, n1, n2, -⟩ := I.2.2.2.2.2.1 x x8
    have hc := I.1.2.2.2.1
    have I' := pl_I (m := (mc, mk, mf, mv, ms, cnt)) (k := 1) (f := fr) (v := w) I x8 hl
    refine ⟨if n < cap then 1 else -2, _, I', fun post q => ?_, fun post q => ?_⟩
    · unfold wpX_sendValue
      refine xv_worker hN ?_
      rw [e]
      refine br_t p0 (xp_place (m := (mc, mk, mf, mv, ms, cnt)) x8 n2 n1 hc (fun r hr => ?_))
      have er := hr rfl
      by_cases c : n < cap
      · rw [if_pos c] at er q
        subst er
        exact br_f (by decide) q
      · rw [if_neg c] at er q
        subst er
        exact br_t rfl q
    · unfold wpY_deliver
      refine yv_worker hN ?_
      rw [e]
      refine br_t p0 ⟨i1, ?_⟩
      by_cases c : n < cap
      · rw [if_pos c] at q
        refine br_t (by show mc (nI x).toNatClampNeg < nI cap; rw [e1, n2]; exact nI_lt c (by omega)) ?_
        exact yp_place (m := (mc, mk, mf, mv, ms, cnt)) x8 n2 n1 hc (br_t rfl q)
      · rw [if_neg c] at q
        refine br_f (by show ¬ mc (nI x).toNatClampNeg < nI cap; rw [e1, n2]; exact nI_nlt (by omega) (by omega)) ?_
        exact yp_place (m := (mc, mk, mf, mv, ms, cnt)) x8 n2 n1 hc (br_f (by decide) q)
end SG
end
section
/-! 20: restarts within the window -/
theorem am_cn_add {p q r : Nat → Bool} : ∀ {n : Nat}, (∀ i, i < n → r i = (p i || q i)) → (∀ i, i < n → ¬ (p i = true ∧ q i = true)) → am_cn r n = am_cn p n + am_cn q n := by
  intro n
  induction n with
  | zero => intro _ _; rfl
  | succ n ih =>
    intro h d
    have k := ih (fun i hi => h i (by omega)) (fun i hi => d i (by omega))
    have hn := h n (by omega)
    have dn := d n (by omega)
    unfold am_cn
    rw [hn]
    cases a : p n <;> cases b : q n
    · rw [if_neg (by decide), if_neg (by decide), if_neg (by decide)]; exact k
    · rw [if_pos (by decide), if_neg (by decide), if_pos (by decide)]; omega
    · rw [if_pos (by decide), if_pos (by decide), if_neg (by decide)]; omega
    · exact absurd ⟨a, b⟩ dn
theorem am_cn_sh (g : Nat → Bool) : ∀ n, am_cn g (n + 1) = (if g 0 = true then 1 else 0) + am_cn (fun i => g (i + 1)) n := by
  intro n
  induction n with
  | zero => rfl
  | succ n ih =>
    show (if g (n + 1) = true then am_cn g (n + 1) + 1 else am_cn g (n + 1)) = _ + (if g (n + 1) = true then am_cn (fun i => g (i + 1)) n + 1 else am_cn (fun i => g (i + 1)) n)
    rw [ih]
    by_cases c : g (n + 1) = true
    · rw [if_pos c, if_pos c]; omega
    · rw [if_neg c, if_neg c]
theorem am_cn_0 {f : Nat → Bool} {n : Nat} (h : ∀ i, i < n → f i = false) : am_cn f n = 0 := by
  induction n with
  | zero => rfl
  | succ n ih =>
    unfold am_cn
    rw [if_neg (by rw [h n (by omega)]; decide)]
    exact ih fun i hi => h i (by omega)
/-- one more, ahead of the others -/
def am_pf (now : Nat) (f : Nat → Nat) : Nat → Nat
  | 0 => now
  | i + 1 => f i
def am_in (now w : Nat) (f : Nat → Nat) (i : Nat) : Bool := decide (now < f i + w)
section WI
variable {N cap Q CS cc now tc kn : Nat} {fl : Int32} {op oa ob oc st gn lr rg pc tr wt dl mc mk mf mv lm mon par ce ct ca sg mx wd cn cl rc rk tp tv wa dy kd rs lk cel trd : Nat → Int32} {ms cnt : Nat → Int64}
theorem xr_l {post : Int32 → Prop} {s w c : Nat} {f : Nat → Nat} (hs : s < 8) (hw : wd s = nI w) (hw1 : w ≤ 100) (hc : rc s = nI c) (h5 : c ≤ 5) (hn : now ≤ 1000) (hf : ∀ i, i < c → rk (s * 5 + i) = nI (f i) ∧ f i ≤ now) (h : post (nI (am_cn (am_in now w f) c))) : ∀ d i n, i + d = c → d < n → wX_recentRestarts_4 post (nI s) fl (nI N) (nI cap) (nI Q) (nI CS) (nI cc) (nI now) (nI tc) op oa ob oc st gn lr rg pc tr wt dl mc mk mf mv ms lm mon par ce ct ca sg mx wd cn cl rc rk tp tv cnt n (nI (am_cn (am_in now w f) i)) (nI i) := by
  have i1 : vp_in (nI s) 8 := vp_in_nI hs (by omega)
  have e1 : (nI s).toNatClampNeg = s := nI_clamp (by omega)
  intro d
  induction d with
  | zero =>
    intro i n hi hn
    obtain ⟨m, rfl⟩ : ∃ m, n = m + 1 := ⟨n - 1, by omega⟩
    obtain rfl : i = c := hi
    exact ⟨i1, br_t (by rw [e1, hc]; exact Int32.le_refl _) h⟩
  | succ d ih =>
    intro i n hi hn
    obtain ⟨m, rfl⟩ : ∃ m, n = m + 1 := ⟨n - 1, by omega⟩
    obtain ⟨f1, f2⟩ := hf i (by omega)
    have z := ih (i + 1) m (by omega) (by omega)
    unfold am_cn at z
    refine ⟨i1, br_f (by rw [e1, hc]; exact nI_ge (by omega) (by omega)) ⟨pk_in (s * 5 + i) 40 (by omega) (am_5 s i), i1, ?_⟩⟩
    rw [e1, am_5, nI_clamp (by omega), hw, f1, pk_sub f2]
    refine pk_le w (now - f i) (fun q => ?_) (fun q => ?_)
    · rw [if_neg (by unfold am_in; rw [decide_eq_false (by omega)]; decide)] at z
      exact nm_r (nI_1 i) z
    · rw [if_pos (by unfold am_in; exact decide_eq_true (by omega))] at z
      exact nm_r (nI_1 _) (nm_r (nI_1 i) z)
theorem xr_recent {post : Int32 → Prop} {s w c : Nat} {f : Nat → Nat} (hs : s < 8) (hw : wd s = nI w) (hw1 : w ≤ 100) (hc : rc s = nI c) (h5 : c ≤ 5) (hn : now ≤ 1000) (hf : ∀ i, i < c → rk (s * 5 + i) = nI (f i) ∧ f i ≤ now) (h : post (nI (am_cn (am_in now w f) c))) : wpX_recentRestarts post (fl, nI N, nI cap, nI Q, nI CS, nI cc, nI now, nI tc, op, oa, ob, oc, st, gn, lr, rg, pc, tr, wt, dl, mc, mk, mf, mv, ms, lm, mon, par, ce, ct, ca, sg, mx, wd, cn, cl, rc, rk, tp, tv, cnt) (nI s) :=
  ⟨c + 1, xr_l hs hw hw1 hc h5 hn hf h c 0 (c + 1) (by omega) (by omega)⟩
theorem yr_61 {post : SY → Prop} {s w c : Nat} {f : Nat → Nat} {x2 : Int32} (hs : s < 8) (hw : wd s = nI w) (hw1 : w ≤ 100) (h5 : c ≤ 5) (hn : now ≤ 1000) (hf : ∀ i, i < c → f i ≤ now) (hr : ∀ t, t ≤ 1000 → now < t + w → rs (s * 1001 + t) = nI (am_cn (fun i => decide (f i = t)) c)) (h : ∀ n, wY_settleOne_61 post (nI s) x2 (nI N) (nI cap) (nI Q) (nI CS) (nI now) (nI cc) (nI tc) (nI kn) st gn lr pc wa dy tr par ce ct ca kd sg mx wd rs rg mon lk mc mk mf mv ms cel trd cnt (n + 1) (nI (am_cn (am_in now w f) c)) (nI (now + 1))) : ∀ d t n, t + d = now + 1 → d < n → wY_settleOne_61 post (nI s) x2 (nI N) (nI cap) (nI Q) (nI CS) (nI now) (nI cc) (nI tc) (nI kn) st gn lr pc wa dy tr par ce ct ca kd sg mx wd rs rg mon lk mc mk mf mv ms cel trd cnt n (nI (am_cn (fun i => decide (f i < t ∧ now < f i + w)) c)) (nI t) := by
  have i1 : vp_in (nI s) 8 := vp_in_nI hs (by omega)
  have e1 : (nI s).toNatClampNeg = s := nI_clamp (by omega)
  intro d
  induction d with
  | zero =>
    intro t n ht hn
    obtain ⟨m, rfl⟩ : ∃ m, n = m + 1 := ⟨n - 1, by omega⟩
    obtain rfl : t = now + 1 := ht
    have e : am_cn (fun i => decide (f i < now + 1 ∧ now < f i + w)) c = am_cn (am_in now w f) c := am_cn_congr fun i hi => by
      have := hf i hi
      exact decide_eq_decide.mpr ⟨fun z => z.2, fun z => ⟨by omega, z⟩⟩
    rw [e]
    exact h m
  | succ d ih =>
    intro t n ht hn
    obtain ⟨m, rfl⟩ : ∃ m, n = m + 1 := ⟨n - 1, by omega⟩
    have z := ih (t + 1) m (by omega) (by omega)
    refine br_f (nI_nlt (by omega) (by omega)) ⟨i1, ?_⟩
    rw [e1, hw, pk_sub (a := now) (b := t) (by omega)]
    refine pk_le w (now - t) (fun q => ?_) (fun q => ?_)
    · have e : am_cn (fun i => decide (f i < t + 1 ∧ now < f i + w)) c = am_cn (fun i => decide (f i < t ∧ now < f i + w)) c := am_cn_congr fun i hi => decide_eq_decide.mpr ⟨fun z => ⟨by omega, z.2⟩, fun z => ⟨by omega, z.2⟩⟩
      rw [e] at z
      exact nm_r (nI_1 t) z
    · have e : am_cn (fun i => decide (f i < t + 1 ∧ now < f i + w)) c = am_cn (fun i => decide (f i < t ∧ now < f i + w)) c + am_cn (fun i => decide (f i = t)) c := am_cn_add (fun i hi => by
        rw [← Bool.decide_or]
        refine decide_eq_decide.mpr ⟨fun z => ?_, fun z => ?_⟩
        · by_cases y : f i = t
          · exact Or.inr y
          · exact Or.inl ⟨by omega, z.2⟩
        · rcases z with z | z
          · exact ⟨by omega, z.2⟩
          · exact ⟨by omega, by omega⟩) (fun i hi z => by
        have z1 := of_decide_eq_true z.1
        have z2 := of_decide_eq_true z.2
        omega)
      rw [e] at z
      refine ⟨pk_in (s * 1001 + t) 8008 (by omega) (am_1001 s t), nm_r ?_ (nm_r (nI_1 t) z)⟩
      rw [am_1001, nI_clamp (by omega), hr t (by omega) (by omega), nI_add]
theorem xr_rec_l {post : SX → Prop} {s c : Nat} (hs : s < 8) (hc : rc s = nI c) (h5 : c ≤ 5) (h : post (fl, nI N, nI cap, nI Q, nI CS, nI cc, nI now, nI tc, op, oa, ob, oc, st, gn, lr, rg, pc, tr, wt, dl, mc, mk, mf, mv, ms, lm, mon, par, ce, ct, ca, sg, mx, wd, cn, cl, if c < 5 then upd rc s (nI (c + 1)) else rc, upd (am_up rk (s * 5) (s * 5 + 4)) (s * 5) (nI now), tp, tv, vp_updL cnt 9 (cnt 9 + 1))) : ∀ d n, d ≤ 4 → d < n → wX_recordRestart_2 post (nI s) fl (nI N) (nI cap) (nI Q) (nI CS) (nI cc) (nI now) (nI tc) n (nI d) op oa ob oc st gn lr rg pc tr wt dl mc mk mf mv ms lm mon par ce ct ca sg mx wd cn cl rc (am_up rk (s * 5 + d) (s * 5 + 4)) tp tv cnt := by
  have i1 : vp_in (nI s) 8 := vp_in_nI hs (by omega)
  have e1 : (nI s).toNatClampNeg = s := nI_clamp (by omega)
  intro d
  induction d with
  | zero =>
    intro n _ hn
    obtain ⟨m, rfl⟩ : ∃ m, n = m + 1 := ⟨n - 1, by omega⟩
    refine br_t (Int32.le_refl _) ⟨pk_in (s * 5) 40 (by omega) (am_m5 s), nm_r (e' := upd (am_up rk (s * 5) (s * 5 + 4)) (s * 5) (nI now)) (by rw [am_m5, nI_clamp (by omega)]; rfl) ⟨i1, ?_⟩⟩
    rw [e1, hc]
    by_cases q : c < 5
    · rw [if_pos q] at h
      exact br_f (nI_ge (b := 5) q (by omega)) ⟨i1, i1, nm_r (e' := upd rc s (nI (c + 1))) (by rw [nI_1]) (nm_e h)⟩
    · rw [if_neg q] at h
      exact br_t (nI_le (a := 5) (by omega) (by omega)) (nm_e h)
  | succ d ih =>
    intro n hd hn
    obtain ⟨m, rfl⟩ : ∃ m, n = m + 1 := ⟨n - 1, by omega⟩
    have z := ih m (by omega) (by omega)
    have e3 : nI s * 5 + nI (d + 1) - 1 = nI (s * 5 + d) := by rw [am_5, show s * 5 + (d + 1) = s * 5 + d + 1 by omega, nI_pred]
    refine br_f (nI_nle (by omega) (by omega)) ⟨pk_in (s * 5 + d) 40 (by omega) e3, pk_in (s * 5 + (d + 1)) 40 (by omega) (am_5 s (d + 1)), nm_r (e' := am_up rk (s * 5 + d) (s * 5 + 4)) ?_ (nm_r (pk_m1 d) z)⟩
    rw [e3, am_5, nI_clamp (by omega), nI_clamp (by omega)]
    exact am_ups rk (lo := s * 5 + d) (by omega)
theorem xr_record {post : SX → Prop} {s c : Nat} (hs : s < 8) (hc : rc s = nI c) (h5 : c ≤ 5) (h : post (fl, nI N, nI cap, nI Q, nI CS, nI cc, nI now, nI tc, op, oa, ob, oc, st, gn, lr, rg, pc, tr, wt, dl, mc, mk, mf, mv, ms, lm, mon, par, ce, ct, ca, sg, mx, wd, cn, cl, if c < 5 then upd rc s (nI (c + 1)) else rc, upd (am_up rk (s * 5) (s * 5 + 4)) (s * 5) (nI now), tp, tv, vp_updL cnt 9 (cnt 9 + 1))) : wpX_recordRestart post (fl, nI N, nI cap, nI Q, nI CS, nI cc, nI now, nI tc, op, oa, ob, oc, st, gn, lr, rg, pc, tr, wt, dl, mc, mk, mf, mv, ms, lm, mon, par, ce, ct, ca, sg, mx, wd, cn, cl, rc, rk, tp, tv, cnt) (nI s) := by
  have z := xr_rec_l (post := post) hs hc h5 h 4 5 (by omega) (by omega)
  rw [am_up0] at z
  exact ⟨5, z⟩
end WI
/-- the record kept: the same at s with one more, and the rest as it was -/
theorem am_rec_s {now s w c : Nat} {f : Nat → Nat} {wd rc rk rs : Nat → Int32} (hn : now ≤ 1000) (hw : wd s = nI w) (hw1 : 1 ≤ w) (hw2 : w ≤ 100) (h5 : c ≤ 5) (hf : ∀ i, i < c → rk (s * 5 + i) = nI (f i) ∧ f i ≤ now) (ho : ∀ i, i + 1 < c → f (i + 1) ≤ f i) (hr : ∀ t, t ≤ 1000 → now < t + w → rs (s * 1001 + t) = nI (am_cn (fun i => decide (f i = t)) c)) (hl : am_cn (am_in now w f) c < 5) (hc : rc s = nI c) : ∃ (c' : Nat) (f' : Nat → Nat), c' ≤ 5 ∧ (if c < 5 then upd rc s (nI (c + 1)) else rc) s = nI c' ∧ (∀ i, i < c' → upd (am_up rk (s * 5) (s * 5 + 4)) (s * 5) (nI now) (s * 5 + i) = nI (f' i) ∧ f' i ≤ now) ∧ (∀ i, i + 1 < c' → f' (i + 1) ≤ f' i) ∧ (∀ t, t ≤ 1000 → now < t + w → upd rs (s * 1001 + now) (rs (s * 1001 + now) + 1) (s * 1001 + t) = nI (am_cn (fun i => decide (f' i = t)) c')) ∧ am_cn (am_in now w f') c' = am_cn (am_in now w f) c + 1 := by
  have key : ∀ c0, c0 ≤ 4 → c0 ≤ c → (∀ i, c0 ≤ i → i < c → f i + w ≤ now) → (if c < 5 then upd rc s (nI (c + 1)) else rc) s = nI (c0 + 1) → ∃ (c' : Nat) (f' : Nat → Nat), c' ≤ 5 ∧ (if c < 5 then upd rc s (nI (c + 1)) else rc) s = nI c' ∧ (∀ i, i < c' → upd (am_up rk (s * 5) (s * 5 + 4)) (s * 5) (nI now) (s * 5 + i) = nI (f' i) ∧ f' i ≤ now) ∧ (∀ i, i + 1 < c' → f' (i + 1) ≤ f' i) ∧ (∀ t, t ≤ 1000 → now < t + w → upd rs (s * 1001 + now) (rs (s * 1001 + now) + 1) (s * 1001 + t) = nI (am_cn (fun i => decide (f' i = t)) c')) ∧ am_cn (am_in now w f') c' = am_cn (am_in now w f) c + 1 := by
    intro c0 h4 hcc hout hrc
    have cut : ∀ g : Nat → Bool, (∀ i, c0 ≤ i → i < c → g i = false) → am_cn g c = am_cn g c0 := by
      intro g hg
      obtain ⟨d, hd⟩ : ∃ d, c = c0 + d := ⟨c - c0, by omega⟩
      have : ∀ d, c0 + d ≤ c → am_cn g (c0 + d) = am_cn g c0 := by
        intro d
        induction d with
        | zero => intro _; rfl
        | succ d ih =>
          intro h
          show (if g (c0 + d) = true then _ else _) = _
          rw [if_neg (by rw [hg (c0 + d) (by omega) (by omega)]; decide)]
          exact ih (by omega)
      rw [hd]
      exact this d (by omega)
    refine ⟨c0 + 1, am_pf now f, by omega, hrc, fun i hi => ?_, fun i hi => ?_, fun t ht hw' => ?_, ?_⟩
    · cases i with
      | zero => exact ⟨pk_us, Nat.le_refl _⟩
      | succ i =>
        obtain ⟨a, b⟩ := hf i (by omega)
        rw [pk_un (by omega)]
        refine ⟨?_, b⟩
        show (if s * 5 < s * 5 + (i + 1) ∧ s * 5 + (i + 1) ≤ s * 5 + 4 then rk (s * 5 + (i + 1) - 1) else rk (s * 5 + (i + 1))) = nI (f i)
        rw [if_pos (by omega), show s * 5 + (i + 1) - 1 = s * 5 + i by omega]
        exact a
    · cases i with
      | zero => exact (hf 0 (by omega)).2
      | succ i => exact ho i (by omega)
    · rw [am_cn_sh]
      show _ = nI ((if decide (now = t) = true then 1 else 0) + am_cn (fun i => decide (f i = t)) c0)
      have e3 : am_cn (fun i => decide (f i = t)) c = am_cn (fun i => decide (f i = t)) c0 := cut _ fun i h1 h2 => decide_eq_false (by have := hout i h1 h2; omega)
      have e4 := hr t ht hw'
      rw [e3] at e4
      by_cases e : t = now
      · subst e
        rw [pk_us, e4, nI_1, if_pos (decide_eq_true rfl)]
        exact congrArg nI (by omega)
      · rw [pk_un (by omega), e4, if_neg (by rw [decide_eq_false (by omega)]; decide)]
        exact congrArg nI (by omega)
    · rw [am_cn_sh]
      show (if decide (now < now + w) = true then 1 else 0) + am_cn (am_in now w f) c0 = _
      rw [cut (am_in now w f) fun i h1 h2 => decide_eq_false (by have := hout i h1 h2; omega), if_pos (decide_eq_true (by omega))]
      omega
  by_cases q : c < 5
  · exact key c (by omega) (Nat.le_refl c) (fun i h1 h2 => absurd h2 (by omega)) (by rw [if_pos q, pk_us])
  · have e5 : c = 5 := by omega
    subst e5
    refine key 4 (by omega) (by omega) (fun i h1 h2 => ?_) (by rw [if_neg q]; exact hc)
    have ei : i = 4 := by omega
    subst ei
    refine Classical.byContradiction fun no => ?_
    have o3 : f 4 ≤ f 3 := ho 3 (by omega)
    have o2 : f 3 ≤ f 2 := ho 2 (by omega)
    have o1 : f 2 ≤ f 1 := ho 1 (by omega)
    have o0 : f 1 ≤ f 0 := ho 0 (by omega)
    have all : ∀ i, i < 5 → am_in now w f i = true := fun i hi => by
      refine decide_eq_true ?_
      rcases (by omega : i = 0 ∨ i = 1 ∨ i = 2 ∨ i = 3 ∨ i = 4) with e | e | e | e | e <;> subst e <;> omega
    have k : 5 ≤ am_cn (am_in now w f) 5 := by
      show 5 ≤ (if am_in now w f 4 = true then (if am_in now w f 3 = true then (if am_in now w f 2 = true then (if am_in now w f 1 = true then (if am_in now w f 0 = true then 0 + 1 else 0) + 1 else (if am_in now w f 0 = true then 0 + 1 else 0)) + 1 else _) + 1 else _) + 1 else _)
      rw [if_pos (all 4 (by omega)), if_pos (all 3 (by omega)), if_pos (all 2 (by omega)), if_pos (all 1 (by omega)), if_pos (all 0 (by omega))]
      exact Nat.le_refl 5
    omega
theorem am_rec_o {s s' t : Nat} {now : Nat} {rk rs : Nat → Int32} (hn : now ≤ 1000) (h : s' ≠ s) (ht : t ≤ 1000) : upd rs (s * 1001 + now) (rs (s * 1001 + now) + 1) (s' * 1001 + t) = rs (s' * 1001 + t) := pk_un (by omega)
theorem am_rec_k {s s' i : Nat} {x : Int32} {rk : Nat → Int32} (h : s' ≠ s) (hi : i < 5) : upd (am_up rk (s * 5) (s * 5 + 4)) (s * 5) x (s' * 5 + i) = rk (s' * 5 + i) := by
  rw [pk_un (by omega)]
  exact if_neg (by omega)
end
section
/-! 21: a group of children starts anew: the component's side -/
theorem am_XL_er {cn cl : Nat → Int32} {s c : Nat} {P Q : List Nat} (h : am_XL cn cl s (P ++ c :: Q)) : am_XL (upd cn s (nI (P.length + Q.length))) (am_dn cl (s * 8 + P.length) (s * 8 + (P.length + Q.length))) s (P ++ Q) := by
  refine ⟨?_, fun i x hx => ?_⟩
  · rw [pk_us, List.length_append]
  · have hi : i < P.length + Q.length := by
      refine Classical.byContradiction fun no => ?_
      rw [List.getElem?_eq_none (by rw [List.length_append]; omega)] at hx
      exact absurd hx (by simp)
    show (if s * 8 + P.length ≤ s * 8 + i ∧ s * 8 + i < s * 8 + (P.length + Q.length) then cl (s * 8 + i + 1) else cl (s * 8 + i)) = nI x
    by_cases e : i < P.length
    · rw [if_neg (by omega)]
      refine h.2 i x ?_
      rw [List.getElem?_append_left e] at hx ⊢
      exact hx
    · rw [if_pos (by omega)]
      refine h.2 (i + 1) x ?_
      rw [List.getElem?_append_right (by omega)] at hx ⊢
      rw [show i + 1 - P.length = i - P.length + 1 by omega, List.getElem?_cons_succ]
      exact hx
theorem am_XL_o {cn cl : Nat → Int32} {s s' a b : Nat} {x : Int32} (h : s' ≠ s) (hb : b ≤ 8) : upd cn s x s' = cn s' ∧ ∀ k, k < 8 → am_dn cl (s * 8 + a) (s * 8 + b) (s' * 8 + k) = cl (s' * 8 + k) :=
  ⟨pk_un h, fun k hk => if_neg (by omega)⟩
def am_lv (st : Nat → Int32) (m : Int32) (x : Nat) : Int32 := if st x = 1 then m ||| am_one x else m
theorem am_lv_b {st : Nat → Int32} : ∀ (G : List Nat) (m : Int32), (∀ x, x ∈ G → x < 8) → ∀ j, bt (G.foldl (am_lv st) m) j = (bt m j || decide (j ∈ G ∧ st j = 1)) := by
  intro G
  induction G with
  | nil => intro m _ j; rw [decide_eq_false (by simp)]; exact (Bool.or_false _).symm
  | cons x G ih =>
    intro m h j
    have x8 := h x List.mem_cons_self
    rw [List.foldl_cons, ih _ (fun y hy => h y (List.mem_cons_of_mem _ hy)) j]
    unfold am_lv
    by_cases c : st x = 1
    · rw [if_pos c, am_orb (by omega), Bool.or_assoc, ← Bool.decide_or]
      refine congrArg _ (decide_eq_decide.mpr ⟨fun z => ?_, fun z => ?_⟩)
      · rcases z with z | z
        · rw [z]; exact ⟨List.mem_cons_self, c⟩
        · exact ⟨List.mem_cons_of_mem _ z.1, z.2⟩
      · rcases List.mem_cons.mp z.1 with e | e
        · exact Or.inl e
        · exact Or.inr ⟨e, z.2⟩
    · rw [if_neg c]
      refine congrArg _ (decide_eq_decide.mpr ⟨fun z => ⟨List.mem_cons_of_mem _ z.1, z.2⟩, fun z => ⟨?_, z.2⟩⟩)
      rcases List.mem_cons.mp z.1 with e | e
      · exact absurd (e ▸ z.2) c
      · exact e
def am_tz (l : List Nat) (ct : Nat → Int32) (v : Int32) (f : Nat → Int32) : Nat → Int32 := fun j => if j ∈ l ∧ ct j = 2 then v else f j
theorem am_tz0 (ct : Nat → Int32) (v : Int32) (f : Nat → Int32) : am_tz [] ct v f = f := funext fun j => if_neg (by simp)
theorem am_tzs {l : List Nat} {ct : Nat → Int32} {v : Int32} {f : Nat → Int32} {c : Nat} (h : ct c = 2) : am_tz l ct v (upd f c v) = am_tz (c :: l) ct v f := by
  funext j
  unfold am_tz upd
  by_cases e : j = c
  · subst e
    rw [if_pos (c := j ∈ j :: l ∧ ct j = 2) ⟨List.mem_cons_self, h⟩]
    by_cases q : j ∈ l ∧ ct j = 2
    · rw [if_pos q]
    · rw [if_neg q, if_pos rfl]
  · by_cases q : j ∈ l ∧ ct j = 2
    · rw [if_pos q, if_pos ⟨List.mem_cons_of_mem _ q.1, q.2⟩]
    · rw [if_neg q, if_neg e, if_neg fun z => q ⟨(List.mem_cons.mp z.1).elim (fun w => absurd w e) id, z.2⟩]
theorem am_tzn {l : List Nat} {ct : Nat → Int32} {v : Int32} {f : Nat → Int32} {c : Nat} (h : ¬ ct c = 2) : am_tz (c :: l) ct v f = am_tz l ct v f := by
  funext j
  unfold am_tz
  by_cases q : j ∈ l ∧ ct j = 2
  · rw [if_pos q, if_pos ⟨List.mem_cons_of_mem _ q.1, q.2⟩]
  · rw [if_neg q, if_neg (c := j ∈ c :: l ∧ ct j = 2) fun z => q ⟨(List.mem_cons.mp z.1).elim (fun w => absurd (by rw [← w]; exact z.2) h) id, z.2⟩]
def am_nt (ct : Nat → Int32) (x : Nat) : Bool := decide (¬ ct x = 2)
/-- what a start changes: gn cnt st rg pc tr mc -/
abbrev P7 : Type := (Nat → Int32) × (Nat → Int64) × (Nat → Int32) × (Nat → Int32) × (Nat → Int32) × (Nat → Int32) × (Nat → Int32)
def am_sw (ce ca : Nat → Int32) (pa : Int32) (P : P7) (x : Nat) : P7 := (upd P.1 x (am_nx (P.1 x)), vp_updL P.2.1 7 (P.2.1 7 + 1), upd P.2.2.1 x 1, am_rg P.2.2.2.1 x (ca x) pa, upd P.2.2.2.2.1 x (ce x), upd P.2.2.2.2.2.1 x 0, upd P.2.2.2.2.2.2 x 0)
section XG
variable {N cap Q CS cc now tc kn : Nat} {fl : Int32} {op oa ob oc st gn lr rg pc tr wt dl mc mk mf mv lm mon par ce ct ca sg mx wd cn cl rc rk tp tv wa dy kd rs lk cel trd : Nat → Int32} {ms cnt : Nat → Int64}
theorem xg_6 {post : SX → Prop} {s low hi : Nat} (hs : s < 8) (h8 : hi ≤ 8) : ∀ (G : List Nat) (i n : Nat) (lv : Int32), i + G.length = hi → G.length < n → (∀ x, x ∈ G → x < 8) → (∀ j x, G[j]? = some x → cl (s * 8 + (i + j)) = nI x) → (∀ f, wX_restartGroup_6 post (nI s) (nI low) (nI hi) fl (nI N) (nI cap) (nI Q) (nI CS) (nI cc) (nI now) (nI tc) op oa ob oc st gn lr rg pc tr wt dl mc mk mf mv ms lm mon par ce ct ca sg mx wd cn cl rc rk tp tv cnt (f + 1) (G.foldl (am_lv st) lv) (nI hi)) → wX_restartGroup_6 post (nI s) (nI low) (nI hi) fl (nI N) (nI cap) (nI Q) (nI CS) (nI cc) (nI now) (nI tc) op oa ob oc st gn lr rg pc tr wt dl mc mk mf mv ms lm mon par ce ct ca sg mx wd cn cl rc rk tp tv cnt n lv (nI i) := by
  intro G
  induction G with
  | nil =>
    intro i n lv hi' hn _ _ h
    obtain ⟨m, rfl⟩ : ∃ m, n = m + 1 := ⟨n - 1, by omega⟩
    obtain rfl : i = hi := hi'
    exact h m
  | cons x G ih =>
    intro i n lv hi' hn hx hcl h
    obtain ⟨m, rfl⟩ : ∃ m, n = m + 1 := ⟨n - 1, by omega⟩
    rw [List.length_cons] at hi' hn
    have x8 : x < 8 := hx x List.mem_cons_self
    have i2 : vp_in (nI x) 8 := vp_in_nI x8 (by omega)
    have e2 : (nI x).toNatClampNeg = x := nI_clamp (by omega)
    have z := ih (i + 1) m (am_lv st lv x) (by omega) (by omega) (fun y hy => hx y (List.mem_cons_of_mem _ hy)) (fun j y hy => by
      have := hcl (j + 1) y hy
      rw [show i + (j + 1) = i + 1 + j by omega] at this
      exact this) h
    refine br_f (nI_ge (by omega) (by omega)) ⟨pk_in (s * 8 + i) 64 (by omega) (am_8 s i), nm_r (e' := nI x) (by rw [am_8, nI_clamp (by omega)]; exact hcl 0 x rfl) ⟨i2, ?_⟩⟩
    rw [e2]
    unfold am_lv at z
    by_cases c : st x = 1
    · rw [if_pos c] at z
      exact br_t c (nm_e (nm_r (nI_1 i) z))
    · rw [if_neg c] at z
      exact br_f c (nm_r (nI_1 i) z)
theorem xg_72 {s low : Nat} {A C : List Nat} (hs : s < 8) (hA : A.length = low) : ∀ (Br Rr : List Nat) (st par cn cl : Nat → Int32), low + Br.length + Rr.length + C.length ≤ 8 → am_XL cn cl s (A ++ (Br.reverse ++ (Rr ++ C))) → (∀ x, x ∈ Br → x < 8) → ∃ cn' cl' : Nat → Int32, am_XL cn' cl' s (A ++ (Br.reverse.filter (am_nt ct) ++ (Rr ++ C))) ∧ (∀ s', s' < 8 → s' ≠ s → cn' s' = cn s' ∧ ∀ k, k < 8 → cl' (s' * 8 + k) = cl (s' * 8 + k)) ∧ ∀ (post : SX → Prop) n, Br.length < n → (∀ f, wX_restartGroup_72 post (nI s) (nI low) (f + 1) (nI (low + (Br.reverse.filter (am_nt ct)).length + Rr.length)) (nI low - 1) fl (nI N) (nI cap) (nI Q) (nI CS) (nI cc) (nI now) (nI tc) op oa ob oc (am_tz Br ct 0 st) gn lr rg pc tr wt dl mc mk mf mv ms lm mon (am_tz Br ct (-1) par) ce ct ca sg mx wd cn' cl' rc rk tp tv cnt) → wX_restartGroup_72 post (nI s) (nI low) n (nI (low + Br.length + Rr.length)) (nI (low + Br.length) - 1) fl (nI N) (nI cap) (nI Q) (nI CS) (nI cc) (nI now) (nI tc) op oa ob oc st gn lr rg pc tr wt dl mc mk mf mv ms lm mon par ce ct ca sg mx wd cn cl rc rk tp tv cnt := by
  intro Br
  induction Br with
  | nil =>
    intro Rr st par cn cl hl hx _
    refine ⟨cn, cl, hx, fun _ _ _ => ⟨rfl, fun _ _ => rfl⟩, fun post n hn h => ?_⟩
    obtain ⟨m, rfl⟩ : ∃ m, n = m + 1 := ⟨n - 1, by omega⟩
    have z := h m
    rw [am_tz0, am_tz0] at z
    exact z
  | cons c Br ih =>
    intro Rr st par cn cl hl hx h8
    rw [List.length_cons] at hl
    have c8 : c < 8 := h8 c List.mem_cons_self
    have i2 : vp_in (nI c) 8 := vp_in_nI c8 (by omega)
    have e2 : (nI c).toNatClampNeg = c := nI_clamp (by omega)
    have el : A ++ ((c :: Br).reverse ++ (Rr ++ C)) = (A ++ Br.reverse) ++ c :: (Rr ++ C) := by
      rw [List.reverse_cons, List.append_assoc, List.append_assoc]; rfl
    rw [el] at hx
    have lP : (A ++ Br.reverse).length = low + Br.length := by rw [List.length_append, List.length_reverse, hA]
    have hcl : cl (s * 8 + (low + Br.length)) = nI c := hx.2 (low + Br.length) c (by
      rw [List.getElem?_append_right (by omega), lP, Nat.sub_self]; rfl)
    have hcn : cn s = nI (low + Br.length + 1 + Rr.length + C.length) := by
      rw [hx.1, List.length_append, lP, List.length_cons, List.length_append]
      exact congrArg nI (by omega)
    by_cases q : ct c = 2
    · have hx' := am_XL_er hx
      rw [lP, List.length_append, List.append_assoc] at hx'
      obtain ⟨cn', cl', z1, z2, z3⟩ := ih Rr (upd st c 0) (upd par c (-1)) _ _ (by omega) hx' (fun y hy => h8 y (List.mem_cons_of_mem _ hy))
      have ef : (c :: Br).reverse.filter (am_nt ct) = Br.reverse.filter (am_nt ct) := by
        rw [List.reverse_cons, List.filter_append, List.filter_cons_of_neg (by unfold am_nt; simp [q]), List.filter_nil, List.append_nil]
      rw [ef]
      refine ⟨cn', cl', z1, fun s' h1 h2 => ?_, fun post n hn h => ?_⟩
      · obtain ⟨y1, y2⟩ := z2 s' h1 h2
        obtain ⟨o1, o2⟩ := am_XL_o (cn := cn) (cl := cl) (a := low + Br.length) (b := low + Br.length + (Rr.length + C.length)) (x := nI (low + Br.length + (Rr.length + C.length))) h2 (by omega)
        exact ⟨y1.trans o1, fun k hk => (y2 k hk).trans (o2 k hk)⟩
      · obtain ⟨m, rfl⟩ : ∃ m, n = m + 1 := ⟨n - 1, by omega⟩
        rw [List.length_cons] at hn ⊢
        have z := z3 post m (by omega) (fun f => by
          rw [am_tzs q, am_tzs q]; exact h f)
        rw [show low + (Br.length + 1) = low + Br.length + 1 by omega, nI_pred]
        refine br_f (nI_nlt (by omega) (by omega)) ⟨pk_in (s * 8 + (low + Br.length)) 64 (by omega) (am_8 s _), nm_r (e' := nI c) (by rw [am_8, nI_clamp (by omega)]; exact hcl) ⟨i2, ?_⟩⟩
        rw [e2]
        refine br_t q (xd_drop (len := low + Br.length + 1 + Rr.length + C.length) hs (by omega) (by omega) hcn hcl c8 ?_)
        rw [show low + Br.length + 1 + Rr.length + C.length - 1 = low + Br.length + (Rr.length + C.length) by omega]
        refine nm_r (e' := nI (low + Br.length + Rr.length)) ?_ (nm_r (e' := nI (low + Br.length) - 1) (am_sub1 _) z)
        rw [show low + Br.length + 1 + Rr.length = low + Br.length + Rr.length + 1 by omega, pk_m1]
    · have eR : (A ++ Br.reverse) ++ c :: (Rr ++ C) = A ++ (Br.reverse ++ ((c :: Rr) ++ C)) := by
        rw [List.append_assoc]; rfl
      rw [eR] at hx
      obtain ⟨cn', cl', z1, z2, z3⟩ := ih (c :: Rr) st par cn cl (by rw [List.length_cons]; omega) hx (fun y hy => h8 y (List.mem_cons_of_mem _ hy))
      have ef : (c :: Br).reverse.filter (am_nt ct) = Br.reverse.filter (am_nt ct) ++ [c] := by
        rw [List.reverse_cons, List.filter_append, List.filter_cons_of_pos (by unfold am_nt; simp [q]), List.filter_nil]
      have eF : Br.reverse.filter (am_nt ct) ++ [c] ++ (Rr ++ C) = Br.reverse.filter (am_nt ct) ++ ((c :: Rr) ++ C) := by
        rw [List.append_assoc]; rfl
      rw [ef, eF]
      refine ⟨cn', cl', z1, z2, fun post n hn h => ?_⟩
      obtain ⟨m, rfl⟩ : ∃ m, n = m + 1 := ⟨n - 1, by omega⟩
      rw [List.length_cons] at hn ⊢
      have z := z3 post m (by omega) (fun f => by
        have y := h f
        rw [am_tzn q, am_tzn q, List.length_append, List.length_singleton, show low + ((Br.reverse.filter (am_nt ct)).length + 1) + Rr.length = low + (Br.reverse.filter (am_nt ct)).length + (Rr.length + 1) by omega] at y
        exact y)
      rw [List.length_cons] at z
      rw [show low + (Br.length + 1) + Rr.length = low + Br.length + (Rr.length + 1) by omega, show low + (Br.length + 1) = low + Br.length + 1 by omega, nI_pred]
      refine br_f (nI_nlt (by omega) (by omega)) ⟨pk_in (s * 8 + (low + Br.length)) 64 (by omega) (am_8 s _), nm_r (e' := nI c) (by rw [am_8, nI_clamp (by omega)]; exact hcl) ⟨i2, ?_⟩⟩
      rw [e2]
      exact br_f q (nm_r (e' := nI (low + Br.length) - 1) (am_sub1 _) z)
theorem xg_129 {post : SX → Prop} {s e : Nat} {pa : Int32} (hs : s < 8) (he : e ≤ 8) : ∀ (G : List Nat) (a n : Nat) (P : P7) (wt dl : Nat → Int32), a + G.length = e → G.length < n → (∀ x, x ∈ G → x < 8) → (∀ j x, G[j]? = some x → cl (s * 8 + (a + j)) = nI x) → post (fl, nI N, nI cap, nI Q, nI CS, nI cc, nI now, nI tc, op, oa, ob, oc, (G.foldl (am_sw ce ca pa) P).2.2.1, (G.foldl (am_sw ce ca pa) P).1, lr, (G.foldl (am_sw ce ca pa) P).2.2.2.1, (G.foldl (am_sw ce ca pa) P).2.2.2.2.1, (G.foldl (am_sw ce ca pa) P).2.2.2.2.2.1, G.foldl (fun w x => upd w x 0) wt, G.foldl (fun w x => upd w x (-1)) dl, (G.foldl (am_sw ce ca pa) P).2.2.2.2.2.2, mk, mf, mv, ms, lm, mon, par, ce, ct, ca, sg, mx, wd, cn, cl, rc, rk, tp, tv, (G.foldl (am_sw ce ca pa) P).2.1) → wX_restartGroup_129 post (nI s) (nI e) pa n (nI a) fl (nI N) (nI cap) (nI Q) (nI CS) (nI cc) (nI now) (nI tc) op oa ob oc P.2.2.1 P.1 lr P.2.2.2.1 P.2.2.2.2.1 P.2.2.2.2.2.1 wt dl P.2.2.2.2.2.2 mk mf mv ms lm mon par ce ct ca sg mx wd cn cl rc rk tp tv P.2.1 := by
  intro G
  induction G with
  | nil =>
    intro a n P wt dl ha hn _ _ h
    obtain ⟨m, rfl⟩ : ∃ m, n = m + 1 := ⟨n - 1, by omega⟩
    obtain rfl : a = e := ha
    exact br_t (Int32.le_refl _) h
  | cons x G ih =>
    intro a n P wt dl ha hn hx hcl h
    obtain ⟨m, rfl⟩ : ∃ m, n = m + 1 := ⟨n - 1, by omega⟩
    rw [List.length_cons] at ha hn
    have x8 : x < 8 := hx x List.mem_cons_self
    have i2 : vp_in (nI x) 8 := vp_in_nI x8 (by omega)
    have e2 : (nI x).toNatClampNeg = x := nI_clamp (by omega)
    have z := ih (a + 1) m (am_sw ce ca pa P x) (upd wt x 0) (upd dl x (-1)) (by omega) (by omega) (fun y hy => hx y (List.mem_cons_of_mem _ hy)) (fun j y hy => by
      have := hcl (j + 1) y hy
      rw [show a + (j + 1) = a + 1 + j by omega] at this
      exact this) h
    refine br_f (nI_ge (by omega) (by omega)) ⟨pk_in (s * 8 + a) 64 (by omega) (am_8 s a), nm_r (e' := nI x) (by rw [am_8, nI_clamp (by omega)]; exact hcl 0 x rfl) ⟨i2, i2, ?_⟩⟩
    rw [e2]
    exact xs_start x8 (nm_r (nI_1 a) z)
end XG
end
section
/-! 22: a group of children starts anew: the reference's side -/
def am_gl (sg : Int32) (par : Nat → Int32) (s c : Nat) : List Nat → Bool → List Nat
  | [], _ => []
  | x :: xs, b => if (x = c ∨ sg = 1 ∨ (sg = 2 ∧ (b || decide (x = c)) = true)) ∧ par x = nI s then x :: am_gl sg par s c xs (b || decide (x = c)) else am_gl sg par s c xs (b || decide (x = c))
def am_or1 (m : Int32) (x : Nat) : Int32 := m ||| am_one x
theorem am_or1_b : ∀ (G : List Nat) (m : Int32), (∀ x, x ∈ G → x < 8) → ∀ j, bt (G.foldl am_or1 m) j = (bt m j || decide (j ∈ G)) := by
  intro G
  induction G with
  | nil => intro m _ j; rw [decide_eq_false (by simp)]; exact (Bool.or_false _).symm
  | cons x G ih =>
    intro m h j
    have x8 := h x List.mem_cons_self
    rw [List.foldl_cons, ih _ (fun y hy => h y (List.mem_cons_of_mem _ hy)) j]
    unfold am_or1
    rw [am_orb (by omega), Bool.or_assoc, ← Bool.decide_or]
    exact congrArg _ (decide_eq_decide.mpr List.mem_cons.symm)
theorem am_gl_sub {sg : Int32} {par : Nat → Int32} {s c : Nat} : ∀ (K : List Nat) (b : Bool) (x : Nat), x ∈ am_gl sg par s c K b → x ∈ K := by
  intro K
  induction K with
  | nil => intro b x h; exact h
  | cons y K ih =>
    intro b x h
    unfold am_gl at h
    split at h
    · rcases List.mem_cons.mp h with e | e
      · rw [e]; exact List.mem_cons_self
      · exact List.mem_cons_of_mem _ (ih _ x e)
    · exact List.mem_cons_of_mem _ (ih _ x h)
theorem am_gl_1 {par : Nat → Int32} {s c : Nat} : ∀ (K : List Nat) (b : Bool), am_gl 1 par s c K b = am_CL K par s := by
  intro K
  induction K with
  | nil => intro b; rfl
  | cons y K ih =>
    intro b
    unfold am_gl am_CL
    by_cases q : par y = nI s
    · rw [if_pos ⟨Or.inr (Or.inl rfl), q⟩, List.filter_cons_of_pos (by simp [q]), ih]; rfl
    · rw [if_neg fun z => q z.2, List.filter_cons_of_neg (by simp [q]), ih]; rfl
theorem am_gl_0n {par : Nat → Int32} {s c : Nat} : ∀ (K : List Nat) (b : Bool), ¬ c ∈ K → am_gl 0 par s c K b = [] := by
  intro K
  induction K with
  | nil => intro b _; rfl
  | cons y K ih =>
    intro b h
    unfold am_gl
    rw [if_neg fun z => ?_, ih _ fun z => h (List.mem_cons_of_mem _ z)]
    rcases z.1 with e | e | e
    · exact h (by rw [e]; exact List.mem_cons_self)
    · exact absurd e (by decide)
    · exact absurd e.1 (by decide)
theorem am_gl_0 {par : Nat → Int32} {s c : Nat} (hp : par c = nI s) : ∀ (K : List Nat) (b : Bool), K.Nodup → c ∈ K → am_gl 0 par s c K b = [c] := by
  intro K
  induction K with
  | nil => intro b _ h; exact absurd h (by simp)
  | cons y K ih =>
    intro b hn h
    obtain ⟨n1, n2⟩ := List.nodup_cons.mp hn
    unfold am_gl
    by_cases e : y = c
    · subst e
      rw [if_pos ⟨Or.inl rfl, hp⟩, am_gl_0n K _ n1]
    · rw [if_neg fun z => ?_]
      · exact ih _ n2 ((List.mem_cons.mp h).elim (fun w => absurd w.symm e) id)
      · rcases z.1 with w | w | w
        · exact e w
        · exact absurd w (by decide)
        · exact absurd w.1 (by decide)
theorem am_gl_2t {par : Nat → Int32} {s c : Nat} : ∀ (K : List Nat), am_gl 2 par s c K true = am_CL K par s := by
  intro K
  induction K with
  | nil => rfl
  | cons y K ih =>
    unfold am_gl am_CL
    by_cases q : par y = nI s
    · rw [if_pos ⟨Or.inr (Or.inr ⟨rfl, by simp⟩), q⟩, List.filter_cons_of_pos (by simp [q]), Bool.true_or, ih]; rfl
    · rw [if_neg fun z => q z.2, List.filter_cons_of_neg (by simp [q]), Bool.true_or, ih]; rfl
/-- from c on -/
theorem am_gl_2 {par : Nat → Int32} {s c : Nat} (hp : par c = nI s) : ∀ (K : List Nat) (i : Nat), K.Nodup → (am_CL K par s)[i]? = some c → am_gl 2 par s c K false = (am_CL K par s).drop i := by
  intro K
  induction K with
  | nil => intro i _ h; exact absurd h (by simp [am_CL])
  | cons y K ih =>
    intro i hn h
    obtain ⟨n1, n2⟩ := List.nodup_cons.mp hn
    unfold am_gl
    by_cases e : y = c
    · subst e
      rw [if_pos ⟨Or.inl rfl, hp⟩, decide_eq_true rfl, Bool.or_true, am_gl_2t]
      have ef : am_CL (y :: K) par s = y :: am_CL K par s := by
        unfold am_CL; rw [List.filter_cons_of_pos (by simp [hp])]
      rw [ef] at h ⊢
      cases i with
      | zero => rfl
      | succ i =>
        rw [List.getElem?_cons_succ] at h
        exact absurd (am_CLm.mp (List.mem_of_getElem? h)).1 n1
    · rw [if_neg fun z => ?_, decide_eq_false e, Bool.or_false]
      · by_cases q : par y = nI s
        · have ef : am_CL (y :: K) par s = y :: am_CL K par s := by
            unfold am_CL; rw [List.filter_cons_of_pos (by simp [q])]
          rw [ef] at h ⊢
          cases i with
          | zero => exact absurd (Option.some.inj h) e
          | succ i =>
            rw [List.getElem?_cons_succ] at h
            rw [List.drop_succ_cons]
            exact ih i n2 h
        · have ef : am_CL (y :: K) par s = am_CL K par s := by
            unfold am_CL; rw [List.filter_cons_of_neg (by simp [q])]
          rw [ef] at h ⊢
          exact ih i n2 h
      · rcases z.1 with w | w | w
        · exact e w
        · exact absurd w (by decide)
        · rw [decide_eq_false e, Bool.or_false] at w
          exact absurd w.2 (by decide)
def am_fz (T : Nat → Bool) (v : Int32) (f : Nat → Int32) (x : Nat) : Nat → Int32 := fun j => if j < x ∧ T j = true then v else f j
def am_Kf (K : List Nat) (T : Nat → Bool) (x : Nat) : List Nat := K.filter (fun y => !decide (y < x ∧ T y = true))
theorem am_fz0 (T : Nat → Bool) (v : Int32) (f : Nat → Int32) : am_fz T v f 0 = f := funext fun j => if_neg (by omega)
theorem am_Kf0 (K : List Nat) (T : Nat → Bool) : am_Kf K T 0 = K := by
  unfold am_Kf
  exact List.filter_eq_self.mpr fun x _ => by rw [decide_eq_false (by omega)]; rfl
theorem am_fzx {T : Nat → Bool} {v : Int32} {f : Nat → Int32} {x : Nat} : am_fz T v f x x = f x := if_neg (by omega)
theorem am_fzn {T : Nat → Bool} {v : Int32} {f : Nat → Int32} {x : Nat} (h : ¬ T x = true) : am_fz T v f (x + 1) = am_fz T v f x := by
  funext j
  unfold am_fz
  by_cases c : j < x ∧ T j = true
  · rw [if_pos c, if_pos ⟨by omega, c.2⟩]
  · rw [if_neg c, if_neg fun z => c ⟨by
      have : j ≠ x := fun e => h (e ▸ z.2)
      omega, z.2⟩]
theorem am_fzs {T : Nat → Bool} {v : Int32} {f : Nat → Int32} {x : Nat} (h : T x = true) : upd (am_fz T v f x) x v = am_fz T v f (x + 1) := by
  funext j
  unfold am_fz upd
  dsimp only
  by_cases e : j = x
  · subst e; rw [if_pos rfl, if_pos ⟨by omega, h⟩]
  · rw [if_neg e]
    by_cases c : j < x ∧ T j = true
    · rw [if_pos c, if_pos ⟨by omega, c.2⟩]
    · rw [if_neg c, if_neg fun z => c ⟨by omega, z.2⟩]
theorem am_Kfn {K : List Nat} {T : Nat → Bool} {x : Nat} (h : ¬ T x = true) : am_Kf K T (x + 1) = am_Kf K T x := by
  unfold am_Kf
  refine List.filter_congr fun y _ => ?_
  refine congrArg _ (decide_eq_decide.mpr ⟨fun z => ⟨?_, z.2⟩, fun z => ⟨by omega, z.2⟩⟩)
  have : y ≠ x := fun e => h (e ▸ z.2)
  omega
theorem am_Kfs {K : List Nat} {T : Nat → Bool} {x : Nat} (h : T x = true) : (am_Kf K T x).filter (fun y => decide (y ≠ x)) = am_Kf K T (x + 1) := by
  unfold am_Kf
  rw [List.filter_filter]
  refine List.filter_congr fun y _ => ?_
  by_cases e : y = x
  · subst e
    rw [decide_eq_false (p := y ≠ y) (by simp), decide_eq_true (p := y < y + 1 ∧ T y = true) ⟨by omega, h⟩]; rfl
  · rw [decide_eq_true (p := y ≠ x) e, Bool.true_and]
    exact congrArg _ (decide_eq_decide.mpr ⟨fun z => ⟨by omega, z.2⟩, fun z => ⟨by omega, z.2⟩⟩)
section YG
variable {N cap Q CS cc now tc kn : Nat} {fl : Int32} {op oa ob oc st gn lr rg pc tr wt dl mc mk mf mv lm mon par ce ct ca sg mx wd cn cl rc rk tp tv wa dy kd rs lk cel trd : Nat → Int32} {ms cnt : Nat → Int64}
theorem yg_235t {post : SY → Prop} {J : Int32 → Int32 → Int32 → Int32 → Prop} {s x i : Nat} {x2 g lv x7 : Int32} (hx : x < 8) (h : J (if par x = nI s then g ||| am_one x else g) (if par x = nI s ∧ st x = 1 then lv ||| am_one x else lv) x7 (nI (i + 1))) : wY_settleOne_230 post J (nI s) x2 g lv x7 (nI i) (nI x) (nI N) (nI cap) (nI Q) (nI CS) (nI now) (nI cc) (nI tc) (nI kn) st gn lr pc wa dy tr par ce ct ca kd sg mx wd rs rg mon lk mc mk mf mv ms cel trd cnt := by
  have i2 : vp_in (nI x) 8 := vp_in_nI hx (by omega)
  have e2 : (nI x).toNatClampNeg = x := nI_clamp (by omega)
  refine br_f (by decide) ⟨i2, ?_⟩
  rw [e2]
  by_cases c : par x = nI s
  · rw [if_pos c] at h
    refine br_t c (nm_e (br_f (by decide) ⟨i2, ?_⟩))
    rw [e2]
    refine br_t c ⟨i2, ?_⟩
    by_cases c2 : st x = 1
    · rw [if_pos ⟨c, c2⟩] at h
      exact br_t c2 (nm_e (nm_r (nI_1 i) h))
    · rw [if_neg fun z => c2 z.2] at h
      exact br_f c2 (nm_r (nI_1 i) h)
  · rw [if_neg c, if_neg fun z => c z.1] at h
    refine br_f c (br_f (by decide) ⟨i2, ?_⟩)
    rw [e2]
    exact br_f c (nm_r (nI_1 i) h)
theorem yg_235f {post : SY → Prop} {J : Int32 → Int32 → Int32 → Int32 → Prop} {s x i : Nat} {x2 g lv x7 : Int32} (h : J g lv x7 (nI (i + 1))) : wY_settleOne_234 post J (nI s) x2 g lv x7 (nI i) (nI x) (nI N) (nI cap) (nI Q) (nI CS) (nI now) (nI cc) (nI tc) (nI kn) st gn lr pc wa dy tr par ce ct ca kd sg mx wd rs rg mon lk mc mk mf mv ms cel trd cnt :=
  br_t rfl (br_t rfl (nm_r (nI_1 i) h))
theorem yg_172 {post : SY → Prop} {s c : Nat} (hs : s < 8) (hc : c < 8) (h8 : kn ≤ 8) : ∀ (K : List Nat) (i n : Nat) (b : Bool) (g lv : Int32), i + K.length = kn → K.length < n → (∀ x, x ∈ K → x < 8) → (∀ j x, K[j]? = some x → kd (i + j) = nI x) → (∀ f b', wY_settleOne_172 post (nI s) (nI c) (nI N) (nI cap) (nI Q) (nI CS) (nI now) (nI cc) (nI tc) (nI kn) st gn lr pc wa dy tr par ce ct ca kd sg mx wd rs rg mon lk mc mk mf mv ms cel trd cnt (f + 1) ((am_gl (sg s) par s c K b).foldl am_or1 g) ((am_gl (sg s) par s c K b).foldl (am_lv st) lv) (am_b b') (nI kn)) → wY_settleOne_172 post (nI s) (nI c) (nI N) (nI cap) (nI Q) (nI CS) (nI now) (nI cc) (nI tc) (nI kn) st gn lr pc wa dy tr par ce ct ca kd sg mx wd rs rg mon lk mc mk mf mv ms cel trd cnt n g lv (am_b b) (nI i) := by
  have i1 : vp_in (nI s) 8 := vp_in_nI hs (by omega)
  have e1 : (nI s).toNatClampNeg = s := nI_clamp (by omega)
  intro K
  induction K with
  | nil =>
    intro i n b g lv hi hn _ _ h
    obtain ⟨m, rfl⟩ : ∃ m, n = m + 1 := ⟨n - 1, by omega⟩
    obtain rfl : i = kn := hi
    exact h m b
  | cons x K ih =>
    intro i n b g lv hi hn hx hk h
    obtain ⟨m, rfl⟩ : ∃ m, n = m + 1 := ⟨n - 1, by omega⟩
    rw [List.length_cons] at hi hn
    have x8 : x < 8 := hx x List.mem_cons_self
    have hK : kd i = nI x := hk 0 x rfl
    have IH : ∀ g' lv', (∀ f b', wY_settleOne_172 post (nI s) (nI c) (nI N) (nI cap) (nI Q) (nI CS) (nI now) (nI cc) (nI tc) (nI kn) st gn lr pc wa dy tr par ce ct ca kd sg mx wd rs rg mon lk mc mk mf mv ms cel trd cnt (f + 1) ((am_gl (sg s) par s c K (b || decide (x = c))).foldl am_or1 g') ((am_gl (sg s) par s c K (b || decide (x = c))).foldl (am_lv st) lv') (am_b b') (nI kn)) → wY_settleOne_172 post (nI s) (nI c) (nI N) (nI cap) (nI Q) (nI CS) (nI now) (nI cc) (nI tc) (nI kn) st gn lr pc wa dy tr par ce ct ca kd sg mx wd rs rg mon lk mc mk mf mv ms cel trd cnt m g' lv' (am_b (b || decide (x = c))) (nI (i + 1)) := fun g' lv' q => ih (i + 1) m _ g' lv' (by omega) (by omega) (fun y hy => hx y (List.mem_cons_of_mem _ hy)) (fun j y hy => by
      have := hk (j + 1) y hy
      rw [show i + (j + 1) = i + 1 + j by omega] at this
      exact this) q
    have T : (x = c ∨ sg s = 1 ∨ (sg s = 2 ∧ (b || decide (x = c)) = true)) → wY_settleOne_172 post (nI s) (nI c) (nI N) (nI cap) (nI Q) (nI CS) (nI now) (nI cc) (nI tc) (nI kn) st gn lr pc wa dy tr par ce ct ca kd sg mx wd rs rg mon lk mc mk mf mv ms cel trd cnt m (if par x = nI s then g ||| am_one x else g) (if par x = nI s ∧ st x = 1 then lv ||| am_one x else lv) (am_b (b || decide (x = c))) (nI (i + 1)) := fun q => by
      refine IH _ _ fun f b' => ?_
      have y := h f b'
      unfold am_gl at y
      by_cases p : par x = nI s
      · rw [if_pos ⟨q, p⟩, List.foldl_cons, List.foldl_cons] at y
        rw [if_pos p]
        unfold am_or1 am_lv at y ⊢
        by_cases p2 : st x = 1
        · rw [if_pos p2] at y
          rw [if_pos ⟨p, p2⟩]; exact y
        · rw [if_neg p2] at y
          rw [if_neg fun z => p2 z.2]; exact y
      · rw [if_neg fun z => p z.2] at y
        rw [if_neg p, if_neg fun z => p z.1]; exact y
    have F : ¬ (x = c ∨ sg s = 1 ∨ (sg s = 2 ∧ (b || decide (x = c)) = true)) → wY_settleOne_172 post (nI s) (nI c) (nI N) (nI cap) (nI Q) (nI CS) (nI now) (nI cc) (nI tc) (nI kn) st gn lr pc wa dy tr par ce ct ca kd sg mx wd rs rg mon lk mc mk mf mv ms cel trd cnt m g lv (am_b (b || decide (x = c))) (nI (i + 1)) := fun q => by
      refine IH _ _ fun f b' => ?_
      have y := h f b'
      unfold am_gl at y
      rw [if_neg fun z => q z.1] at y
      exact y
    refine br_f (nI_ge (by omega) (by omega)) ⟨vp_in_nI (by omega) (by omega), nm_r (e' := nI x) (by rw [nI_clamp (by omega), hK]) ?_⟩
    by_cases e : x = c
    · have eb : (b || decide (x = c)) = true := by rw [decide_eq_true e, Bool.or_true]
      rw [eb] at T
      refine br_t (by rw [e]) (br_t (by rw [e]) (yg_235t x8 ?_))
      exact T (Or.inl e)
    · have eb : (b || decide (x = c)) = b := by rw [decide_eq_false e, Bool.or_false]
      rw [eb] at T F
      have ne : ¬ nI x = nI c := fun z => e (am_im z (by omega) (by omega))
      refine br_f ne (br_f ne ⟨i1, ?_⟩)
      rw [e1]
      by_cases q1 : sg s = 1
      · exact br_t q1 (yg_235t x8 (T (Or.inr (Or.inl q1))))
      · refine br_f q1 ⟨i1, ?_⟩
        by_cases q2 : sg s = 2
        · refine br_t q2 (am_br (fun q3 => ?_) (fun q3 => ?_))
          · refine yg_235f (F fun z => ?_)
            rcases z with z | z | z
            · exact e z
            · exact q1 z
            · rw [q3] at z; exact absurd z.2 (by decide)
          · exact yg_235t x8 (T (Or.inr (Or.inr ⟨q2, q3⟩)))
        · refine br_f q2 (yg_235f (F fun z => ?_))
          rcases z with z | z | z
          · exact e z
          · exact q1 z
          · exact q2 z.1
theorem yg_314 {K : List Nat} {s : Nat} {g : Int32} {T : Nat → Bool} (h8 : ∀ x, x ∈ K → x < 8) (hT : ∀ j, j < 8 → T j = (bt g j && decide (ct j = 2))) (h3 : ∀ j, j < 8 → T j = true → st j = 3) : ∀ dd x (kd : Nat → Int32), x + dd = 8 → iKy (am_Kf K T x) (am_Kf K T x).length kd → ∃ kd' : Nat → Int32, iKy (am_Kf K T 8) (am_Kf K T 8).length kd' ∧ ∀ (post : SY → Prop) n, dd < n → (∀ f, wY_settleOne_314 post (nI s) g (f + 1) (nI 8) (nI N) (nI cap) (nI Q) (nI CS) (nI now) (nI cc) (nI tc) (nI ((am_Kf K T 8).length)) (am_fz T 0 st 8) gn lr pc wa dy tr (am_fz T (-1) par 8) ce ct ca kd' sg mx wd rs rg mon lk mc mk mf mv ms cel trd cnt) → wY_settleOne_314 post (nI s) g n (nI x) (nI N) (nI cap) (nI Q) (nI CS) (nI now) (nI cc) (nI tc) (nI ((am_Kf K T x).length)) (am_fz T 0 st x) gn lr pc wa dy tr (am_fz T (-1) par x) ce ct ca kd sg mx wd rs rg mon lk mc mk mf mv ms cel trd cnt := by
  intro dd
  induction dd with
  | zero =>
    intro x kd hx hk
    obtain rfl : x = 8 := hx
    refine ⟨kd, hk, fun post n hn h => ?_⟩
    obtain ⟨m, rfl⟩ : ∃ m, n = m + 1 := ⟨n - 1, by omega⟩
    exact h m
  | succ dd ih =>
    intro x kd hx hk
    have i1 : vp_in (nI x) 8 := vp_in_nI (by omega) (by omega)
    have e1 : (nI x).toNatClampNeg = x := nI_clamp (by omega)
    by_cases c : T x = true
    · obtain ⟨kd1, y1, y2⟩ := yd_drop (N := N) (cap := cap) (Q := Q) (CS := CS) (now := now) (cc := cc) (tc := tc) (kn := (am_Kf K T x).length) (st := am_fz T 0 st x) (gn := gn) (lr := lr) (pc := pc) (wa := wa) (dy := dy) (tr := tr) (par := am_fz T (-1) par x) (ce := ce) (ct := ct) (ca := ca) (kd := kd) (sg := sg) (mx := mx) (wd := wd) (rs := rs) (rg := rg) (mon := mon) (lk := lk) (mc := mc) (mk := mk) (mf := mf) (mv := mv) (ms := ms) (cel := cel) (trd := trd) (cnt := cnt) (c := x) (by omega) hk (fun y hy => h8 y (List.mem_filter.mp hy).1)
      rw [am_Kfs c] at y1
      obtain ⟨kd', z1, z2⟩ := ih (x + 1) kd1 (by omega) y1
      refine ⟨kd', z1, fun post n hn h => ?_⟩
      obtain ⟨m, rfl⟩ : ∃ m, n = m + 1 := ⟨n - 1, by omega⟩
      have z := z2 post m (by omega) h
      have cc' := c
      rw [hT x (by omega), Bool.and_eq_true] at cc'
      refine br_f (nI_ge (b := 8) (by omega) (by omega)) (yv_has (by omega) ?_)
      rw [cc'.1]
      refine br_f (by decide) ⟨i1, ?_⟩
      rw [e1]
      refine br_t (of_decide_eq_true cc'.2) (y2 _ ?_)
      have ed : am_d3 (am_fz T 0 st x) x = am_fz T 0 st (x + 1) := by
        unfold am_d3
        rw [am_fzx, if_pos (h3 x (by omega) c), am_fzs c]
      rw [am_fzs c, ed, am_Kfs c]
      exact nm_r (nI_1 x) z
    · obtain ⟨kd', z1, z2⟩ := ih (x + 1) kd (by omega) (by rw [am_Kfn c]; exact hk)
      refine ⟨kd', z1, fun post n hn h => ?_⟩
      obtain ⟨m, rfl⟩ : ∃ m, n = m + 1 := ⟨n - 1, by omega⟩
      have z := z2 post m (by omega) h
      rw [am_Kfn c, am_fzn c, am_fzn c] at z
      refine br_f (nI_ge (b := 8) (by omega) (by omega)) (yv_has (by omega) (am_br (fun q => ?_) (fun q => ⟨i1, ?_⟩)))
      · exact nm_r (nI_1 x) z
      · rw [e1]
        refine br_f (fun w => c ?_) (nm_r (nI_1 x) z)
        rw [hT x (by omega), q, decide_eq_true w]; rfl
theorem yg_365 {post : SY → Prop} {g pa : Int32} (h8 : kn ≤ 8) : ∀ (K : List Nat) (i n : Nat) (P : P7) (wa : Nat → Int32), i + K.length = kn → K.length < n → (∀ x, x ∈ K → x < 8) → (∀ j x, K[j]? = some x → kd (i + j) = nI x) → iG P.1 → post (nI N, nI cap, nI Q, nI CS, nI now, nI cc, nI tc, nI kn, ((K.filter (bt g)).foldl (am_sw ce ca pa) P).2.2.1, ((K.filter (bt g)).foldl (am_sw ce ca pa) P).1, lr, ((K.filter (bt g)).foldl (am_sw ce ca pa) P).2.2.2.2.1, (K.filter (bt g)).foldl (fun w x => upd w x 0) wa, dy, ((K.filter (bt g)).foldl (am_sw ce ca pa) P).2.2.2.2.2.1, par, ce, ct, ca, kd, sg, mx, wd, rs, ((K.filter (bt g)).foldl (am_sw ce ca pa) P).2.2.2.1, mon, lk, ((K.filter (bt g)).foldl (am_sw ce ca pa) P).2.2.2.2.2.2, mk, mf, mv, ms, cel, trd, ((K.filter (bt g)).foldl (am_sw ce ca pa) P).2.1) → wY_settleOne_365 post g pa n (nI i) (nI N) (nI cap) (nI Q) (nI CS) (nI now) (nI cc) (nI tc) (nI kn) P.2.2.1 P.1 lr P.2.2.2.2.1 wa dy P.2.2.2.2.2.1 par ce ct ca kd sg mx wd rs P.2.2.2.1 mon lk P.2.2.2.2.2.2 mk mf mv ms cel trd P.2.1 := by
  intro K
  induction K with
  | nil =>
    intro i n P wa hi hn _ _ _ h
    obtain ⟨m, rfl⟩ : ∃ m, n = m + 1 := ⟨n - 1, by omega⟩
    obtain rfl : i = kn := hi
    exact br_t (Int32.le_refl _) h
  | cons x K ih =>
    intro i n P wa hi hn hx hk hG h
    obtain ⟨m, rfl⟩ : ∃ m, n = m + 1 := ⟨n - 1, by omega⟩
    rw [List.length_cons] at hi hn
    have x8 : x < 8 := hx x List.mem_cons_self
    have i1 : vp_in (nI i) 8 := vp_in_nI (by omega) (by omega)
    have e1 : (nI i).toNatClampNeg = i := nI_clamp (by omega)
    have i2 : vp_in (nI x) 8 := vp_in_nI x8 (by omega)
    have e2 : (nI x).toNatClampNeg = x := nI_clamp (by omega)
    have hK : kd i = nI x := hk 0 x rfl
    have IH := fun (P : P7) (wa : Nat → Int32) (hG : iG P.1) => ih (i + 1) m P wa (by omega) (by omega) (fun y hy => hx y (List.mem_cons_of_mem _ hy)) (fun j y hy => by
      have := hk (j + 1) y hy
      rw [show i + (j + 1) = i + 1 + j by omega] at this
      exact this) hG
    refine br_f (nI_ge (by omega) (by omega)) ⟨i1, ?_⟩
    rw [e1, hK, e2]
    refine yv_has (by omega) (am_br (fun c => ?_) (fun c => ?_))
    · rw [List.filter_cons_of_neg (by rw [c]; decide)] at h
      exact nm_r (nI_1 i) (IH P wa hG h)
    · rw [List.filter_cons_of_pos c] at h
      obtain ⟨gg, g1, g2⟩ := hG x x8
      refine ⟨i1, i1, i2, i1, i2, ys_start x8 g2 g1 (nm_r (nI_1 i) ?_)⟩
      refine IH (am_sw ce ca pa P x) (upd wa x 0) (fun j hj => ?_) h
      show ∃ g, g ≤ 1000000 ∧ upd P.1 x (am_nx (P.1 x)) j = nI g
      by_cases e : j = x
      · subst e
        rw [pk_us, g2]
        obtain ⟨g', a, b, -⟩ := am_nx_le g1
        exact ⟨g', a, b⟩
      · rw [pk_un e]; exact hG j hj
end YG
end
section
/-! 23: a group starts anew: both sides -/
theorem am_sw_f {ce ca : Nat → Int32} {pa : Int32} : ∀ (G : List Nat) (P : P7), G.Nodup → (∀ j, (G.foldl (am_sw ce ca pa) P).1 j = if j ∈ G then am_nx (P.1 j) else P.1 j) ∧ (∀ j, (G.foldl (am_sw ce ca pa) P).2.2.1 j = if j ∈ G then 1 else P.2.2.1 j) ∧ (∀ j, (G.foldl (am_sw ce ca pa) P).2.2.2.2.2.2 j = if j ∈ G then 0 else P.2.2.2.2.2.2 j) := by
  intro G
  induction G with
  | nil => intro P _; exact ⟨fun j => (if_neg (by simp)).symm, fun j => (if_neg (by simp)).symm, fun j => (if_neg (by simp)).symm⟩
  | cons x G ih =>
    intro P hn
    obtain ⟨n1, n2⟩ := List.nodup_cons.mp hn
    obtain ⟨a, b, c⟩ := ih (am_sw ce ca pa P x) n2
    rw [List.foldl_cons]
    refine ⟨fun j => ?_, fun j => ?_, fun j => ?_⟩
    · rw [a j]
      show (if j ∈ G then am_nx (upd P.1 x (am_nx (P.1 x)) j) else upd P.1 x (am_nx (P.1 x)) j) = _
      by_cases e : j = x
      · subst e; rw [if_neg n1, if_pos List.mem_cons_self, pk_us]
      · rw [pk_un e]
        by_cases q : j ∈ G
        · rw [if_pos q, if_pos (List.mem_cons_of_mem _ q)]
        · rw [if_neg q, if_neg fun z => (List.mem_cons.mp z).elim e q]
    · rw [b j]
      show (if j ∈ G then 1 else upd P.2.2.1 x 1 j) = _
      by_cases e : j = x
      · subst e; rw [if_neg n1, if_pos List.mem_cons_self, pk_us]
      · rw [pk_un e]
        by_cases q : j ∈ G
        · rw [if_pos q, if_pos (List.mem_cons_of_mem _ q)]
        · rw [if_neg q, if_neg fun z => (List.mem_cons.mp z).elim e q]
    · rw [c j]
      show (if j ∈ G then 0 else upd P.2.2.2.2.2.2 x 0 j) = _
      by_cases e : j = x
      · subst e; rw [if_neg n1, if_pos List.mem_cons_self, pk_us]
      · rw [pk_un e]
        by_cases q : j ∈ G
        · rw [if_pos q, if_pos (List.mem_cons_of_mem _ q)]
        · rw [if_neg q, if_neg fun z => (List.mem_cons.mp z).elim e q]
theorem am_uf {v : Int32} : ∀ (G : List Nat) (w : Nat → Int32) (j : Nat), (G.foldl (fun w x => upd w x v) w) j = if j ∈ G then v else w j := by
  intro G
  induction G with
  | nil => intro w j; exact (if_neg (by simp)).symm
  | cons x G ih =>
    intro w j
    rw [List.foldl_cons, ih]
    by_cases q : j ∈ G
    · rw [if_pos q, if_pos (List.mem_cons_of_mem _ q)]
    · rw [if_neg q]
      by_cases e : j = x
      · subst e; rw [pk_us, if_pos List.mem_cons_self]
      · rw [pk_un e, if_neg fun z => (List.mem_cons.mp z).elim e q]
theorem am_gl_f {sg : Int32} {par : Nat → Int32} {s c : Nat} : ∀ (K : List Nat) (b : Bool), K.Nodup → am_gl sg par s c K b = K.filter (fun y => decide (y ∈ am_gl sg par s c K b)) := by
  intro K
  induction K with
  | nil => intro b _; rfl
  | cons x K ih =>
    intro b hn
    obtain ⟨n1, n2⟩ := List.nodup_cons.mp hn
    have k := ih (b || decide (x = c)) n2
    have xn : ¬ x ∈ am_gl sg par s c K (b || decide (x = c)) := fun z => n1 (am_gl_sub K _ x z)
    by_cases q : (x = c ∨ sg = 1 ∨ (sg = 2 ∧ (b || decide (x = c)) = true)) ∧ par x = nI s
    · have e : am_gl sg par s c (x :: K) b = x :: am_gl sg par s c K (b || decide (x = c)) := if_pos q
      rw [e, List.filter_cons_of_pos (by simp)]
      refine congrArg _ (k.trans (List.filter_congr fun y hy => ?_))
      refine decide_eq_decide.mpr ⟨fun z => List.mem_cons_of_mem _ z, fun z => ?_⟩
      exact (List.mem_cons.mp z).elim (fun w => absurd (w ▸ hy) n1) id
    · have e : am_gl sg par s c (x :: K) b = am_gl sg par s c K (b || decide (x = c)) := if_neg q
      rw [e, List.filter_cons_of_neg (by simp [xn])]
      exact k
/-- the part of the list that is meant -/
theorem am_seg {K : List Nat} {par : Nat → Int32} {s c i : Nat} {sg : Int32} (hn : K.Nodup) (hsg : sg = 0 ∨ sg = 1 ∨ sg = 2) (hi : (am_CL K par s)[i]? = some c) : ∃ A G C : List Nat, am_CL K par s = A ++ (G ++ C) ∧ A.length = (if sg = 1 then 0 else i) ∧ A.length + G.length = (if sg = 0 then i + 1 else (am_CL K par s).length) ∧ am_gl sg par s c K false = G ∧ c ∈ G := by
  have hm := List.mem_of_getElem? hi
  have hp : par c = nI s := (am_CLm.mp hm).2
  have hK : c ∈ K := (am_CLm.mp hm).1
  have hl : i < (am_CL K par s).length := by
    refine Classical.byContradiction fun no => ?_
    rw [List.getElem?_eq_none (by omega)] at hi
    exact absurd hi (by simp)
  have hd : (am_CL K par s).drop i = c :: (am_CL K par s).drop (i + 1) := by
    rw [List.drop_eq_getElem_cons hl]
    have : (am_CL K par s)[i] = c := by
      have q := List.getElem?_eq_getElem hl
      rw [hi] at q
      exact (Option.some.inj q).symm
    rw [this]
  rcases hsg with e | e | e
  · subst e
    refine ⟨(am_CL K par s).take i, [c], (am_CL K par s).drop (i + 1), ?_, ?_, ?_, am_gl_0 hp K false hn hK, List.mem_cons_self⟩
    · show am_CL K par s = (am_CL K par s).take i ++ (c :: (am_CL K par s).drop (i + 1))
      rw [← hd, List.take_append_drop]
    · rw [if_neg (by decide), List.length_take]; omega
    · rw [if_pos rfl, List.length_take, List.length_singleton]; omega
  · subst e
    refine ⟨[], am_CL K par s, [], ?_, ?_, ?_, am_gl_1 K false, hm⟩
    · rw [List.append_nil, List.nil_append]
    · rw [if_pos rfl]; rfl
    · rw [if_neg (by decide), List.length_nil]; omega
  · subst e
    refine ⟨(am_CL K par s).take i, (am_CL K par s).drop i, [], ?_, ?_, ?_, am_gl_2 hp K i hn hi, ?_⟩
    · rw [List.append_nil, List.take_append_drop]
    · rw [if_neg (by decide), List.length_take]; omega
    · rw [if_neg (by decide), List.length_take, List.length_drop]; omega
    · rw [hd]; exact List.mem_cons_self
section GR
variable {N cap Q CS cc now tc kn : Nat} {fl : Int32} {op oa ob oc st gn lr rg pc tr wt dl mc mk mf mv lm mon par ce ct ca sg mx wd cn cl rc rk tp tv wa dy kd rs lk cel trd : Nat → Int32} {ms cnt : Nat → Int64}
theorem gr_live {K : List Nat} {s : Nat} {G : List Nat} (I : am_I K N cap Q CS cc now tc kn fl op oa ob oc st gn lr rg pc tr wt dl mc mk mf mv lm mon par ce ct ca sg mx wd cn cl rc rk tp tv wa dy kd rs lk cel trd ms cnt) (hG : ∀ x, x ∈ G → x ∈ am_CL K par s) : ∃ (st' lr' mon' : Nat → Int32) (m : ML) (wt' lm' lk' : Nat → Int32), am_I K N cap Q CS cc now tc kn fl op oa ob oc st' gn lr' rg pc tr wt' dl m.1 m.2.1 m.2.2.1 m.2.2.2.1 lm' mon' par ce ct ca sg mx wd cn cl rc rk tp tv wa dy kd rs lk' cel trd m.2.2.2.2.1 m.2.2.2.2.2 ∧ (∀ x, x ∈ G → st' x = 3) ∧ (∀ j, j < 8 → (st' j = 2 ↔ st j = 2)) ∧ (∀ j, j < 8 → st' j = 1 → st j = 1) ∧ (∀ post : SX → Prop, post (fl, nI N, nI cap, nI Q, nI CS, nI cc, nI now, nI tc, op, oa, ob, oc, st', gn, lr', rg, pc, tr, wt', dl, m.1, m.2.1, m.2.2.1, m.2.2.2.1, m.2.2.2.2.1, lm', mon', par, ce, ct, ca, sg, mx, wd, cn, cl, rc, rk, tp, tv, m.2.2.2.2.2) → (G.foldl (am_lv st) 0 = 0 → post (fl, nI N, nI cap, nI Q, nI CS, nI cc, nI now, nI tc, op, oa, ob, oc, st, gn, lr, rg, pc, tr, wt, dl, mc, mk, mf, mv, ms, lm, mon, par, ce, ct, ca, sg, mx, wd, cn, cl, rc, rk, tp, tv, cnt)) ∧ (¬ G.foldl (am_lv st) 0 = 0 → wpX_endSet post (fl, nI N, nI cap, nI Q, nI CS, nI cc, nI now, nI tc, op, oa, ob, oc, st, gn, lr, rg, pc, tr, wt, dl, mc, mk, mf, mv, ms, lm, mon, par, ce, ct, ca, sg, mx, wd, cn, cl, rc, rk, tp, tv, cnt) (G.foldl (am_lv st) 0) 3)) ∧ (∀ post : SY → Prop, post (nI N, nI cap, nI Q, nI CS, nI now, nI cc, nI tc, nI kn, st', gn, lr', pc, wa, dy, tr, par, ce, ct, ca, kd, sg, mx, wd, rs, rg, mon', lk', m.1, m.2.1, m.2.2.1, m.2.2.2.1, m.2.2.2.2.1, cel, trd, m.2.2.2.2.2) → wpY_end post (nI N, nI cap, nI Q, nI CS, nI now, nI cc, nI tc, nI kn, st, gn, lr, pc, wa, dy, tr, par, ce, ct, ca, kd, sg, mx, wd, rs, rg, mon, lk, mc, mk, mf, mv, ms, cel, trd, cnt) (G.foldl (am_lv st) 0) 3) := by
  have hK := I.2.2.2.2.2.2.2.2.2.2.1
  have g8 : ∀ x, x ∈ G → x < 8 ∧ (st x = 1 ∨ st x = 3) ∧ ∃ p, p < 8 ∧ par x = nI p := fun x hx => by
    obtain ⟨a, b, p, c, d, -⟩ := hK.1 x (am_CLm.mp (hG x hx)).1
    exact ⟨a, b, p, c, d⟩
  have bits := am_lv_b (st := st) G 0 (fun x hx => (g8 x hx).1)
  have b2 : ∀ j, bt (G.foldl (am_lv st) 0) j = true ↔ (j ∈ G ∧ st j = 1) := fun j => by
    rw [bits j, b_0, Bool.false_or, decide_eq_true_eq]
  by_cases c : G.foldl (am_lv st) 0 = 0
  · refine ⟨st, lr, mon, (mc, mk, mf, mv, ms, cnt), wt, lm, lk, I, fun x hx => ?_, fun _ _ => Iff.rfl, fun _ _ z => z, fun post p => ⟨fun _ => p, fun z => absurd c z⟩, fun post p => ⟨1, br_f (by decide) (br_t c p)⟩⟩
    rcases (g8 x hx).2.1 with e | e
    · have q := (b2 x).mpr ⟨hx, e⟩
      rw [c, b_0] at q
      exact absurd q (by decide)
    · exact e
  · obtain ⟨D, st', lr', mon', m, wt', lm', lk', I', a1, a2, a3, a4, a5⟩ := ed_set (se := G.foldl (am_lv st) 0) (r := 3) I (fun j h => ⟨(g8 j ((b2 j).mp h).1).1, ((b2 j).mp h).2⟩) c
    refine ⟨st', lr', mon', m, wt', lm', lk', I', fun x hx => ?_, fun j hj => ?_, fun j hj z => ?_, fun post p => ⟨fun z => absurd z c, fun _ => a4 post p⟩, fun post p => ⟨2, a5 post 2 0 (by omega) (by omega) p⟩⟩
    · obtain ⟨x8, xs, p, p8, xp⟩ := g8 x hx
      rw [a3 x x8, xp, if_neg (nI_pos (by omega))]
      rcases xs with e | e
      · rw [if_pos (a1 x ((b2 x).mpr ⟨hx, e⟩))]
      · by_cases q : bt D x = true
        · rw [if_pos q]
        · rw [if_neg q]; exact e
    · rw [a3 j hj]
      by_cases q : bt D j = true
      · rw [if_pos q, (a2 j q).2]
        by_cases q2 : par j < 0
        · rw [if_pos q2]; decide
        · rw [if_neg q2]; decide
      · rw [if_neg q]
    · rw [a3 j hj] at z
      by_cases q : bt D j = true
      · exact (a2 j q).2
      · rw [if_neg q] at z; exact z
def am_tk (g g' s s' : Int32) : Prop := (g' = g ∧ (s' = 1 → s = 1)) ∨ g' = am_nx g
theorem gr_group {K : List Nat} {s c : Nat} {A G C : List Nat} (I : am_I K N cap Q CS cc now tc kn fl op oa ob oc st gn lr rg pc tr wt dl mc mk mf mv lm mon par ce ct ca sg mx wd cn cl rc rk tp tv wa dy kd rs lk cel trd ms cnt) (hs : s < 8) (hs2 : st s = 2) (hc8 : c < 8) (hl : am_CL K par s = A ++ (G ++ C)) (hG : am_gl (sg s) par s c K false = G) (hcG : c ∈ G) : ∃ (K' : List Nat) (st' gn' lr' rg' pc' tr' mon' par' : Nat → Int32) (m : ML) (wt' dl' lm' lk' wa' kd' cn' cl' : Nat → Int32), am_I K' N cap Q CS cc now tc K'.length fl op oa ob oc st' gn' lr' rg' pc' tr' wt' dl' m.1 m.2.1 m.2.2.1 m.2.2.2.1 lm' mon' par' ce ct ca sg mx wd cn' cl' rc rk tp tv wa' dy kd' rs lk' cel trd m.2.2.2.2.1 m.2.2.2.2.2 ∧ K'.length ≤ K.length ∧ (∀ j, j < 8 → (st' j = 2 ↔ st j = 2)) ∧ (∀ j, j < 8 → am_tk (gn j) (gn' j) (st j) (st' j)) ∧ (∀ post : SX → Prop, post (fl, nI N, nI cap, nI Q, nI CS, nI cc, nI now, nI tc, op, oa, ob, oc, st', gn', lr', rg', pc', tr', wt', dl', m.1, m.2.1, m.2.2.1, m.2.2.2.1, m.2.2.2.2.1, lm', mon', par', ce, ct, ca, sg, mx, wd, cn', cl', rc, rk, tp, tv, m.2.2.2.2.2) → wpX_restartGroup post (fl, nI N, nI cap, nI Q, nI CS, nI cc, nI now, nI tc, op, oa, ob, oc, st, gn, lr, rg, pc, tr, wt, dl, mc, mk, mf, mv, ms, lm, mon, par, ce, ct, ca, sg, mx, wd, cn, cl, rc, rk, tp, tv, cnt) (nI s) (nI A.length) (nI (A.length + G.length))) ∧ (∀ post : SY → Prop, post (nI N, nI cap, nI Q, nI CS, nI now, nI cc, nI tc, nI K'.length, st', gn', lr', pc', wa', dy, tr', par', ce, ct, ca, kd', sg, mx, wd, rs, rg', mon', lk', m.1, m.2.1, m.2.2.1, m.2.2.2.1, m.2.2.2.2.1, cel, trd, m.2.2.2.2.2) → ∃ n172, wY_settleOne_172 post (nI s) (nI c) (nI N) (nI cap) (nI Q) (nI CS) (nI now) (nI cc) (nI tc) (nI kn) st gn lr pc wa dy tr par ce ct ca kd sg mx wd rs rg mon lk mc mk mf mv ms cel trd cnt n172 0 0 0 0) := by
  have KL := I.2.2.2.2.2.2.2.2.2.1.2.1
  subst KL
  have KN := I.2.2.2.2.2.2.2.2.2.1.1
  have KD := I.2.2.2.2.2.2.2.2.2.1.2.2
  have hKs := I.2.2.2.2.2.2.2.2.2.2.1
  have hX := I.2.2.2.2.2.2.2.2.2.2.2.1 s hs hs2
  have k8 : ∀ x, x ∈ K → x < 8 := fun x hx => (hKs.1 x hx).1
  have kl8 : K.length ≤ 8 := am_len 8 K KN k8
  have ln : (A ++ (G ++ C)).Nodup := by rw [← hl]; exact KN.filter _
  have ll : A.length + (G.length + C.length) ≤ 8 := by
    have q := am_CL8 (K := K) (par := par) (s := s)
    rw [hl, List.length_append, List.length_append] at q
    omega
  have GC : ∀ x, x ∈ G → x ∈ am_CL K par s := fun x hx => by
    rw [hl]; exact List.mem_append_right _ (List.mem_append_left _ hx)
  have g8 : ∀ x, x ∈ G → x < 8 := fun x hx => k8 x (am_CLm.mp (GC x hx)).1
  have gp : ∀ x, x ∈ G → par x = nI s := fun x hx => (am_CLm.mp (GC x hx)).2
  have Gn : G.Nodup := (List.nodup_append.mp (List.nodup_append.mp ln).2.1).1
  have GA : ∀ x, x ∈ A → ¬ x ∈ G := fun x hx hg => (List.nodup_append.mp ln).2.2 x hx x (List.mem_append_left _ hg) rfl
  have GCx : ∀ x, x ∈ C → ¬ x ∈ G := fun x hx hg => (List.nodup_append.mp (List.nodup_append.mp ln).2.1).2.2 x hg x hx rfl
  have gpos : 1 ≤ G.length := List.length_pos_of_mem hcG
  have Gf : G = K.filter (fun y => decide (y ∈ G)) := by
    have q := am_gl_f (sg := sg s) (par := par) (s := s) (c := c) K false KN
    rw [hG] at q; exact q
  obtain ⟨st1, lr1, mon1, m1, wt1, lm1, lk1, I1, a1, a2, a3, aX, aY⟩ := gr_live (s := s) (G := G) I GC
  have hg : ∀ j, bt (G.foldl am_or1 0) j = decide (j ∈ G) := fun j => by
    rw [am_or1_b G 0 g8 j, b_0, Bool.false_or]
  obtain ⟨cn2, cl2, b1, b2, b3⟩ := xg_72 (fl := fl) (N := N) (cap := cap) (Q := Q) (CS := CS) (cc := cc) (now := now) (tc := tc) (op := op) (oa := oa) (ob := ob) (oc := oc) (gn := gn) (lr := lr1) (rg := rg) (pc := pc) (tr := tr) (wt := wt1) (dl := dl) (mc := m1.1) (mk := m1.2.1) (mf := m1.2.2.1) (mv := m1.2.2.2.1) (ms := m1.2.2.2.2.1) (lm := lm1) (mon := mon1) (ce := ce) (ct := ct) (ca := ca) (sg := sg) (mx := mx) (wd := wd) (rc := rc) (rk := rk) (tp := tp) (tv := tv) (cnt := m1.2.2.2.2.2) (low := A.length) (A := A) (C := C) hs rfl G.reverse [] st1 par cn cl (by rw [List.length_reverse, List.length_nil]; omega) (by rw [List.reverse_reverse, List.nil_append, ← hl]; exact hX) (fun x hx => g8 x (List.mem_reverse.mp hx))
  rw [List.reverse_reverse, List.nil_append] at b1
  have hT : ∀ j, j < 8 → decide (j ∈ G ∧ ct j = 2) = (bt (G.foldl am_or1 0) j && decide (ct j = 2)) := fun j _ => by
    rw [hg j, ← Bool.decide_and]
  obtain ⟨kd2, d1, d2⟩ := yg_314 (N := N) (cap := cap) (Q := Q) (CS := CS) (now := now) (cc := cc) (tc := tc) (st := st1) (gn := gn) (lr := lr1) (pc := pc) (wa := wa) (dy := dy) (tr := tr) (par := par) (ce := ce) (ct := ct) (ca := ca) (sg := sg) (mx := mx) (wd := wd) (rs := rs) (rg := rg) (mon := mon1) (lk := lk1) (mc := m1.1) (mk := m1.2.1) (mf := m1.2.2.1) (mv := m1.2.2.2.1) (ms := m1.2.2.2.2.1) (cel := cel) (trd := trd) (cnt := m1.2.2.2.2.2) (K := K) (s := s) (T := fun j => decide (j ∈ G ∧ ct j = 2)) k8 hT (fun j _ z => a1 j (of_decide_eq_true z).1) 8 0 kd (by omega) (by rw [am_Kf0]; exact ⟨KN, rfl, KD⟩)
  have eS : am_tz G.reverse ct 0 st1 = am_fz (fun j => decide (j ∈ G ∧ ct j = 2)) 0 st1 8 := funext fun j => by
    show (if j ∈ G.reverse ∧ ct j = 2 then 0 else st1 j) = if j < 8 ∧ decide (j ∈ G ∧ ct j = 2) = true then 0 else st1 j
    by_cases q : j ∈ G ∧ ct j = 2
    · rw [if_pos ⟨List.mem_reverse.mpr q.1, q.2⟩, if_pos ⟨g8 j q.1, decide_eq_true q⟩]
    · rw [if_neg fun z => q ⟨List.mem_reverse.mp z.1, z.2⟩, if_neg fun z => q (of_decide_eq_true z.2)]
  have eP : am_tz G.reverse ct (-1) par = am_fz (fun j => decide (j ∈ G ∧ ct j = 2)) (-1) par 8 := funext fun j => by
    show (if j ∈ G.reverse ∧ ct j = 2 then -1 else par j) = if j < 8 ∧ decide (j ∈ G ∧ ct j = 2) = true then -1 else par j
    by_cases q : j ∈ G ∧ ct j = 2
    · rw [if_pos ⟨List.mem_reverse.mpr q.1, q.2⟩, if_pos ⟨g8 j q.1, decide_eq_true q⟩]
    · rw [if_neg fun z => q ⟨List.mem_reverse.mp z.1, z.2⟩, if_neg fun z => q (of_decide_eq_true z.2)]
  have fS : ∀ j, am_tz G.reverse ct 0 st1 j = if j ∈ G ∧ ct j = 2 then 0 else st1 j := fun j => by
    show (if j ∈ G.reverse ∧ ct j = 2 then 0 else st1 j) = _
    by_cases q : j ∈ G ∧ ct j = 2
    · rw [if_pos ⟨List.mem_reverse.mpr q.1, q.2⟩, if_pos q]
    · rw [if_neg fun z => q ⟨List.mem_reverse.mp z.1, z.2⟩, if_neg q]
  have fP : ∀ j, am_tz G.reverse ct (-1) par j = if j ∈ G ∧ ct j = 2 then -1 else par j := fun j => by
    show (if j ∈ G.reverse ∧ ct j = 2 then -1 else par j) = _
    by_cases q : j ∈ G ∧ ct j = 2
    · rw [if_pos ⟨List.mem_reverse.mpr q.1, q.2⟩, if_pos q]
    · rw [if_neg fun z => q ⟨List.mem_reverse.mp z.1, z.2⟩, if_neg q]
  have mK : ∀ x, x ∈ am_Kf K (fun j => decide (j ∈ G ∧ ct j = 2)) 8 ↔ x ∈ K ∧ ¬ (x ∈ G ∧ ct x = 2) := fun x => by
    unfold am_Kf
    rw [List.mem_filter]
    refine ⟨fun z => ⟨z.1, fun w => ?_⟩, fun z => ⟨z.1, ?_⟩⟩
    · rw [decide_eq_true (p := x < 8 ∧ decide (x ∈ G ∧ ct x = 2) = true) ⟨k8 x z.1, decide_eq_true w⟩] at z
      exact absurd z.2 (by decide)
    · rw [decide_eq_false (p := x < 8 ∧ decide (x ∈ G ∧ ct x = 2) = true) fun w => z.2 (of_decide_eq_true w.2)]; rfl
  have mG : ∀ x, x ∈ G.filter (am_nt ct) ↔ x ∈ G ∧ ¬ ct x = 2 := fun x => by
    rw [List.mem_filter]; unfold am_nt; rw [decide_eq_true_eq]
  have eG : (am_Kf K (fun j => decide (j ∈ G ∧ ct j = 2)) 8).filter (bt (G.foldl am_or1 0)) = G.filter (am_nt ct) := by
    unfold am_Kf
    have e0 : G.filter (am_nt ct) = (K.filter (fun y => decide (y ∈ G))).filter (am_nt ct) := congrArg (List.filter (am_nt ct)) Gf
    rw [e0, List.filter_filter, List.filter_filter]
    refine List.filter_congr fun y hy => ?_
    rw [hg y]
    unfold am_nt
    have y8 := k8 y hy
    by_cases q1 : y ∈ G
    · by_cases q2 : ct y = 2
      · rw [decide_eq_true q1, decide_eq_true (p := y < 8 ∧ decide (y ∈ G ∧ ct y = 2) = true) ⟨y8, decide_eq_true ⟨q1, q2⟩⟩, decide_eq_false (p := ¬ ct y = 2) fun z => z q2]; rfl
      · rw [decide_eq_true q1, decide_eq_false (p := y < 8 ∧ decide (y ∈ G ∧ ct y = 2) = true) fun z => q2 (of_decide_eq_true z.2).2, decide_eq_true q2]; rfl
    · rw [decide_eq_false q1]
      cases decide (¬ ct y = 2) <;> rfl
  have nG : (G.filter (am_nt ct)).Nodup := Gn.filter _
  have w8 : ∀ x, x ∈ G.filter (am_nt ct) → x < 8 := fun x hx => g8 x ((mG x).mp hx).1
  obtain ⟨p1, p2, p3⟩ := am_sw_f (ce := ce) (ca := ca) (pa := gn s * 8 + nI s) (G.filter (am_nt ct)) (gn, m1.2.2.2.2.2, am_tz G.reverse ct 0 st1, rg, pc, tr, m1.1) nG
  generalize hP : (G.filter (am_nt ct)).foldl (am_sw ce ca (gn s * 8 + nI s)) (gn, m1.2.2.2.2.2, am_tz G.reverse ct 0 st1, rg, pc, tr, m1.1) = P at p1 p2 p3
  obtain ⟨h1, h2, h3, h4, h5, h6, h7, h8, h9, -, h11, h12, h13⟩ := I1
  have hI := I.2.2.2.2.2.2.2.2.2.2.2.2
  have s3 : ∀ j, P.2.2.1 j = if j ∈ G.filter (am_nt ct) then 1 else (if j ∈ G ∧ ct j = 2 then 0 else st1 j) := fun j => by
    rw [p2 j]
    show (if j ∈ G.filter (am_nt ct) then 1 else am_tz G.reverse ct 0 st1 j) = _
    rw [fS j]
  have sn : ∀ j, ¬ j ∈ G → P.2.2.1 j = st1 j := fun j q => by
    rw [s3 j, if_neg fun z => q ((mG j).mp z).1, if_neg fun z => q z.1]
  have s11 : ∀ j, j < 8 → st1 j = 1 → P.2.2.1 j = 1 := fun j hj z => by
    rw [sn j fun q => by rw [a1 j q] at z; exact absurd z (by decide)]; exact z
  have s22 : ∀ j, j < 8 → (P.2.2.1 j = 2 ↔ st1 j = 2) := fun j hj => by
    by_cases q : j ∈ G
    · rw [s3 j, a1 j q]
      by_cases q2 : ct j = 2
      · rw [if_neg fun z => ((mG j).mp z).2 q2, if_pos ⟨q, q2⟩]; decide
      · rw [if_pos ((mG j).mpr ⟨q, q2⟩)]; decide
    · rw [sn j q]
  have s1e : ∀ j, P.2.2.1 j = 1 → j ∈ G.filter (am_nt ct) ∨ (¬ j ∈ G.filter (am_nt ct) ∧ st1 j = 1) := fun j z => by
    by_cases q : j ∈ G.filter (am_nt ct)
    · exact Or.inl q
    · refine Or.inr ⟨q, ?_⟩
      rw [s3 j, if_neg q] at z
      by_cases q2 : j ∈ G ∧ ct j = 2
      · rw [if_pos q2] at z; exact absurd z (by decide)
      · rw [if_neg q2] at z; exact z
  refine ⟨am_Kf K (fun j => decide (j ∈ G ∧ ct j = 2)) 8, P.2.2.1, P.1, lr1, P.2.2.2.1, P.2.2.2.2.1, P.2.2.2.2.2.1, mon1, am_tz G.reverse ct (-1) par, (P.2.2.2.2.2.2, m1.2.1, m1.2.2.1, m1.2.2.2.1, m1.2.2.2.2.1, P.2.1), (G.filter (am_nt ct)).foldl (fun w x => upd w x 0) wt1, (G.filter (am_nt ct)).foldl (fun w x => upd w x (-1)) dl, lm1, lk1, (G.filter (am_nt ct)).foldl (fun w x => upd w x 0) wa, kd2, cn2, cl2, ⟨h1, h2, h3, fun j hj => ?_, fun j hj => ?_, fun j hj => ?_, fun j hj z => ?_, am_tL h8 s11, am_tMo h9 s11 (fun j hj z => (s22 j hj).mpr z), d1, ⟨fun x hx => ?_, fun j hj hn => ?_⟩, fun t ht e => ?_, fun t ht e => ?_⟩, List.length_filter_le _ _, fun j hj => (s22 j hj).trans (a2 j hj), fun j hj => ?_, fun post p => ?_, fun post p => ?_⟩
  · by_cases q : j ∈ G
    · have e3 := a1 j q
      refine ⟨?_, fun z => ?_⟩
      · rw [s3 j]
        by_cases q2 : j ∈ G.filter (am_nt ct)
        · rw [if_pos q2]; exact Or.inr (Or.inl rfl)
        · rw [if_neg q2]
          by_cases q3 : j ∈ G ∧ ct j = 2
          · rw [if_pos q3]; exact Or.inl rfl
          · rw [if_neg q3]; exact Or.inr (Or.inr (Or.inr e3))
      · have y := (h4 j hj).2 z
        rw [e3] at y; exact absurd y (by decide)
    · rw [sn j q]; exact h4 j hj
  · rw [p1 j]
    obtain ⟨g, g1, g2⟩ := h5 j hj
    by_cases q : j ∈ G.filter (am_nt ct)
    · rw [if_pos q]
      show ∃ g, g ≤ 1000000 ∧ am_nx (gn j) = nI g
      rw [g2]
      obtain ⟨g', x1, x2, -⟩ := am_nx_le g1
      exact ⟨g', x1, x2⟩
    · rw [if_neg q]; exact ⟨g, g1, g2⟩
  · show ∃ n, n ≤ cap ∧ P.2.2.2.2.2.2 j = nI n ∧ _
    rw [p3 j]
    by_cases q : j ∈ G.filter (am_nt ct)
    · rw [if_pos q]; exact ⟨0, by omega, rfl, fun _ => rfl⟩
    · rw [if_neg q]
      obtain ⟨n, n1, n2, n3⟩ := h6 j hj
      exact ⟨n, n1, n2, fun z => n3 fun w => z (s11 j hj w)⟩
  · rw [am_uf, am_uf, am_uf]
    rcases s1e j z with q | ⟨q, q2⟩
    · rw [if_pos q, if_pos q]; exact Or.inl ⟨rfl, rfl⟩
    · rw [if_neg q, if_neg q, if_neg q]; exact h7 j hj q2
  · obtain ⟨x1, x2⟩ := (mK x).mp hx
    obtain ⟨y1, y2, p, y3, y4, y5⟩ := h11.1 x x1
    refine ⟨y1, ?_, p, y3, ?_, (s22 p y3).mpr y5⟩
    · by_cases q : x ∈ G
      · rw [s3 x, if_pos ((mG x).mpr ⟨q, fun z => x2 ⟨q, z⟩⟩)]; exact Or.inl rfl
      · rw [sn x q]; exact y2
    · rw [fP x, if_neg x2]; exact y4
  · by_cases q : j ∈ K
    · have q2 : j ∈ G ∧ ct j = 2 := Classical.byContradiction fun no => hn ((mK j).mpr ⟨q, no⟩)
      rw [fP j, if_pos q2, s3 j, if_neg fun z => ((mG j).mp z).2 q2.2, if_pos q2]
      exact ⟨rfl, by decide⟩
    · obtain ⟨y1, y2⟩ := h11.2 j hj q
      have q2 : ¬ j ∈ G := fun z => q (am_CLm.mp (GC j z)).1
      rw [fP j, if_neg fun z => q2 z.1, sn j q2]
      exact ⟨y1, y2⟩
  · by_cases es : t = s
    · subst es
      have ec : am_CL (am_Kf K (fun j => decide (j ∈ G ∧ ct j = 2)) 8) (am_tz G.reverse ct (-1) par) t = A ++ (G.filter (am_nt ct) ++ C) := by
        have e1 : am_CL (am_Kf K (fun j => decide (j ∈ G ∧ ct j = 2)) 8) (am_tz G.reverse ct (-1) par) t = (am_CL K par t).filter (fun y => decide (¬ (y ∈ G ∧ ct y = 2))) := by
          unfold am_CL am_Kf
          rw [List.filter_filter, List.filter_filter]
          refine List.filter_congr fun y hy => ?_
          rw [fP y]
          by_cases q : y ∈ G ∧ ct y = 2
          · rw [if_pos q, decide_eq_false (p := ¬ (y ∈ G ∧ ct y = 2)) fun z => z q, decide_eq_false (p := (-1 : Int32) = nI t) (am_nm1 (by omega))]; rfl
          · rw [if_neg q, decide_eq_true q, decide_eq_false (p := y < 8 ∧ decide (y ∈ G ∧ ct y = 2) = true) fun z => q (of_decide_eq_true z.2)]
            exact Bool.and_comm _ _
        rw [e1, hl, List.filter_append, List.filter_append]
        have f1 : A.filter (fun y => decide (¬ (y ∈ G ∧ ct y = 2))) = A := List.filter_eq_self.mpr fun y hy => decide_eq_true fun z => GA y hy z.1
        have f2 : C.filter (fun y => decide (¬ (y ∈ G ∧ ct y = 2))) = C := List.filter_eq_self.mpr fun y hy => decide_eq_true fun z => GCx y hy z.1
        have f3 : G.filter (fun y => decide (¬ (y ∈ G ∧ ct y = 2))) = G.filter (am_nt ct) := List.filter_congr fun y hy => by
          unfold am_nt
          exact decide_eq_decide.mpr ⟨fun z w => z ⟨hy, w⟩, fun z w => z w.2⟩
        rw [f1, f2, f3]
      rw [ec]; exact b1
    · have ec : am_CL (am_Kf K (fun j => decide (j ∈ G ∧ ct j = 2)) 8) (am_tz G.reverse ct (-1) par) t = am_CL K par t := by
        unfold am_CL am_Kf
        rw [List.filter_filter]
        refine List.filter_congr fun y hy => ?_
        rw [fP y]
        by_cases q : y ∈ G ∧ ct y = 2
        · rw [if_pos q, decide_eq_false (p := (-1 : Int32) = nI t) (am_nm1 (by omega)), decide_eq_false (p := par y = nI t) fun z => es (am_im (by rw [← z, gp y q.1]) (by omega) (by omega))]; rfl
        · rw [if_neg q, decide_eq_false (p := y < 8 ∧ decide (y ∈ G ∧ ct y = 2) = true) fun z => q (of_decide_eq_true z.2)]
          exact Bool.and_true _
      obtain ⟨y1, y2⟩ := h12 t ht ((s22 t ht).mp e)
      obtain ⟨o1, o2⟩ := b2 t ht es
      rw [ec]
      refine ⟨o1.trans y1, fun i x hx => ?_⟩
      have il : i < 8 := by
        refine Classical.byContradiction fun no => ?_
        have q := am_CL8 (K := K) (par := par) (s := t)
        rw [List.getElem?_eq_none (by omega)] at hx
        exact absurd hx (by simp)
      exact (o2 i il).trans (y2 i x hx)
  · exact hI t ht ((a2 t ht).mp ((s22 t ht).mp e))
  · rw [p1 j]
    by_cases q : j ∈ G.filter (am_nt ct)
    · rw [if_pos q]; exact Or.inr rfl
    · rw [if_neg q]
      refine Or.inl ⟨rfl, fun z => a3 j hj ?_⟩
      rcases s1e j z with w | w
      · exact absurd w q
      · exact w.2
  · subst hP
    have L72 : ∀ f, wX_restartGroup_72 post (nI s) (nI A.length) (f + 1) (nI (A.length + (G.filter (am_nt ct)).length)) (nI A.length - 1) fl (nI N) (nI cap) (nI Q) (nI CS) (nI cc) (nI now) (nI tc) op oa ob oc (am_tz G.reverse ct 0 st1) gn lr1 rg pc tr wt1 dl m1.1 m1.2.1 m1.2.2.1 m1.2.2.2.1 m1.2.2.2.2.1 lm1 mon1 (am_tz G.reverse ct (-1) par) ce ct ca sg mx wd cn2 cl2 rc rk tp tv m1.2.2.2.2.2 := fun f => by
      have e9 : A.length + (G.filter (am_nt ct)).length ≤ 8 := by
        have := List.length_filter_le (am_nt ct) G
        omega
      refine br_t ?_ (xv_pid hs ⟨(G.filter (am_nt ct)).length + 1, ?_⟩)
      · by_cases z : A.length = 0
        · rw [z]; decide
        · rw [am_s1 (by omega)]; exact nI_lt (by omega) (by omega)
      · exact xg_129 hs e9 (G.filter (am_nt ct)) A.length _ (gn, m1.2.2.2.2.2, am_tz G.reverse ct 0 st1, rg, pc, tr, m1.1) wt1 dl rfl (by omega) w8 (fun j x hx => b1.2 (A.length + j) x (by
          rw [List.getElem?_append_right (by omega), Nat.add_sub_cancel_left, List.getElem?_append_left]
          · exact hx
          · refine Classical.byContradiction fun no => ?_
            rw [List.getElem?_eq_none (by omega)] at hx
            exact absurd hx (by simp))) p
    have L72b : ∃ n72, wX_restartGroup_72 post (nI s) (nI A.length) n72 (nI (A.length + G.length)) (nI (A.length + G.length) - 1) fl (nI N) (nI cap) (nI Q) (nI CS) (nI cc) (nI now) (nI tc) op oa ob oc st1 gn lr1 rg pc tr wt1 dl m1.1 m1.2.1 m1.2.2.1 m1.2.2.2.1 m1.2.2.2.2.1 lm1 mon1 par ce ct ca sg mx wd cn cl rc rk tp tv m1.2.2.2.2.2 := by
      have z := b3 post (G.reverse.length + 1) (by omega) (fun f => by
        rw [List.reverse_reverse, List.length_nil, Nat.add_zero]; exact L72 f)
      rw [List.length_reverse, List.length_nil, Nat.add_zero] at z
      exact ⟨_, z⟩
    refine ⟨G.length + 1, xg_6 (low := A.length) hs (by omega) G A.length _ 0 rfl (by omega) g8 (fun j x hx => hX.2 (A.length + j) x (by
      rw [hl, List.getElem?_append_right (by omega), Nat.add_sub_cancel_left, List.getElem?_append_left]
      · exact hx
      · refine Classical.byContradiction fun no => ?_
        rw [List.getElem?_eq_none (by omega)] at hx
        exact absurd hx (by simp))) (fun f => br_t (Int32.le_refl _) ?_)⟩
    refine ⟨fun z => ?_, fun z => (aX _ ?_).2 z⟩
    · exact nm_e ((aX (fun u => ∃ n72, wX_restartGroup_72 post (nI s) (nI A.length) n72 (nI (A.length + G.length)) (nI (A.length + G.length) - 1) u.1 u.2.1 u.2.2.1 u.2.2.2.1 u.2.2.2.2.1 u.2.2.2.2.2.1 u.2.2.2.2.2.2.1 u.2.2.2.2.2.2.2.1 u.2.2.2.2.2.2.2.2.1 u.2.2.2.2.2.2.2.2.2.1 u.2.2.2.2.2.2.2.2.2.2.1 u.2.2.2.2.2.2.2.2.2.2.2.1 u.2.2.2.2.2.2.2.2.2.2.2.2.1 u.2.2.2.2.2.2.2.2.2.2.2.2.2.1 u.2.2.2.2.2.2.2.2.2.2.2.2.2.2.1 u.2.2.2.2.2.2.2.2.2.2.2.2.2.2.2.1 u.2.2.2.2.2.2.2.2.2.2.2.2.2.2.2.2.1 u.2.2.2.2.2.2.2.2.2.2.2.2.2.2.2.2.2.1 u.2.2.2.2.2.2.2.2.2.2.2.2.2.2.2.2.2.2.1 u.2.2.2.2.2.2.2.2.2.2.2.2.2.2.2.2.2.2.2.1 u.2.2.2.2.2.2.2.2.2.2.2.2.2.2.2.2.2.2.2.2.1 u.2.2.2.2.2.2.2.2.2.2.2.2.2.2.2.2.2.2.2.2.2.1 u.2.2.2.2.2.2.2.2.2.2.2.2.2.2.2.2.2.2.2.2.2.2.1 u.2.2.2.2.2.2.2.2.2.2.2.2.2.2.2.2.2.2.2.2.2.2.2.1 u.2.2.2.2.2.2.2.2.2.2.2.2.2.2.2.2.2.2.2.2.2.2.2.2.1 u.2.2.2.2.2.2.2.2.2.2.2.2.2.2.2.2.2.2.2.2.2.2.2.2.2.1 u.2.2.2.2.2.2.2.2.2.2.2.2.2.2.2.2.2.2.2.2.2.2.2.2.2.2.1 u.2.2.2.2.2.2.2.2.2.2.2.2.2.2.2.2.2.2.2.2.2.2.2.2.2.2.2.1 u.2.2.2.2.2.2.2.2.2.2.2.2.2.2.2.2.2.2.2.2.2.2.2.2.2.2.2.2.1 u.2.2.2.2.2.2.2.2.2.2.2.2.2.2.2.2.2.2.2.2.2.2.2.2.2.2.2.2.2.1 u.2.2.2.2.2.2.2.2.2.2.2.2.2.2.2.2.2.2.2.2.2.2.2.2.2.2.2.2.2.2.1 u.2.2.2.2.2.2.2.2.2.2.2.2.2.2.2.2.2.2.2.2.2.2.2.2.2.2.2.2.2.2.2.1 u.2.2.2.2.2.2.2.2.2.2.2.2.2.2.2.2.2.2.2.2.2.2.2.2.2.2.2.2.2.2.2.2.1 u.2.2.2.2.2.2.2.2.2.2.2.2.2.2.2.2.2.2.2.2.2.2.2.2.2.2.2.2.2.2.2.2.2.1 u.2.2.2.2.2.2.2.2.2.2.2.2.2.2.2.2.2.2.2.2.2.2.2.2.2.2.2.2.2.2.2.2.2.2.1 u.2.2.2.2.2.2.2.2.2.2.2.2.2.2.2.2.2.2.2.2.2.2.2.2.2.2.2.2.2.2.2.2.2.2.2.1 u.2.2.2.2.2.2.2.2.2.2.2.2.2.2.2.2.2.2.2.2.2.2.2.2.2.2.2.2.2.2.2.2.2.2.2.2.1 u.2.2.2.2.2.2.2.2.2.2.2.2.2.2.2.2.2.2.2.2.2.2.2.2.2.2.2.2.2.2.2.2.2.2.2.2.2.1 u.2.2.2.2.2.2.2.2.2.2.2.2.2.2.2.2.2.2.2.2.2.2.2.2.2.2.2.2.2.2.2.2.2.2.2.2.2.2.1 u.2.2.2.2.2.2.2.2.2.2.2.2.2.2.2.2.2.2.2.2.2.2.2.2.2.2.2.2.2.2.2.2.2.2.2.2.2.2.2.1 u.2.2.2.2.2.2.2.2.2.2.2.2.2.2.2.2.2.2.2.2.2.2.2.2.2.2.2.2.2.2.2.2.2.2.2.2.2.2.2.2) L72b).1 z)
    · exact nm_e L72b
  · subst hP
    refine ⟨K.length + 1, yg_172 hs hc8 kl8 K 0 _ false 0 0 (by omega) (by omega) k8 (fun j x hx => by rw [Nat.zero_add]; exact KD j x hx) (fun f b' => br_t (Int32.le_refl _) ?_)⟩
    rw [hG]
    refine aY _ ⟨9, ?_⟩
    have z := d2 post 9 (by omega) (fun f => by
      rw [← eS, ← eP]
      have kf8 : (am_Kf K (fun j => decide (j ∈ G ∧ ct j = 2)) 8).length ≤ 8 := Nat.le_trans (List.length_filter_le _ _) kl8
      refine br_t (by decide) (yv_pid hs ⟨(am_Kf K (fun j => decide (j ∈ G ∧ ct j = 2)) 8).length + 1, ?_⟩)
      refine yg_365 kf8 (am_Kf K (fun j => decide (j ∈ G ∧ ct j = 2)) 8) 0 _ (gn, m1.2.2.2.2.2, am_tz G.reverse ct 0 st1, rg, pc, tr, m1.1) wa (by omega) (by omega) (fun x hx => k8 x ((mK x).mp hx).1) (fun j x hx => by rw [Nat.zero_add]; exact d1.2.2 j x hx) h5 ?_
      rw [eG]
      exact p)
    rw [am_Kf0, am_fz0, am_fz0] at z
    exact z
end GR
end
section
/-! 24: one fallen child is settled -/
def am_rec (now : Nat) (wd rc rk : Nat → Int32) (s : Nat) : Nat := am_cn (fun i => decide (now < (rk (s * 5 + i)).toNatClampNeg + (wd s).toNatClampNeg)) (rc s).toNatClampNeg
def am_sm (f : Nat → Nat) : Nat → Nat
  | 0 => 0
  | n + 1 => am_sm f n + f n
theorem am_sm_le {f g : Nat → Nat} : ∀ {n : Nat}, (∀ i, i < n → f i ≤ g i) → am_sm f n ≤ am_sm g n := by
  intro n
  induction n with
  | zero => intro _; exact Nat.le_refl 0
  | succ n ih =>
    intro h
    have := ih fun i hi => h i (by omega)
    have := h n (by omega)
    show am_sm f n + f n ≤ am_sm g n + g n
    omega
theorem am_sm_lt {f g : Nat → Nat} {s : Nat} : ∀ {n : Nat}, (∀ i, i < n → f i ≤ g i) → s < n → f s < g s → am_sm f n < am_sm g n := by
  intro n
  induction n with
  | zero => intro _ h _; omega
  | succ n ih =>
    intro h hs hl
    have h1 := am_sm_le (f := f) (g := g) (n := n) fun i hi => h i (by omega)
    have h2 := h n (by omega)
    show am_sm f n + f n < am_sm g n + g n
    by_cases e : s = n
    · subst e; omega
    · have := ih (fun i hi => h i (by omega)) (by omega) hl
      omega
theorem am_sm_c {f : Nat → Nat} {c : Nat} : ∀ n, (∀ i, f i ≤ c) → am_sm f n ≤ n * c := by
  intro n h
  induction n with
  | zero => exact Nat.zero_le _
  | succ n ih =>
    have := h n
    show am_sm f n + f n ≤ (n + 1) * c
    rw [Nat.succ_mul]; omega
def am_mu (K : List Nat) (now : Nat) (st wd rc rk : Nat → Int32) : Nat := K.length + am_sm (fun s => if st s = 2 then 6 - am_rec now wd rc rk s else 0) 8
def xMu (K : List Nat) (u : SX) : Nat := am_mu K (u.2.2.2.2.2.2.1).toNatClampNeg (xSt u) (u.2.2.2.2.2.2.2.2.2.2.2.2.2.2.2.2.2.2.2.2.2.2.2.2.2.2.2.2.2.2.2.2.2.1) (u.2.2.2.2.2.2.2.2.2.2.2.2.2.2.2.2.2.2.2.2.2.2.2.2.2.2.2.2.2.2.2.2.2.2.2.2.1) (u.2.2.2.2.2.2.2.2.2.2.2.2.2.2.2.2.2.2.2.2.2.2.2.2.2.2.2.2.2.2.2.2.2.2.2.2.2.1)
theorem am_rec_eq {now s w c : Nat} {wd rc rk : Nat → Int32} {f : Nat → Nat} (hn : now ≤ 1000) (hw : wd s = nI w) (hw2 : w ≤ 100) (hc : rc s = nI c) (h5 : c ≤ 5) (hf : ∀ i, i < c → rk (s * 5 + i) = nI (f i) ∧ f i ≤ now) : am_rec now wd rc rk s = am_cn (am_in now w f) c := by
  unfold am_rec
  rw [hw, hc, nI_clamp (by omega), nI_clamp (by omega)]
  refine am_cn_congr fun i hi => ?_
  obtain ⟨a, b⟩ := hf i hi
  rw [a, nI_clamp (by omega)]; rfl
section CH
variable {N cap Q CS cc now tc kn : Nat} {fl : Int32} {op oa ob oc st gn lr rg pc tr wt dl mc mk mf mv lm mon par ce ct ca sg mx wd cn cl rc rk tp tv wa dy kd rs lk cel trd : Nat → Int32} {ms cnt : Nat → Int64}
theorem xMu_e {K : List Nat} (hn : now ≤ 1000) : xMu K (fl, nI N, nI cap, nI Q, nI CS, nI cc, nI now, nI tc, op, oa, ob, oc, st, gn, lr, rg, pc, tr, wt, dl, mc, mk, mf, mv, ms, lm, mon, par, ce, ct, ca, sg, mx, wd, cn, cl, rc, rk, tp, tv, cnt) = am_mu K now st wd rc rk := by
  show am_mu K (nI now).toNatClampNeg st wd rc rk = _
  rw [nI_clamp (by omega)]
/-- a child leaves -/
theorem dr_child {K : List Nat} {s c i : Nat} (I : am_I K N cap Q CS cc now tc kn fl op oa ob oc st gn lr rg pc tr wt dl mc mk mf mv lm mon par ce ct ca sg mx wd cn cl rc rk tp tv wa dy kd rs lk cel trd ms cnt) (hs : s < 8) (hs2 : st s = 2) (hi : (am_CL K par s)[i]? = some c) (h3 : st c = 3) : ∃ cn' cl' kd' : Nat → Int32, am_I (K.filter (fun y => decide (y ≠ c))) N cap Q CS cc now tc ((K.filter (fun y => decide (y ≠ c))).length) fl op oa ob oc (upd st c 0) gn lr rg pc tr wt dl mc mk mf mv lm mon (upd par c (-1)) ce ct ca sg mx wd cn' cl' rc rk tp tv wa dy kd' rs lk cel trd ms cnt ∧ (K.filter (fun y => decide (y ≠ c))).length < K.length ∧ (∀ post : SX → Prop, post (fl, nI N, nI cap, nI Q, nI CS, nI cc, nI now, nI tc, op, oa, ob, oc, upd st c 0, gn, lr, rg, pc, tr, wt, dl, mc, mk, mf, mv, ms, lm, mon, upd par c (-1), ce, ct, ca, sg, mx, wd, cn', cl', rc, rk, tp, tv, cnt) → wpX_dropChild post (fl, nI N, nI cap, nI Q, nI CS, nI cc, nI now, nI tc, op, oa, ob, oc, st, gn, lr, rg, pc, tr, wt, dl, mc, mk, mf, mv, ms, lm, mon, par, ce, ct, ca, sg, mx, wd, cn, cl, rc, rk, tp, tv, cnt) (nI s) (nI i)) ∧ (∀ post : SY → Prop, post (nI N, nI cap, nI Q, nI CS, nI now, nI cc, nI tc, nI ((K.filter (fun y => decide (y ≠ c))).length), upd st c 0, gn, lr, pc, wa, dy, tr, upd par c (-1), ce, ct, ca, kd', sg, mx, wd, rs, rg, mon, lk, mc, mk, mf, mv, ms, cel, trd, cnt) → wpY_drop post (nI N, nI cap, nI Q, nI CS, nI now, nI cc, nI tc, nI kn, st, gn, lr, pc, wa, dy, tr, par, ce, ct, ca, kd, sg, mx, wd, rs, rg, mon, lk, mc, mk, mf, mv, ms, cel, trd, cnt) (nI c)) := by
  obtain ⟨h1, h2, h3', h4, h5, h6, h7, h8, h9, h10, h11, h12, h13⟩ := I
  have hX := h12 s hs hs2
  have hm := am_CLm.mp (List.mem_of_getElem? hi)
  have c8 := (h11.1 c hm.1).1
  have cs : c ≠ s := fun e => by rw [e, hs2] at h3; exact absurd h3 (by decide)
  have k8 : ∀ x, x ∈ K → x < 8 := fun x hx => (h11.1 x hx).1
  have kl8 : K.length ≤ 8 := am_len 8 K h10.1 k8
  have hl : i < (am_CL K par s).length := by
    refine Classical.byContradiction fun no => ?_
    rw [List.getElem?_eq_none (by omega)] at hi
    exact absurd hi (by simp)
  have l8 : (am_CL K par s).length ≤ 8 := Nat.le_trans am_CL8 kl8
  have hd : am_CL K par s = (am_CL K par s).take i ++ c :: (am_CL K par s).drop (i + 1) := by
    have q : (am_CL K par s)[i] = c := by
      have z := List.getElem?_eq_getElem hl
      rw [hi] at z
      exact (Option.some.inj z).symm
    rw [← q, ← List.drop_eq_getElem_cons hl, List.take_append_drop]
  have tl : ((am_CL K par s).take i).length = i := by rw [List.length_take]; omega
  have dl' : ((am_CL K par s).drop (i + 1)).length = (am_CL K par s).length - (i + 1) := List.length_drop
  obtain ⟨kd', y1, y2⟩ := yd_drop (N := N) (cap := cap) (Q := Q) (CS := CS) (now := now) (cc := cc) (tc := tc) (kn := kn) (st := st) (gn := gn) (lr := lr) (pc := pc) (wa := wa) (dy := dy) (tr := tr) (par := par) (ce := ce) (ct := ct) (ca := ca) (kd := kd) (sg := sg) (mx := mx) (wd := wd) (rs := rs) (rg := rg) (mon := mon) (lk := lk) (mc := mc) (mk := mk) (mf := mf) (mv := mv) (ms := ms) (cel := cel) (trd := trd) (cnt := cnt) (c := c) c8 h10 k8
  have ed : am_d3 st c = upd st c 0 := if_pos h3
  rw [ed] at y2
  have hX' := hX
  rw [hd] at hX'
  have er := am_XL_er hX'
  rw [tl, dl', show i + ((am_CL K par s).length - (i + 1)) = (am_CL K par s).length - 1 by omega] at er
  have n0 : (am_CL K par s).Nodup := h10.1.filter _
  have ln : ((am_CL K par s).take i ++ c :: (am_CL K par s).drop (i + 1)).Nodup := by rw [← hd]; exact n0
  have nA : ∀ y, y ∈ (am_CL K par s).take i → y ≠ c := fun y hy e => (List.nodup_append.mp ln).2.2 y hy c List.mem_cons_self e
  have nC : ∀ y, y ∈ (am_CL K par s).drop (i + 1) → y ≠ c := fun y hy e => (List.nodup_cons.mp (List.nodup_append.mp ln).2.1).1 (e ▸ hy)
  have u1 : ∀ j, j < 8 → (upd st c 0 j = 1 ↔ st j = 1) := fun j hj => by
    by_cases e : j = c
    · subst e; rw [pk_us, h3]; decide
    · rw [pk_un e]
  have u2 : ∀ j, j < 8 → (upd st c 0 j = 2 ↔ st j = 2) := fun j hj => by
    by_cases e : j = c
    · subst e; rw [pk_us, h3]; decide
    · rw [pk_un e]
  have mK : ∀ x, x ∈ K.filter (fun y => decide (y ≠ c)) ↔ x ∈ K ∧ x ≠ c := fun x => by rw [List.mem_filter, decide_eq_true_eq]
  have el : ∀ t, t < 8 → t ≠ s → am_CL (K.filter (fun y => decide (y ≠ c))) (upd par c (-1)) t = am_CL K par t := fun t q8 e => by
    unfold am_CL
    rw [List.filter_filter]
    refine List.filter_congr fun y hy => ?_
    by_cases q : y = c
    · rw [q, decide_eq_false (p := c ≠ c) (by simp), Bool.and_false, hm.2]
      exact (decide_eq_false fun z => e (am_im z.symm (by omega) (by omega))).symm
    · rw [pk_un q, decide_eq_true (p := y ≠ c) q]; exact Bool.and_true _
  have es : am_CL (K.filter (fun y => decide (y ≠ c))) (upd par c (-1)) s = (am_CL K par s).take i ++ (am_CL K par s).drop (i + 1) := by
    have e1 : am_CL (K.filter (fun y => decide (y ≠ c))) (upd par c (-1)) s = (am_CL K par s).filter (fun y => decide (y ≠ c)) := by
      unfold am_CL
      rw [List.filter_filter, List.filter_filter]
      refine List.filter_congr fun y hy => ?_
      by_cases q : y = c
      · rw [decide_eq_false (p := y ≠ c) fun z => z q, Bool.and_false]; rfl
      · rw [pk_un q]; exact Bool.and_comm _ _
    have f1 : ((am_CL K par s).take i).filter (fun y => decide (y ≠ c)) = (am_CL K par s).take i := List.filter_eq_self.mpr fun y hy => decide_eq_true (nA y hy)
    have f2 : ((am_CL K par s).drop (i + 1)).filter (fun y => decide (y ≠ c)) = (am_CL K par s).drop (i + 1) := List.filter_eq_self.mpr fun y hy => decide_eq_true (nC y hy)
    have e2 : (am_CL K par s).filter (fun y => decide (y ≠ c)) = ((am_CL K par s).take i ++ c :: (am_CL K par s).drop (i + 1)).filter (fun y => decide (y ≠ c)) := congrArg _ hd
    rw [e1, e2, List.filter_append, List.filter_cons_of_neg (by simp), f1, f2]
  refine ⟨_, _, kd', ⟨h1, h2, h3', fun j hj => ?_, h5, am_tM h6 u1, am_tW h7 fun j hj z => (u1 j hj).mp z, am_tL h8 fun j hj z => (u1 j hj).mpr z, am_tMo h9 (fun j hj z => (u1 j hj).mpr z) (fun j hj z => (u2 j hj).mpr z), y1, ⟨fun x hx => ?_, fun j hj hn => ?_⟩, fun t ht e => ?_, fun t ht e => h13 t ht ((u2 t ht).mp e)⟩, ?_, fun post p => xd_drop (len := (am_CL K par s).length) hs l8 hl hX.1 (hX.2 i c hi) c8 p, y2⟩
  · by_cases e : j = c
    · subst e; rw [pk_us]; exact ⟨Or.inl rfl, fun _ => rfl⟩
    · rw [pk_un e]; exact h4 j hj
  · obtain ⟨x1, x2⟩ := (mK x).mp hx
    obtain ⟨a1, a2, p, a3, a4, a5⟩ := h11.1 x x1
    rw [pk_un x2, pk_un x2]
    exact ⟨a1, a2, p, a3, a4, (u2 p a3).mpr a5⟩
  · by_cases e : j = c
    · subst e; rw [pk_us, pk_us]; exact ⟨rfl, by decide⟩
    · rw [pk_un e, pk_un e]
      exact h11.2 j hj fun z => hn ((mK j).mpr ⟨z, e⟩)
  · by_cases q : t = s
    · subst q
      rw [es]; exact er
    · rw [el t ht q]
      obtain ⟨b1, b2⟩ := h12 t ht ((u2 t ht).mp e)
      obtain ⟨o1, o2⟩ := am_XL_o (cn := cn) (cl := cl) (s := s) (a := i) (b := (am_CL K par s).length - 1) (x := nI ((am_CL K par s).length - 1)) q (by omega)
      refine ⟨o1.trans b1, fun k x hx => ?_⟩
      have il : k < 8 := by
        refine Classical.byContradiction fun no => ?_
        have z := am_CL8 (K := K) (par := par) (s := t)
        rw [List.getElem?_eq_none (by omega)] at hx
        exact absurd hx (by simp)
      exact (o2 k il).trans (b2 k x hx)
  · have z : (K.filter (fun y => decide (y ≠ c))).length ≠ K.length := fun z => by
      have q := List.length_filter_eq_length_iff.mp z c hm.1
      exact absurd q (by simp)
    have := List.length_filter_le (fun y => decide (y ≠ c)) K
    omega
end CH
end
section
/-! 25: one pass of settle -/
theorem am_tk_r {g s s' : Int32} (h : s' = 1 → s = 1) : am_tk g g s s' := Or.inl ⟨rfl, h⟩
section ON
variable {N cap Q CS cc now tc kn : Nat} {fl : Int32} {op oa ob oc st gn lr rg pc tr wt dl mc mk mf mv lm mon par ce ct ca sg mx wd cn cl rc rk tp tv wa dy kd rs lk cel trd : Nat → Int32} {ms cnt : Nat → Int64}
theorem xk_child {post : SX → Prop} {s i c : Nat} (hs : s < 8) (hi : i < 8) (hc : c < 8) (hcl : cl (s * 8 + i) = nI c) (hd : (ct c = 2 ∨ (ct c = 1 ∧ (lr c = 0 ∨ lr c = 3))) → wX_settleChild_63 post (nI s) (nI i) fl (nI N) (nI cap) (nI Q) (nI CS) (nI cc) (nI now) (nI tc) op oa ob oc st gn lr rg pc tr wt dl mc mk mf mv ms lm mon par ce ct ca sg mx wd cn cl rc rk tp tv cnt) (hk : ¬ (ct c = 2 ∨ (ct c = 1 ∧ (lr c = 0 ∨ lr c = 3))) → wX_settleChild_70 post (nI s) (nI i) fl (nI N) (nI cap) (nI Q) (nI CS) (nI cc) (nI now) (nI tc) op oa ob oc st gn lr rg pc tr wt dl mc mk mf mv ms lm mon par ce ct ca sg mx wd cn cl rc rk tp tv cnt) : wpX_settleChild post (fl, nI N, nI cap, nI Q, nI CS, nI cc, nI now, nI tc, op, oa, ob, oc, st, gn, lr, rg, pc, tr, wt, dl, mc, mk, mf, mv, ms, lm, mon, par, ce, ct, ca, sg, mx, wd, cn, cl, rc, rk, tp, tv, cnt) (nI s) (nI i) := by
  have i2 : vp_in (nI c) 8 := vp_in_nI hc (by omega)
  have e2 : (nI c).toNatClampNeg = c := nI_clamp (by omega)
  have T1 : (lr c = 0 ∨ lr c = 3) → wX_settleChild_36 post (nI s) (nI i) (nI c) 1 fl (nI N) (nI cap) (nI Q) (nI CS) (nI cc) (nI now) (nI tc) op oa ob oc st gn lr rg pc tr wt dl mc mk mf mv ms lm mon par ce ct ca sg mx wd cn cl rc rk tp tv cnt := fun q => by
    refine ⟨i2, ?_⟩
    rw [e2]
    by_cases q2 : ct c = 2
    · exact br_t q2 (hd (Or.inl q2))
    · refine br_f q2 ⟨i2, ?_⟩
      by_cases q1 : ct c = 1
      · exact br_t q1 (br_f (by decide) (hd (Or.inr ⟨q1, q⟩)))
      · exact br_f q1 (hk fun z => z.elim q2 fun w => q1 w.1)
  have T0 : ¬ (lr c = 0 ∨ lr c = 3) → wX_settleChild_36 post (nI s) (nI i) (nI c) 0 fl (nI N) (nI cap) (nI Q) (nI CS) (nI cc) (nI now) (nI tc) op oa ob oc st gn lr rg pc tr wt dl mc mk mf mv ms lm mon par ce ct ca sg mx wd cn cl rc rk tp tv cnt := fun q => by
    refine ⟨i2, ?_⟩
    rw [e2]
    by_cases q2 : ct c = 2
    · exact br_t q2 (hd (Or.inl q2))
    · refine br_f q2 ⟨i2, ?_⟩
      by_cases q1 : ct c = 1
      · exact br_t q1 (br_t rfl (hk fun z => z.elim q2 fun w => q w.2))
      · exact br_f q1 (hk fun z => z.elim q2 fun w => q1 w.1)
  refine ⟨pk_in (s * 8 + i) 64 (by omega) (am_8 s i), nm_r (e' := nI c) (by rw [am_8, nI_clamp (by omega), hcl]) ⟨i2, nm_r (e' := lr c) (by rw [e2]) ?_⟩⟩
  by_cases l0 : lr c = 0
  · exact br_t l0 (T1 (Or.inl l0))
  · refine br_f l0 ?_
    by_cases l3 : lr c = 3
    · exact br_t l3 (T1 (Or.inr l3))
    · exact br_f l3 (T0 fun z => z.elim l0 l3)
theorem yk_child {post : SY → Prop} {s c : Nat} (hc : c < 8) (hd : (ct c = 2 ∨ (ct c = 1 ∧ (lr c = 0 ∨ lr c = 3))) → wY_settleOne_49 post (nI c) (nI N) (nI cap) (nI Q) (nI CS) (nI now) (nI cc) (nI tc) (nI kn) st gn lr pc wa dy tr par ce ct ca kd sg mx wd rs rg mon lk mc mk mf mv ms cel trd cnt) (hk : ¬ (ct c = 2 ∨ (ct c = 1 ∧ (lr c = 0 ∨ lr c = 3))) → ∃ n61, wY_settleOne_61 post (nI s) (nI c) (nI N) (nI cap) (nI Q) (nI CS) (nI now) (nI cc) (nI tc) (nI kn) st gn lr pc wa dy tr par ce ct ca kd sg mx wd rs rg mon lk mc mk mf mv ms cel trd cnt n61 0 0) : wpY_settleOne post (nI N, nI cap, nI Q, nI CS, nI now, nI cc, nI tc, nI kn, st, gn, lr, pc, wa, dy, tr, par, ce, ct, ca, kd, sg, mx, wd, rs, rg, mon, lk, mc, mk, mf, mv, ms, cel, trd, cnt) (nI s) (nI c) := by
  have i2 : vp_in (nI c) 8 := vp_in_nI hc (by omega)
  have e2 : (nI c).toNatClampNeg = c := nI_clamp (by omega)
  have T1 : (lr c = 0 ∨ lr c = 3) → wY_settleOne_24 post (nI s) (nI c) 1 (nI N) (nI cap) (nI Q) (nI CS) (nI now) (nI cc) (nI tc) (nI kn) st gn lr pc wa dy tr par ce ct ca kd sg mx wd rs rg mon lk mc mk mf mv ms cel trd cnt := fun q => by
    refine ⟨i2, ?_⟩
    rw [e2]
    by_cases q2 : ct c = 2
    · exact br_t q2 (hd (Or.inl q2))
    · refine br_f q2 ⟨i2, ?_⟩
      by_cases q1 : ct c = 1
      · exact br_t q1 (br_f (by decide) (hd (Or.inr ⟨q1, q⟩)))
      · exact br_f q1 (hk fun z => z.elim q2 fun w => q1 w.1)
  have T0 : ¬ (lr c = 0 ∨ lr c = 3) → wY_settleOne_24 post (nI s) (nI c) 0 (nI N) (nI cap) (nI Q) (nI CS) (nI now) (nI cc) (nI tc) (nI kn) st gn lr pc wa dy tr par ce ct ca kd sg mx wd rs rg mon lk mc mk mf mv ms cel trd cnt := fun q => by
    refine ⟨i2, ?_⟩
    rw [e2]
    by_cases q2 : ct c = 2
    · exact br_t q2 (hd (Or.inl q2))
    · refine br_f q2 ⟨i2, ?_⟩
      by_cases q1 : ct c = 1
      · exact br_t q1 (br_t rfl (hk fun z => z.elim q2 fun w => q w.2))
      · exact br_f q1 (hk fun z => z.elim q2 fun w => q1 w.1)
  refine ⟨i2, ?_⟩
  rw [e2]
  by_cases l0 : lr c = 0
  · exact br_t l0 (T1 (Or.inl l0))
  · refine br_f l0 ⟨i2, ?_⟩
    by_cases l3 : lr c = 3
    · exact br_t l3 (T1 (Or.inr l3))
    · exact br_f l3 (T0 fun z => z.elim l0 l3)
theorem so_child {K : List Nat} {s c i : Nat} (I : am_I K N cap Q CS cc now tc kn fl op oa ob oc st gn lr rg pc tr wt dl mc mk mf mv lm mon par ce ct ca sg mx wd cn cl rc rk tp tv wa dy kd rs lk cel trd ms cnt) (hs : s < 8) (hs2 : st s = 2) (hi : (am_CL K par s)[i]? = some c) (h3 : st c = 3) : ∃ K' u' v', am_R K' u' v' ∧ xMu K' u' < am_mu K now st wd rc rk ∧ am_T N Q now st u' ∧ (∀ j, j < 8 → am_tk (gn j) (xGn u' j) (st j) (xSt u' j)) ∧ (∀ post : SX → Prop, post u' → wpX_settleChild post (fl, nI N, nI cap, nI Q, nI CS, nI cc, nI now, nI tc, op, oa, ob, oc, st, gn, lr, rg, pc, tr, wt, dl, mc, mk, mf, mv, ms, lm, mon, par, ce, ct, ca, sg, mx, wd, cn, cl, rc, rk, tp, tv, cnt) (nI s) (nI i)) ∧ (∀ post : SY → Prop, post v' → wpY_settleOne post (nI N, nI cap, nI Q, nI CS, nI now, nI cc, nI tc, nI kn, st, gn, lr, pc, wa, dy, tr, par, ce, ct, ca, kd, sg, mx, wd, rs, rg, mon, lk, mc, mk, mf, mv, ms, cel, trd, cnt) (nI s) (nI c)) := by
  have hn : now ≤ 1000 := I.1.2.2.2.2.2.2.2.2.2.1
  have hKs := I.2.2.2.2.2.2.2.2.2.2.1
  have hKy := I.2.2.2.2.2.2.2.2.2.1
  have hX := I.2.2.2.2.2.2.2.2.2.2.2.1 s hs hs2
  have hm := am_CLm.mp (List.mem_of_getElem? hi)
  have c8 := (hKs.1 c hm.1).1
  have k8 : ∀ x, x ∈ K → x < 8 := fun x hx => (hKs.1 x hx).1
  have kl8 : K.length ≤ 8 := am_len 8 K hKy.1 k8
  have hl : i < (am_CL K par s).length := by
    refine Classical.byContradiction fun no => ?_
    rw [List.getElem?_eq_none (by omega)] at hi
    exact absurd hi (by simp)
  have l8 : (am_CL K par s).length ≤ 8 := Nat.le_trans am_CL8 kl8
  have i1 : vp_in (nI s) 8 := vp_in_nI hs (by omega)
  have e1 : (nI s).toNatClampNeg = s := nI_clamp (by omega)
  by_cases hd : ct c = 2 ∨ (ct c = 1 ∧ (lr c = 0 ∨ lr c = 3))
  · obtain ⟨cn', cl', kd', I', a1, aX, aY⟩ := dr_child I hs hs2 hi h3
    have u2 : ∀ j, upd st c 0 j = 2 ↔ st j = 2 := fun j => by
      by_cases e : j = c
      · subst e; rw [pk_us, h3]; decide
      · rw [pk_un e]
    refine ⟨_, _, _, am_Ri I', ?_, ⟨⟨rfl, rfl, rfl⟩, fun j _ z => (u2 j).mp z⟩, fun j _ => am_tk_r fun z => ?_, fun post p => xk_child hs (by omega) c8 (hX.2 i c hi) (fun _ => aX _ p) (fun z => absurd hd z), fun post p => yk_child c8 (fun _ => aY _ p) (fun z => absurd hd z)⟩
    · rw [xMu_e hn]
      unfold am_mu
      have : am_sm (fun s => if upd st c 0 s = 2 then 6 - am_rec now wd rc rk s else 0) 8 ≤ am_sm (fun s => if st s = 2 then 6 - am_rec now wd rc rk s else 0) 8 := am_sm_le fun j _ => by
        show (if upd st c 0 j = 2 then _ else _) ≤ (if st j = 2 then _ else _)
        by_cases q : st j = 2
        · rw [if_pos q, if_pos ((u2 j).mpr q)]; exact Nat.le_refl _
        · rw [if_neg q, if_neg fun z => q ((u2 j).mp z)]; exact Nat.le_refl _
      omega
    · have z' : upd st c 0 j = 1 := z
      by_cases e : j = c
      · subst e; rw [pk_us] at z'; exact absurd z' (by decide)
      · rw [pk_un e] at z'; exact z'
  · obtain ⟨hsg, ⟨mm, m5, hmx⟩, w, cc', f, w1, w2, hw, c5, hc, hf, ho, hr⟩ := I.2.2.2.2.2.2.2.2.2.2.2.2 s hs hs2
    have er := am_rec_eq (rc := rc) (rk := rk) hn hw w2 hc c5 hf
    have rl : am_cn (am_in now w f) cc' ≤ 5 := Nat.le_trans (am_cn_le _ _) c5
    have r31 : am_cn (am_in now w f) cc' < 2 ^ 31 := by omega
    have Y61 : ∀ post : SY → Prop, (∀ n, wY_settleOne_61 post (nI s) (nI c) (nI N) (nI cap) (nI Q) (nI CS) (nI now) (nI cc) (nI tc) (nI kn) st gn lr pc wa dy tr par ce ct ca kd sg mx wd rs rg mon lk mc mk mf mv ms cel trd cnt (n + 1) (nI (am_cn (am_in now w f) cc')) (nI (now + 1))) → ∃ n61, wY_settleOne_61 post (nI s) (nI c) (nI N) (nI cap) (nI Q) (nI CS) (nI now) (nI cc) (nI tc) (nI kn) st gn lr pc wa dy tr par ce ct ca kd sg mx wd rs rg mon lk mc mk mf mv ms cel trd cnt n61 0 0 := fun post p => by
      have z := yr_61 (post := post) (x2 := nI c) hs hw w2 c5 hn (fun i hi => (hf i hi).2) hr p (now + 1) 0 (now + 2) (by omega) (by omega)
      rw [am_cn_0 (f := fun i => decide (f i < 0 ∧ now < f i + w)) fun i _ => decide_eq_false (by omega)] at z
      exact ⟨_, z⟩
    by_cases lim : am_cn (am_in now w f) cc' < mm
    · -- a restart
      obtain ⟨c2, f2, n1, n2, n3, n4, n5, n6⟩ := am_rec_s (rc := rc) hn hw w1 w2 c5 hf ho hr (by omega) hc
      have I2 : am_I K N cap Q CS cc now tc kn fl op oa ob oc st gn lr rg pc tr wt dl mc mk mf mv lm mon par ce ct ca sg mx wd cn cl (if cc' < 5 then upd rc s (nI (cc' + 1)) else rc) (upd (am_up rk (s * 5) (s * 5 + 4)) (s * 5) (nI now)) tp tv wa dy kd (upd rs (s * 1001 + now) (rs (s * 1001 + now) + 1)) lk cel trd ms (vp_updL cnt 9 (cnt 9 + 1)) := by
        obtain ⟨h1, h2, h3', h4, h5, h6, h7, h8, h9, h10, h11, h12, h13⟩ := I
        refine ⟨h1, h2, h3', h4, h5, h6, h7, h8, h9, h10, h11, h12, fun t ht e => ?_⟩
        by_cases q : t = s
        · subst q
          exact ⟨hsg, ⟨mm, m5, hmx⟩, w, c2, f2, w1, w2, hw, n1, n2, n3, n4, n5⟩
        · obtain ⟨x1, x2, w', c', f', y1, y2, y3, y4, y5, y6, y7, y8⟩ := h13 t ht e
          refine ⟨x1, x2, w', c', f', y1, y2, y3, y4, ?_, fun k hk => ?_, y7, fun k hk hk2 => ?_⟩
          · by_cases q5 : cc' < 5
            · rw [if_pos q5, pk_un q]; exact y5
            · rw [if_neg q5]; exact y5
          · rw [am_rec_k q (by omega)]; exact y6 k hk
          · rw [am_rec_o (rk := rk) hn q hk]; exact y8 k hk hk2
      obtain ⟨A, G, C, g1, g2, g3, g4, g5⟩ := am_seg (sg := sg s) hKy.1 hsg hi
      obtain ⟨K', st', gn', lr', rg', pc', tr', mon', par', m', wt', dl', lm', lk', wa', kd', cn', cl', I', a1, a2, a3, aX, aY⟩ := gr_group (c := c) I2 hs hs2 c8 g1 g4 g5
      refine ⟨K', _, _, am_Ri I', ?_, ⟨⟨rfl, rfl, rfl⟩, fun j hj z => (a2 j hj).mp z⟩, fun j hj => a3 j hj, fun post p => xk_child hs (by omega) c8 (hX.2 i c hi) (fun z => absurd z hd) (fun _ => ?_), fun post p => yk_child c8 (fun z => absurd z hd) (fun _ => Y61 post fun n => ?_)⟩
      · rw [xMu_e hn]
        unfold am_mu
        have er2 : am_rec now wd (if cc' < 5 then upd rc s (nI (cc' + 1)) else rc) (upd (am_up rk (s * 5) (s * 5 + 4)) (s * 5) (nI now)) s = am_cn (am_in now w f) cc' + 1 := by
          rw [am_rec_eq hn hw w2 n2 n1 n3, n6]
        have : am_sm (fun t => if st' t = 2 then 6 - am_rec now wd (if cc' < 5 then upd rc s (nI (cc' + 1)) else rc) (upd (am_up rk (s * 5) (s * 5 + 4)) (s * 5) (nI now)) t else 0) 8 < am_sm (fun s => if st s = 2 then 6 - am_rec now wd rc rk s else 0) 8 := by
          refine am_sm_lt (s := s) (fun j hj => ?_) hs ?_
          · by_cases q : st j = 2
            · rw [if_pos q, if_pos ((a2 j hj).mpr q)]
              by_cases qs : j = s
              · subst qs; rw [er2, er]; omega
              · obtain ⟨-, -, w', c', f', -, z2, z3, z4, z5, z6, -, -⟩ := I.2.2.2.2.2.2.2.2.2.2.2.2 j hj q
                have ra := am_rec_eq (rc := rc) (rk := rk) hn z3 z2 z5 z4 z6
                have rb : am_rec now wd (if cc' < 5 then upd rc s (nI (cc' + 1)) else rc) (upd (am_up rk (s * 5) (s * 5 + 4)) (s * 5) (nI now)) j = am_cn (am_in now w' f') c' := by
                  refine am_rec_eq hn z3 z2 ?_ z4 fun k hk => ?_
                  · by_cases q5 : cc' < 5
                    · rw [if_pos q5, pk_un qs]; exact z5
                    · rw [if_neg q5]; exact z5
                  · rw [am_rec_k qs (by omega)]; exact z6 k hk
                rw [ra, rb]; exact Nat.le_refl _
            · rw [if_neg q, if_neg fun z => q ((a2 j hj).mp z)]; exact Nat.le_refl _
          · show (if st' s = 2 then _ else _) < (if st s = 2 then _ else _)
            rw [if_pos hs2, if_pos ((a2 s hs).mpr hs2), er2, er]
            omega
        omega
      · refine xr_recent hs hw w2 hc c5 hn hf ⟨i1, ?_⟩
        refine br_t (by show _ < mx (nI s).toNatClampNeg; rw [e1, hmx]; exact nI_lt lim (by omega)) (xr_record hs hc c5 ⟨i1, ?_⟩)
        have H : ∀ z0 : Nat, z0 = A.length → wX_settleChild_111 post (nI s) (nI i) (nI z0) fl (nI N) (nI cap) (nI Q) (nI CS) (nI cc) (nI now) (nI tc) op oa ob oc st gn lr rg pc tr wt dl mc mk mf mv ms lm mon par ce ct ca sg mx wd cn cl (if cc' < 5 then upd rc s (nI (cc' + 1)) else rc) (upd (am_up rk (s * 5) (s * 5 + 4)) (s * 5) (nI now)) tp tv (vp_updL cnt 9 (cnt 9 + 1)) := fun z0 ez => by
          subst ez
          refine ⟨i1, ?_⟩
          rw [e1]
          by_cases q0 : sg s = 0
          · rw [if_pos q0] at g3
            refine br_t q0 ?_
            unfold wX_settleChild_134
            rw [nI_1, ← g3]
            exact aX _ p
          · rw [if_neg q0] at g3
            refine br_f q0 ⟨i1, ?_⟩
            unfold wX_settleChild_134
            rw [hX.1, ← g3]
            exact aX _ p
        show (sg (nI s).toNatClampNeg = 1 → _) ∧ (¬ sg (nI s).toNatClampNeg = 1 → _)
        rw [e1]
        by_cases q1 : sg s = 1
        · rw [if_pos q1] at g2
          exact br_t q1 (H 0 g2.symm)
        · rw [if_neg q1] at g2
          exact br_f q1 (H i g2.symm)
      · refine br_t (nI_lt (by omega) (by omega)) ⟨i1, ?_⟩
        rw [e1, hmx]
        refine br_t (nI_lt lim (by omega)) ⟨pk_in (s * 1001 + now) 8008 (by omega) (am_1001 s now), pk_in (s * 1001 + now) 8008 (by omega) (am_1001 s now), nm_r (e' := upd rs (s * 1001 + now) (rs (s * 1001 + now) + 1)) (by rw [am_1001, nI_clamp (by omega)]) (nm_e (aY post p))⟩
    · -- the supervisor ends
      obtain ⟨K', st', lr', mon', m', wt', lm', lk', par', kd', I', a1, a2, a3, a4, aX, aY⟩ := ed_sup (r := 3) I hs hs2
      refine ⟨K', _, _, am_Ri I', ?_, ⟨⟨rfl, rfl, rfl⟩, fun j hj z => ((a3 j hj).mp z).1⟩, fun j hj => am_tk_r fun z => a2 j hj z, fun post p => xk_child hs (by omega) c8 (hX.2 i c hi) (fun z => absurd z hd) (fun _ => ?_), fun post p => yk_child c8 (fun z => absurd z hd) (fun _ => Y61 post fun n => ?_)⟩
      · rw [xMu_e hn]
        unfold am_mu
        have : am_sm (fun t => if st' t = 2 then 6 - am_rec now wd (upd rc s 0) rk t else 0) 8 < am_sm (fun s => if st s = 2 then 6 - am_rec now wd rc rk s else 0) 8 := by
          refine am_sm_lt (s := s) (fun j hj => ?_) hs ?_
          · by_cases q : st' j = 2
            · have q2 := (a3 j hj).mp q
              rw [if_pos q, if_pos q2.1]
              unfold am_rec
              rw [pk_un q2.2]
              exact Nat.le_refl _
            · rw [if_neg q]; exact Nat.zero_le _
          · show (if st' s = 2 then _ else _) < (if st s = 2 then _ else _)
            rw [if_neg fun z => ((a3 s hs).mp z).2 rfl, if_pos hs2, er]
            omega
        omega
      · refine xr_recent hs hw w2 hc c5 hn hf ⟨i1, ?_⟩
        exact br_f (by show ¬ _ < mx (nI s).toNatClampNeg; rw [e1, hmx]; exact nI_nlt (by omega) (by omega)) (aX _ p)
      · refine br_t (nI_lt (by omega) (by omega)) ⟨i1, ?_⟩
        rw [e1, hmx]
        exact br_f (nI_nlt (by omega) (by omega)) (aY _ p)
end ON
end
section
/-! 26: settle -/
theorem am_least (P : Nat → Prop) (h : ∃ k, P k) : ∃ k, P k ∧ ∀ j, j < k → ¬ P j := by
  obtain ⟨k, hk⟩ := h
  have : ∀ n, (∃ k, k < n ∧ P k) → ∃ k, P k ∧ ∀ j, j < k → ¬ P j := by
    intro n
    induction n with
    | zero => intro h; obtain ⟨k, h1, _⟩ := h; omega
    | succ n ih =>
      intro h
      by_cases c : ∃ k, k < n ∧ P k
      · exact ih c
      · obtain ⟨k, h1, h2⟩ := h
        refine ⟨k, h2, fun j hj hp => c ⟨j, by omega, hp⟩⟩
  exact this (k + 1) ⟨k, by omega, hk⟩
/-- the first fallen of a list, by its place -/
def am_f3 (st : Nat → Int32) : List Nat → Nat → Option Nat
  | [], _ => none
  | x :: l, i => if st x = 3 then some i else am_f3 st l (i + 1)
theorem am_f3_n {st : Nat → Int32} : ∀ (l : List Nat) (i : Nat), l.find? (fun x => decide (st x = 3)) = none → am_f3 st l i = none := by
  intro l
  induction l with
  | nil => intro i _; rfl
  | cons x l ih =>
    intro i h
    unfold am_f3
    by_cases c : st x = 3
    · rw [List.find?_cons_of_pos (by simp [c])] at h; exact absurd h (by simp)
    · rw [List.find?_cons_of_neg (by simp [c])] at h
      rw [if_neg c]; exact ih (i + 1) h
theorem am_f3_s {st : Nat → Int32} {c : Nat} : ∀ (l : List Nat) (i : Nat), l.find? (fun x => decide (st x = 3)) = some c → ∃ k, am_f3 st l i = some (i + k) ∧ l[k]? = some c := by
  intro l
  induction l with
  | nil => intro i h; exact absurd h (by simp)
  | cons x l ih =>
    intro i h
    unfold am_f3
    by_cases q : st x = 3
    · rw [List.find?_cons_of_pos (by simp [q])] at h
      exact ⟨0, by rw [if_pos q]; rfl, h⟩
    · rw [List.find?_cons_of_neg (by simp [q])] at h
      obtain ⟨k, k1, k2⟩ := ih (i + 1) h
      refine ⟨k + 1, ?_, k2⟩
      rw [if_neg q, k1]
      exact congrArg some (by omega)
def am_tr (n g0 : Nat) (s0 g' s' : Int32) : Prop := (g' = nI g0 ∧ (s' = 1 → s0 = 1)) ∨ ∃ k a, 1 ≤ k ∧ k ≤ n ∧ g' = nI a ∧ a ≤ 1000000 ∧ (a = g0 + k ∨ a + 1000000 = g0 + k)
theorem am_tr_s {n g0 : Nat} {s0 g1 s1 g' s' : Int32} (hn : n ≤ 1000) (h0 : g0 ≤ 1000000) (h1 : am_tk (nI g0) g1 s0 s1) (h2 : ∀ a, a ≤ 1000000 → g1 = nI a → am_tr n a s1 g' s') : am_tr (n + 1) g0 s0 g' s' := by
  rcases h1 with ⟨e, f⟩ | e
  · rcases h2 g0 h0 e with ⟨x, y⟩ | ⟨k, a, x1, x2, x3⟩
    · exact Or.inl ⟨x, fun z => f (y z)⟩
    · exact Or.inr ⟨k, a, x1, by omega, x3⟩
  · obtain ⟨a1, b1, b2, b3⟩ := am_nx_le h0
    rw [b2] at e
    rcases h2 a1 b1 e with ⟨x, y⟩ | ⟨k, a, x1, x2, x3, x4, x5⟩
    · exact Or.inr ⟨1, a1, by omega, by omega, x, b1, by omega⟩
    · exact Or.inr ⟨k + 1, a, by omega, by omega, x3, x4, by omega⟩
theorem am_tr_w {n m g0 : Nat} {s0 g' s' : Int32} (h : n ≤ m) (k : am_tr n g0 s0 g' s') : am_tr m g0 s0 g' s' := by
  rcases k with x | ⟨k, a, x1, x2, x3⟩
  · exact Or.inl x
  · exact Or.inr ⟨k, a, x1, by omega, x3⟩
theorem am_tr_ne {n g0 : Nat} {s0 g' s' : Int32} (hn : n ≤ 1000) (h0 : g0 ≤ 1000000) (k : am_tr n g0 s0 g' s') (h1 : ¬ s0 = 1) (e : s' = 1) : ¬ g' = nI g0 := fun z => by
  rcases k with x | ⟨k, a, x1, x2, x3, x4, x5⟩
  · exact h1 (x.2 e)
  · have := am_im (x3.symm.trans z) (by omega) (by omega)
    omega
def am_TU (u u' : SX) : Prop := (u'.2.1 = u.2.1 ∧ u'.2.2.2.1 = u.2.2.2.1 ∧ u'.2.2.2.2.2.2.1 = u.2.2.2.2.2.2.1) ∧ ∀ i, i < 8 → xSt u' i = 2 → xSt u i = 2
section SE
variable {N cap Q CS cc now tc kn : Nat} {fl : Int32} {op oa ob oc st gn lr rg pc tr wt dl mc mk mf mv lm mon par ce ct ca sg mx wd cn cl rc rk tp tv wa dy kd rs lk cel trd : Nat → Int32} {ms cnt : Nat → Int64}
theorem xf_l {post : Int32 → Prop} {s len : Nat} (hs : s < 8) (hcn : cn s = nI len) (h8 : len ≤ 8) : ∀ (l : List Nat) (i n : Nat), i + l.length = len → l.length < n → (∀ x, x ∈ l → x < 8) → (∀ j x, l[j]? = some x → cl (s * 8 + (i + j)) = nI x) → post (am_o (am_f3 st l i)) → wX_firstFallen_2 post (nI s) fl (nI N) (nI cap) (nI Q) (nI CS) (nI cc) (nI now) (nI tc) op oa ob oc st gn lr rg pc tr wt dl mc mk mf mv ms lm mon par ce ct ca sg mx wd cn cl rc rk tp tv cnt n (nI i) := by
  have i1 : vp_in (nI s) 8 := vp_in_nI hs (by omega)
  have e1 : (nI s).toNatClampNeg = s := nI_clamp (by omega)
  intro l
  induction l with
  | nil =>
    intro i n hi hn _ _ h
    obtain ⟨m, rfl⟩ : ∃ m, n = m + 1 := ⟨n - 1, by omega⟩
    obtain rfl : i = len := hi
    exact ⟨i1, br_t (by rw [e1, hcn]; exact Int32.le_refl _) h⟩
  | cons x l ih =>
    intro i n hi hn hx hcl h
    obtain ⟨m, rfl⟩ : ∃ m, n = m + 1 := ⟨n - 1, by omega⟩
    rw [List.length_cons] at hi hn
    have x8 : x < 8 := hx x List.mem_cons_self
    have i2 : vp_in (nI x) 8 := vp_in_nI x8 (by omega)
    have e2 : (nI x).toNatClampNeg = x := nI_clamp (by omega)
    refine ⟨i1, br_f (by rw [e1, hcn]; exact nI_ge (by omega) (by omega)) ⟨pk_in (s * 8 + i) 64 (by omega) (am_8 s i), nm_r (e' := nI x) (by rw [am_8, nI_clamp (by omega)]; exact hcl 0 x rfl) ⟨i2, ?_⟩⟩⟩
    rw [e2]
    unfold am_f3 at h
    by_cases c : st x = 3
    · rw [if_pos c] at h
      exact br_t c h
    · rw [if_neg c] at h
      refine br_f c (nm_r (nI_1 i) (ih (i + 1) m (by omega) (by omega) (fun y hy => hx y (List.mem_cons_of_mem _ hy)) (fun j y hy => ?_) h))
      have := hcl (j + 1) y hy
      rw [show i + (j + 1) = i + 1 + j by omega] at this
      exact this
theorem yf_26 {post : SY → Prop} {J2 : _} {J13 : Int32 → Int32 → Prop} {x1 : Int32} {s : Nat} (hs : s < 8) (h8 : kn ≤ 8) : ∀ (l : List Nat) (i n : Nat), i + l.length = kn → l.length + 1 < n → (∀ x, x ∈ l → x < 8) → (∀ j x, l[j]? = some x → kd (i + j) = nI x) → J13 (am_o (l.find? (fun x => decide (par x = nI s ∧ st x = 3)))) (nI (s + 1)) → wY_settle_26 post J2 J13 x1 (nI s) (nI N) (nI cap) (nI Q) (nI CS) (nI now) (nI cc) (nI tc) (nI kn) st gn lr pc wa dy tr par ce ct ca kd sg mx wd rs rg mon lk mc mk mf mv ms cel trd cnt n (-1) (nI i) := by
  intro l
  induction l with
  | nil =>
    intro i n hi hn _ _ h
    obtain ⟨m, rfl⟩ : ∃ m, n = m + 1 := ⟨n - 1, by omega⟩
    obtain rfl : i = kn := hi
    exact br_t (Int32.le_refl _) (nm_r (nI_1 s) h)
  | cons x l ih =>
    intro i n hi hn hx hk h
    obtain ⟨m, rfl⟩ : ∃ m, n = m + 1 := ⟨n - 1, by omega⟩
    rw [List.length_cons] at hi hn
    have x8 : x < 8 := hx x List.mem_cons_self
    have i1 : vp_in (nI i) 8 := vp_in_nI (by omega) (by omega)
    have e1 : (nI i).toNatClampNeg = i := nI_clamp (by omega)
    have i2 : vp_in (nI x) 8 := vp_in_nI x8 (by omega)
    have e2 : (nI x).toNatClampNeg = x := nI_clamp (by omega)
    have hK : kd i = nI x := hk 0 x rfl
    have N' : J13 (am_o (l.find? (fun x => decide (par x = nI s ∧ st x = 3)))) (nI (s + 1)) → wY_settle_26 post J2 J13 x1 (nI s) (nI N) (nI cap) (nI Q) (nI CS) (nI now) (nI cc) (nI tc) (nI kn) st gn lr pc wa dy tr par ce ct ca kd sg mx wd rs rg mon lk mc mk mf mv ms cel trd cnt m (-1) (nI (i + 1)) := fun q => ih (i + 1) m (by omega) (by omega) (fun y hy => hx y (List.mem_cons_of_mem _ hy)) (fun j y hy => by
      have := hk (j + 1) y hy
      rw [show i + (j + 1) = i + 1 + j by omega] at this
      exact this) q
    refine br_f (nI_ge (by omega) (by omega)) (br_f am_n1le ⟨i1, ?_⟩)
    rw [e1, hK]
    refine ⟨i2, ?_⟩
    rw [e2]
    by_cases c : par x = nI s
    · refine br_t c ⟨i1, i2, ?_⟩
      by_cases c3 : st x = 3
      · rw [List.find?_cons_of_pos (by simp [c, c3])] at h
        refine br_t c3 ⟨i1, nm_e (nm_r (nI_1 i) ?_)⟩
        obtain ⟨m', rfl⟩ : ∃ m', m = m' + 1 := ⟨m - 1, by omega⟩
        refine pk_le kn (i + 1) (fun _ => nm_r (nI_1 s) h) (fun _ => br_t (nI_pos' (by omega)) (nm_r (nI_1 s) h))
      · rw [List.find?_cons_of_neg (by simp [c3])] at h
        exact br_f c3 (nm_r (nI_1 i) (N' h))
    · rw [List.find?_cons_of_neg (by simp [c])] at h
      exact br_f c (nm_r (nI_1 i) (N' h))
theorem am_F {K : List Nat} {s : Nat} : K.find? (fun x => decide (par x = nI s ∧ st x = 3)) = (am_CL K par s).find? (fun x => decide (st x = 3)) := by
  unfold am_CL
  rw [List.find?_filter]
  congr 1
  funext x
  by_cases a : par x = nI s <;> by_cases b : st x = 3 <;> simp [a, b]
theorem ps_pass {K : List Nat} (I : am_I K N cap Q CS cc now tc kn fl op oa ob oc st gn lr rg pc tr wt dl mc mk mf mv lm mon par ce ct ca sg mx wd cn cl rc rk tp tv wa dy kd rs lk cel trd ms cnt) : ((∀ j, j < 8 → ¬ st j = 3) ∧ (∀ post : Int32 → SX → Prop, post 0 (fl, nI N, nI cap, nI Q, nI CS, nI cc, nI now, nI tc, op, oa, ob, oc, st, gn, lr, rg, pc, tr, wt, dl, mc, mk, mf, mv, ms, lm, mon, par, ce, ct, ca, sg, mx, wd, cn, cl, rc, rk, tp, tv, cnt) → wpX_settleOne post (fl, nI N, nI cap, nI Q, nI CS, nI cc, nI now, nI tc, op, oa, ob, oc, st, gn, lr, rg, pc, tr, wt, dl, mc, mk, mf, mv, ms, lm, mon, par, ce, ct, ca, sg, mx, wd, cn, cl, rc, rk, tp, tv, cnt)) ∧ (∀ (post : SY → Prop) J2 k, post (nI N, nI cap, nI Q, nI CS, nI now, nI cc, nI tc, nI kn, st, gn, lr, pc, wa, dy, tr, par, ce, ct, ca, kd, sg, mx, wd, rs, rg, mon, lk, mc, mk, mf, mv, ms, cel, trd, cnt) → ∃ n13, wY_settle_13 post J2 (nI k) (nI N) (nI cap) (nI Q) (nI CS) (nI now) (nI cc) (nI tc) (nI kn) st gn lr pc wa dy tr par ce ct ca kd sg mx wd rs rg mon lk mc mk mf mv ms cel trd cnt n13 (-1) 0)) ∨ ((∃ j, j < 8 ∧ st j = 3) ∧ ∃ K' u' v', am_R K' u' v' ∧ xMu K' u' < am_mu K now st wd rc rk ∧ am_T N Q now st u' ∧ (∀ j, j < 8 → am_tk (gn j) (xGn u' j) (st j) (xSt u' j)) ∧ (∀ post : Int32 → SX → Prop, post 1 u' → wpX_settleOne post (fl, nI N, nI cap, nI Q, nI CS, nI cc, nI now, nI tc, op, oa, ob, oc, st, gn, lr, rg, pc, tr, wt, dl, mc, mk, mf, mv, ms, lm, mon, par, ce, ct, ca, sg, mx, wd, cn, cl, rc, rk, tp, tv, cnt)) ∧ (∀ (post : SY → Prop) J2 k, J2 (nI (k + 1)) v'.1 v'.2.1 v'.2.2.1 v'.2.2.2.1 v'.2.2.2.2.1 v'.2.2.2.2.2.1 v'.2.2.2.2.2.2.1 v'.2.2.2.2.2.2.2.1 v'.2.2.2.2.2.2.2.2.1 v'.2.2.2.2.2.2.2.2.2.1 v'.2.2.2.2.2.2.2.2.2.2.1 v'.2.2.2.2.2.2.2.2.2.2.2.1 v'.2.2.2.2.2.2.2.2.2.2.2.2.1 v'.2.2.2.2.2.2.2.2.2.2.2.2.2.1 v'.2.2.2.2.2.2.2.2.2.2.2.2.2.2.1 v'.2.2.2.2.2.2.2.2.2.2.2.2.2.2.2.1 v'.2.2.2.2.2.2.2.2.2.2.2.2.2.2.2.2.1 v'.2.2.2.2.2.2.2.2.2.2.2.2.2.2.2.2.2.1 v'.2.2.2.2.2.2.2.2.2.2.2.2.2.2.2.2.2.2.1 v'.2.2.2.2.2.2.2.2.2.2.2.2.2.2.2.2.2.2.2.1 v'.2.2.2.2.2.2.2.2.2.2.2.2.2.2.2.2.2.2.2.2.1 v'.2.2.2.2.2.2.2.2.2.2.2.2.2.2.2.2.2.2.2.2.2.1 v'.2.2.2.2.2.2.2.2.2.2.2.2.2.2.2.2.2.2.2.2.2.2.1 v'.2.2.2.2.2.2.2.2.2.2.2.2.2.2.2.2.2.2.2.2.2.2.2.1 v'.2.2.2.2.2.2.2.2.2.2.2.2.2.2.2.2.2.2.2.2.2.2.2.2.1 v'.2.2.2.2.2.2.2.2.2.2.2.2.2.2.2.2.2.2.2.2.2.2.2.2.2.1 v'.2.2.2.2.2.2.2.2.2.2.2.2.2.2.2.2.2.2.2.2.2.2.2.2.2.2.1 v'.2.2.2.2.2.2.2.2.2.2.2.2.2.2.2.2.2.2.2.2.2.2.2.2.2.2.2.1 v'.2.2.2.2.2.2.2.2.2.2.2.2.2.2.2.2.2.2.2.2.2.2.2.2.2.2.2.2.1 v'.2.2.2.2.2.2.2.2.2.2.2.2.2.2.2.2.2.2.2.2.2.2.2.2.2.2.2.2.2.1 v'.2.2.2.2.2.2.2.2.2.2.2.2.2.2.2.2.2.2.2.2.2.2.2.2.2.2.2.2.2.2.1 v'.2.2.2.2.2.2.2.2.2.2.2.2.2.2.2.2.2.2.2.2.2.2.2.2.2.2.2.2.2.2.2.1 v'.2.2.2.2.2.2.2.2.2.2.2.2.2.2.2.2.2.2.2.2.2.2.2.2.2.2.2.2.2.2.2.2.1 v'.2.2.2.2.2.2.2.2.2.2.2.2.2.2.2.2.2.2.2.2.2.2.2.2.2.2.2.2.2.2.2.2.2.1 v'.2.2.2.2.2.2.2.2.2.2.2.2.2.2.2.2.2.2.2.2.2.2.2.2.2.2.2.2.2.2.2.2.2.2 → ∃ n13, wY_settle_13 post J2 (nI k) (nI N) (nI cap) (nI Q) (nI CS) (nI now) (nI cc) (nI tc) (nI kn) st gn lr pc wa dy tr par ce ct ca kd sg mx wd rs rg mon lk mc mk mf mv ms cel trd cnt n13 (-1) 0)) := by
  have hN : N ≤ 8 := I.1.2.1
  have hKs := I.2.2.2.2.2.2.2.2.2.2.1
  have hKy := I.2.2.2.2.2.2.2.2.2.1
  have hX := I.2.2.2.2.2.2.2.2.2.2.2.1
  have hSt := I.2.2.2.1
  have k8 : ∀ x, x ∈ K → x < 8 := fun x hx => (hKs.1 x hx).1
  have kl8 : K.length ≤ 8 := am_len 8 K hKy.1 k8
  have hk : kn = K.length := hKy.2.1
  have none2 : ∀ s, s < 8 → ¬ st s = 2 → (am_CL K par s).find? (fun x => decide (st x = 3)) = none := fun s hs h => by
    rw [List.find?_eq_none]
    intro x hx
    obtain ⟨x1, x2⟩ := am_CLm.mp hx
    obtain ⟨-, -, p, p1, p2, p3⟩ := hKs.1 x x1
    have : p = s := am_im (by rw [← p2, x2]) (by omega) (by omega)
    rw [this] at p3
    exact absurd p3 h
  have xf : ∀ (post : Int32 → Prop) s, s < 8 → st s = 2 → post (am_o (am_f3 st (am_CL K par s) 0)) → wpX_firstFallen post (fl, nI N, nI cap, nI Q, nI CS, nI cc, nI now, nI tc, op, oa, ob, oc, st, gn, lr, rg, pc, tr, wt, dl, mc, mk, mf, mv, ms, lm, mon, par, ce, ct, ca, sg, mx, wd, cn, cl, rc, rk, tp, tv, cnt) (nI s) := fun post s hs h2 p => by
    obtain ⟨a, b⟩ := hX s hs h2
    have l8 : (am_CL K par s).length ≤ 8 := Nat.le_trans am_CL8 kl8
    exact ⟨_, xf_l hs a l8 (am_CL K par s) 0 ((am_CL K par s).length + 1) (by omega) (by omega) (fun x hx => k8 x (am_CLm.mp hx).1) (fun j x hx => by rw [Nat.zero_add]; exact b j x hx) p⟩
  have yf : ∀ (post : SY → Prop) J2 (J13 : Int32 → Int32 → Prop) x1 s, s < 8 → J13 (am_o ((am_CL K par s).find? (fun x => decide (st x = 3)))) (nI (s + 1)) → ∃ n26, wY_settle_26 post J2 J13 x1 (nI s) (nI N) (nI cap) (nI Q) (nI CS) (nI now) (nI cc) (nI tc) (nI kn) st gn lr pc wa dy tr par ce ct ca kd sg mx wd rs rg mon lk mc mk mf mv ms cel trd cnt n26 (-1) 0 := fun post J2 J13 x1 s hs p => by
    rw [← am_F] at p
    exact ⟨_, yf_26 hs (by omega) K 0 (K.length + 2) (by omega) (by omega) k8 (fun j x hx => by rw [Nat.zero_add]; exact hKy.2.2 j x hx) p⟩
  by_cases any : ∃ s, s < 8 ∧ ¬ (am_CL K par s).find? (fun x => decide (st x = 3)) = none
  · obtain ⟨s, ⟨hs, hf⟩, hmin⟩ := am_least (fun s => s < 8 ∧ ¬ (am_CL K par s).find? (fun x => decide (st x = 3)) = none) any
    have hs2 : st s = 2 := Classical.byContradiction fun z => hf (none2 s hs z)
    have sN : s < N := by
      refine Classical.byContradiction fun no => ?_
      have q := (hSt s hs).2 (by omega)
      rw [hs2] at q; exact absurd q (by decide)
    have mn : ∀ t, t < s → (am_CL K par t).find? (fun x => decide (st x = 3)) = none := fun t ht => Classical.byContradiction fun z => hmin t ht ⟨by omega, z⟩
    obtain ⟨c, hc⟩ := Option.ne_none_iff_exists'.mp hf
    have c3 : st c = 3 := of_decide_eq_true (List.find?_some (p := fun x => decide (st x = 3)) hc)
    obtain ⟨i, ei, hi⟩ := am_f3_s (am_CL K par s) 0 hc
    rw [Nat.zero_add] at ei
    have cK := am_CLm.mp (List.mem_of_getElem? hi)
    have c8 := k8 c cK.1
    have i8 : i < 8 := by
      refine Classical.byContradiction fun no => ?_
      have q := am_CL8 (K := K) (par := par) (s := s)
      rw [List.getElem?_eq_none (by omega)] at hi
      exact absurd hi (by simp)
    obtain ⟨K', u', v', R, a1, a2, a3, aX, aY⟩ := so_child I hs hs2 hi c3
    refine Or.inr ⟨⟨c, c8, c3⟩, K', u', v', R, a1, a2, a3, fun post p => ⟨s + 1, ?_⟩, fun post J2 k p => ⟨s + 2, ?_⟩⟩
    · have L : ∀ d t n, t + d = s → d < n → wX_settleOne_2 post fl (nI N) (nI cap) (nI Q) (nI CS) (nI cc) (nI now) (nI tc) op oa ob oc st gn lr rg pc tr wt dl mc mk mf mv ms lm mon par ce ct ca sg mx wd cn cl rc rk tp tv cnt n (nI t) := by
        intro d
        induction d with
        | zero =>
          intro t n ht hn
          obtain ⟨m, rfl⟩ : ∃ m, n = m + 1 := ⟨n - 1, by omega⟩
          obtain rfl : t = s := ht
          refine br_f (nI_ge (by omega) (by omega)) ⟨vp_in_nI hs (by omega), ?_⟩
          rw [nI_clamp (by omega)]
          refine br_t hs2 (xf _ t hs hs2 ?_)
          rw [ei]
          exact br_f (nI_pos (by omega)) (aX _ p)
        | succ d ih =>
          intro t n ht hn
          obtain ⟨m, rfl⟩ : ∃ m, n = m + 1 := ⟨n - 1, by omega⟩
          have z := ih (t + 1) m (by omega) (by omega)
          refine br_f (nI_ge (by omega) (by omega)) ⟨vp_in_nI (by omega) (by omega), ?_⟩
          rw [nI_clamp (by omega)]
          by_cases q : st t = 2
          · refine br_t q (xf _ t (by omega) q ?_)
            rw [am_f3_n _ 0 (mn t (by omega))]
            exact br_t am_n1lt (nm_r (nI_1 t) z)
          · exact br_f q (nm_r (nI_1 t) z)
      exact L s 0 (s + 1) (by omega) (by omega)
    · have E : wY_settle_91 post J2 (nI k) (nI c) (nI N) (nI cap) (nI Q) (nI CS) (nI now) (nI cc) (nI tc) (nI kn) st gn lr pc wa dy tr par ce ct ca kd sg mx wd rs rg mon lk mc mk mf mv ms cel trd cnt := by
        refine br_t (nI_pos' (by omega)) ⟨vp_in_nI c8 (by omega), ?_⟩
        rw [nI_clamp (by omega), cK.2]
        exact aY _ (nm_r (nI_1 k) p)
      have L : ∀ d t n, t + d = s → d + 1 < n → wY_settle_13 post J2 (nI k) (nI N) (nI cap) (nI Q) (nI CS) (nI now) (nI cc) (nI tc) (nI kn) st gn lr pc wa dy tr par ce ct ca kd sg mx wd rs rg mon lk mc mk mf mv ms cel trd cnt n (-1) (nI t) := by
        intro d
        induction d with
        | zero =>
          intro t n ht hn
          obtain ⟨m, rfl⟩ : ∃ m, n = m + 2 := ⟨n - 2, by omega⟩
          obtain rfl : t = s := ht
          refine br_f (nI_ge (b := 8) (by omega) (by omega)) (br_f am_n1le (yf _ _ _ _ t hs ?_))
          rw [hc]
          exact ⟨fun _ => E, fun _ => br_t (nI_pos' (by omega)) E⟩
        | succ d ih =>
          intro t n ht hn
          obtain ⟨m, rfl⟩ : ∃ m, n = m + 1 := ⟨n - 1, by omega⟩
          have z := ih (t + 1) m (by omega) (by omega)
          refine br_f (nI_ge (b := 8) (by omega) (by omega)) (br_f am_n1le (yf _ _ _ _ t (by omega) ?_))
          rw [mn t (by omega)]
          exact z
      exact L s 0 (s + 2) (by omega) (by omega)
  · have nf : ∀ s, s < 8 → (am_CL K par s).find? (fun x => decide (st x = 3)) = none := fun s hs => Classical.byContradiction fun z => any ⟨s, hs, z⟩
    refine Or.inl ⟨fun j hj h3 => ?_, fun post p => ⟨N + 1, ?_⟩, fun post J2 k p => ⟨9, ?_⟩⟩
    · have jK : j ∈ K := Classical.byContradiction fun z => (hKs.2 j hj z).2 h3
      obtain ⟨-, -, q, q1, q2, -⟩ := hKs.1 j jK
      have z := List.find?_eq_none.mp (nf q q1) j (am_CLm.mpr ⟨jK, q2⟩)
      exact z (decide_eq_true h3)
    · have L : ∀ d t n, t + d = N → d < n → wX_settleOne_2 post fl (nI N) (nI cap) (nI Q) (nI CS) (nI cc) (nI now) (nI tc) op oa ob oc st gn lr rg pc tr wt dl mc mk mf mv ms lm mon par ce ct ca sg mx wd cn cl rc rk tp tv cnt n (nI t) := by
        intro d
        induction d with
        | zero =>
          intro t n ht hn
          obtain ⟨m, rfl⟩ : ∃ m, n = m + 1 := ⟨n - 1, by omega⟩
          obtain rfl : t = N := ht
          exact br_t (Int32.le_refl _) p
        | succ d ih =>
          intro t n ht hn
          obtain ⟨m, rfl⟩ : ∃ m, n = m + 1 := ⟨n - 1, by omega⟩
          have z := ih (t + 1) m (by omega) (by omega)
          refine br_f (nI_ge (by omega) (by omega)) ⟨vp_in_nI (by omega) (by omega), ?_⟩
          rw [nI_clamp (by omega)]
          by_cases q : st t = 2
          · refine br_t q (xf _ t (by omega) q ?_)
            rw [am_f3_n _ 0 (nf t (by omega))]
            exact br_t am_n1lt (nm_r (nI_1 t) z)
          · exact br_f q (nm_r (nI_1 t) z)
      exact L N 0 (N + 1) (by omega) (by omega)
    · have L : ∀ d t n, t + d = 8 → d < n → wY_settle_13 post J2 (nI k) (nI N) (nI cap) (nI Q) (nI CS) (nI now) (nI cc) (nI tc) (nI kn) st gn lr pc wa dy tr par ce ct ca kd sg mx wd rs rg mon lk mc mk mf mv ms cel trd cnt n (-1) (nI t) := by
        intro d
        induction d with
        | zero =>
          intro t n ht hn
          obtain ⟨m, rfl⟩ : ∃ m, n = m + 1 := ⟨n - 1, by omega⟩
          obtain rfl : t = 8 := ht
          exact br_t (by decide) (br_f am_n1le p)
        | succ d ih =>
          intro t n ht hn
          obtain ⟨m, rfl⟩ : ∃ m, n = m + 1 := ⟨n - 1, by omega⟩
          have z := ih (t + 1) m (by omega) (by omega)
          refine br_f (nI_ge (b := 8) (by omega) (by omega)) (br_f am_n1le (yf _ _ _ _ t (by omega) ?_))
          rw [nf t (by omega)]
          exact z
      exact L 8 0 9 (by omega) (by omega)
end SE
theorem st_loop : ∀ (m : Nat) (K : List Nat) (u : SX) (v : SY), am_R K u v → xMu K u ≤ m → m ≤ 900 → ∃ K' u' v', am_R K' u' v' ∧ (∀ j, j < 8 → ¬ xSt u' j = 3) ∧ am_TU u u' ∧ (∀ j, j < 8 → ∀ g0, g0 ≤ 1000000 → xGn u j = nI g0 → am_tr m g0 (xSt u j) (xGn u' j) (xSt u' j)) ∧ (∀ (post : SX → Prop) n k, m + 2 ≤ n → k + m < 999 → post u' → wX_settle_4 post n 1 (nI k) u.1 u.2.1 u.2.2.1 u.2.2.2.1 u.2.2.2.2.1 u.2.2.2.2.2.1 u.2.2.2.2.2.2.1 u.2.2.2.2.2.2.2.1 u.2.2.2.2.2.2.2.2.1 u.2.2.2.2.2.2.2.2.2.1 u.2.2.2.2.2.2.2.2.2.2.1 u.2.2.2.2.2.2.2.2.2.2.2.1 u.2.2.2.2.2.2.2.2.2.2.2.2.1 u.2.2.2.2.2.2.2.2.2.2.2.2.2.1 u.2.2.2.2.2.2.2.2.2.2.2.2.2.2.1 u.2.2.2.2.2.2.2.2.2.2.2.2.2.2.2.1 u.2.2.2.2.2.2.2.2.2.2.2.2.2.2.2.2.1 u.2.2.2.2.2.2.2.2.2.2.2.2.2.2.2.2.2.1 u.2.2.2.2.2.2.2.2.2.2.2.2.2.2.2.2.2.2.1 u.2.2.2.2.2.2.2.2.2.2.2.2.2.2.2.2.2.2.2.1 u.2.2.2.2.2.2.2.2.2.2.2.2.2.2.2.2.2.2.2.2.1 u.2.2.2.2.2.2.2.2.2.2.2.2.2.2.2.2.2.2.2.2.2.1 u.2.2.2.2.2.2.2.2.2.2.2.2.2.2.2.2.2.2.2.2.2.2.1 u.2.2.2.2.2.2.2.2.2.2.2.2.2.2.2.2.2.2.2.2.2.2.2.1 u.2.2.2.2.2.2.2.2.2.2.2.2.2.2.2.2.2.2.2.2.2.2.2.2.1 u.2.2.2.2.2.2.2.2.2.2.2.2.2.2.2.2.2.2.2.2.2.2.2.2.2.1 u.2.2.2.2.2.2.2.2.2.2.2.2.2.2.2.2.2.2.2.2.2.2.2.2.2.2.1 u.2.2.2.2.2.2.2.2.2.2.2.2.2.2.2.2.2.2.2.2.2.2.2.2.2.2.2.1 u.2.2.2.2.2.2.2.2.2.2.2.2.2.2.2.2.2.2.2.2.2.2.2.2.2.2.2.2.1 u.2.2.2.2.2.2.2.2.2.2.2.2.2.2.2.2.2.2.2.2.2.2.2.2.2.2.2.2.2.1 u.2.2.2.2.2.2.2.2.2.2.2.2.2.2.2.2.2.2.2.2.2.2.2.2.2.2.2.2.2.2.1 u.2.2.2.2.2.2.2.2.2.2.2.2.2.2.2.2.2.2.2.2.2.2.2.2.2.2.2.2.2.2.2.1 u.2.2.2.2.2.2.2.2.2.2.2.2.2.2.2.2.2.2.2.2.2.2.2.2.2.2.2.2.2.2.2.2.1 u.2.2.2.2.2.2.2.2.2.2.2.2.2.2.2.2.2.2.2.2.2.2.2.2.2.2.2.2.2.2.2.2.2.1 u.2.2.2.2.2.2.2.2.2.2.2.2.2.2.2.2.2.2.2.2.2.2.2.2.2.2.2.2.2.2.2.2.2.2.1 u.2.2.2.2.2.2.2.2.2.2.2.2.2.2.2.2.2.2.2.2.2.2.2.2.2.2.2.2.2.2.2.2.2.2.2.1 u.2.2.2.2.2.2.2.2.2.2.2.2.2.2.2.2.2.2.2.2.2.2.2.2.2.2.2.2.2.2.2.2.2.2.2.2.1 u.2.2.2.2.2.2.2.2.2.2.2.2.2.2.2.2.2.2.2.2.2.2.2.2.2.2.2.2.2.2.2.2.2.2.2.2.2.1 u.2.2.2.2.2.2.2.2.2.2.2.2.2.2.2.2.2.2.2.2.2.2.2.2.2.2.2.2.2.2.2.2.2.2.2.2.2.2.1 u.2.2.2.2.2.2.2.2.2.2.2.2.2.2.2.2.2.2.2.2.2.2.2.2.2.2.2.2.2.2.2.2.2.2.2.2.2.2.2.1 u.2.2.2.2.2.2.2.2.2.2.2.2.2.2.2.2.2.2.2.2.2.2.2.2.2.2.2.2.2.2.2.2.2.2.2.2.2.2.2.2) ∧ (∀ (post : SY → Prop) n k, m + 2 ≤ n → k + m < 999 → post v' → wY_settle_2 post n (nI k) v.1 v.2.1 v.2.2.1 v.2.2.2.1 v.2.2.2.2.1 v.2.2.2.2.2.1 v.2.2.2.2.2.2.1 v.2.2.2.2.2.2.2.1 v.2.2.2.2.2.2.2.2.1 v.2.2.2.2.2.2.2.2.2.1 v.2.2.2.2.2.2.2.2.2.2.1 v.2.2.2.2.2.2.2.2.2.2.2.1 v.2.2.2.2.2.2.2.2.2.2.2.2.1 v.2.2.2.2.2.2.2.2.2.2.2.2.2.1 v.2.2.2.2.2.2.2.2.2.2.2.2.2.2.1 v.2.2.2.2.2.2.2.2.2.2.2.2.2.2.2.1 v.2.2.2.2.2.2.2.2.2.2.2.2.2.2.2.2.1 v.2.2.2.2.2.2.2.2.2.2.2.2.2.2.2.2.2.1 v.2.2.2.2.2.2.2.2.2.2.2.2.2.2.2.2.2.2.1 v.2.2.2.2.2.2.2.2.2.2.2.2.2.2.2.2.2.2.2.1 v.2.2.2.2.2.2.2.2.2.2.2.2.2.2.2.2.2.2.2.2.1 v.2.2.2.2.2.2.2.2.2.2.2.2.2.2.2.2.2.2.2.2.2.1 v.2.2.2.2.2.2.2.2.2.2.2.2.2.2.2.2.2.2.2.2.2.2.1 v.2.2.2.2.2.2.2.2.2.2.2.2.2.2.2.2.2.2.2.2.2.2.2.1 v.2.2.2.2.2.2.2.2.2.2.2.2.2.2.2.2.2.2.2.2.2.2.2.2.1 v.2.2.2.2.2.2.2.2.2.2.2.2.2.2.2.2.2.2.2.2.2.2.2.2.2.1 v.2.2.2.2.2.2.2.2.2.2.2.2.2.2.2.2.2.2.2.2.2.2.2.2.2.2.1 v.2.2.2.2.2.2.2.2.2.2.2.2.2.2.2.2.2.2.2.2.2.2.2.2.2.2.2.1 v.2.2.2.2.2.2.2.2.2.2.2.2.2.2.2.2.2.2.2.2.2.2.2.2.2.2.2.2.1 v.2.2.2.2.2.2.2.2.2.2.2.2.2.2.2.2.2.2.2.2.2.2.2.2.2.2.2.2.2.1 v.2.2.2.2.2.2.2.2.2.2.2.2.2.2.2.2.2.2.2.2.2.2.2.2.2.2.2.2.2.2.1 v.2.2.2.2.2.2.2.2.2.2.2.2.2.2.2.2.2.2.2.2.2.2.2.2.2.2.2.2.2.2.2.1 v.2.2.2.2.2.2.2.2.2.2.2.2.2.2.2.2.2.2.2.2.2.2.2.2.2.2.2.2.2.2.2.2.1 v.2.2.2.2.2.2.2.2.2.2.2.2.2.2.2.2.2.2.2.2.2.2.2.2.2.2.2.2.2.2.2.2.2.1 v.2.2.2.2.2.2.2.2.2.2.2.2.2.2.2.2.2.2.2.2.2.2.2.2.2.2.2.2.2.2.2.2.2.2) := by
  intro m
  induction m with
  | zero =>
    intro K u v R
    apply R
    intro N cap Q CS cc now tc kn fl op oa ob oc st gn lr rg pc tr wt dl mc mk mf mv lm mon par ce ct ca sg mx wd cn cl rc rk tp tv wa dy kd rs lk cel trd ms cnt I hm _
    have hn : now ≤ 1000 := I.1.2.2.2.2.2.2.2.2.2.1
    rw [xMu_e hn] at hm
    rcases ps_pass I with ⟨a, aX, aY⟩ | ⟨-, K', u', v', -, a1, -⟩
    · refine ⟨K, _, _, am_Ri I, a, ⟨⟨rfl, rfl, rfl⟩, fun _ _ z => z⟩, fun j hj g0 h0 e => Or.inl ⟨e, id⟩, fun post n k hn' hk p => ?_, fun post n k hn' hk p => ?_⟩
      · obtain ⟨n', rfl⟩ : ∃ n', n = n' + 2 := ⟨n - 2, by omega⟩
        refine br_f (nI_ge (b := 1000) (by omega) (by omega)) (br_f (by decide) (aX _ (nm_r (nI_1 k) ?_)))
        exact ⟨fun _ => p, fun _ => br_t rfl p⟩
      · obtain ⟨n', rfl⟩ : ∃ n', n = n' + 2 := ⟨n - 2, by omega⟩
        exact br_f (nI_ge (b := 1000) (by omega) (by omega)) (aY _ _ k p)
    · omega
  | succ m ih =>
    intro K u v R
    apply R
    intro N cap Q CS cc now tc kn fl op oa ob oc st gn lr rg pc tr wt dl mc mk mf mv lm mon par ce ct ca sg mx wd cn cl rc rk tp tv wa dy kd rs lk cel trd ms cnt I hm hm9
    have hn : now ≤ 1000 := I.1.2.2.2.2.2.2.2.2.2.1
    rw [xMu_e hn] at hm
    rcases ps_pass I with ⟨a, aX, aY⟩ | ⟨-, K1, u1, v1, R1, a1, a2, a3, aX, aY⟩
    · refine ⟨K, _, _, am_Ri I, a, ⟨⟨rfl, rfl, rfl⟩, fun _ _ z => z⟩, fun j hj g0 h0 e => Or.inl ⟨e, id⟩, fun post n k hn' hk p => ?_, fun post n k hn' hk p => ?_⟩
      · obtain ⟨n', rfl⟩ : ∃ n', n = n' + 2 := ⟨n - 2, by omega⟩
        refine br_f (nI_ge (b := 1000) (by omega) (by omega)) (br_f (by decide) (aX _ (nm_r (nI_1 k) ?_)))
        exact ⟨fun _ => p, fun _ => br_t rfl p⟩
      · obtain ⟨n', rfl⟩ : ∃ n', n = n' + 2 := ⟨n - 2, by omega⟩
        exact br_f (nI_ge (b := 1000) (by omega) (by omega)) (aY _ _ k p)
    · obtain ⟨K', u', v', R', b1, b2, b3, bX, bY⟩ := ih K1 u1 v1 R1 (by omega) (by omega)
      refine ⟨K', u', v', R', b1, ⟨⟨b2.1.1.trans a2.1.1, b2.1.2.1.trans a2.1.2.1, b2.1.2.2.trans a2.1.2.2⟩, fun i hi z => a2.2 i hi (b2.2 i hi z)⟩, fun j hj g0 h0 e => ?_, fun post n k hn' hk p => ?_, fun post n k hn' hk p => ?_⟩
      · have t := a3 j hj
        have e' : gn j = nI g0 := e
        rw [e'] at t
        exact am_tr_s (by omega) h0 t (fun a ha ea => b3 j hj a ha ea)
      · obtain ⟨n', rfl⟩ : ∃ n', n = n' + 1 := ⟨n - 1, by omega⟩
        refine br_f (nI_ge (b := 1000) (by omega) (by omega)) (br_f (by decide) (aX _ (nm_r (nI_1 k) ?_)))
        exact bX post n' (k + 1) (by omega) (by omega) p
      · obtain ⟨n', rfl⟩ : ∃ n', n = n' + 1 := ⟨n - 1, by omega⟩
        refine br_f (nI_ge (b := 1000) (by omega) (by omega)) (aY _ _ k ?_)
        exact bY post n' (k + 1) (by omega) (by omega) p
section SF
variable {N cap Q CS cc now tc kn : Nat} {fl : Int32} {op oa ob oc st gn lr rg pc tr wt dl mc mk mf mv lm mon par ce ct ca sg mx wd cn cl rc rk tp tv wa dy kd rs lk cel trd : Nat → Int32} {ms cnt : Nat → Int64}
theorem st_all {K : List Nat} (I : am_I K N cap Q CS cc now tc kn fl op oa ob oc st gn lr rg pc tr wt dl mc mk mf mv lm mon par ce ct ca sg mx wd cn cl rc rk tp tv wa dy kd rs lk cel trd ms cnt) : ∃ K' u' v', am_R K' u' v' ∧ (∀ j, j < 8 → ¬ xSt u' j = 3) ∧ am_T N Q now st u' ∧ (∀ j, j < 8 → ∀ g0, g0 ≤ 1000000 → gn j = nI g0 → am_tr 900 g0 (st j) (xGn u' j) (xSt u' j)) ∧ (∀ post : SX → Prop, post u' → wpX_settle post (fl, nI N, nI cap, nI Q, nI CS, nI cc, nI now, nI tc, op, oa, ob, oc, st, gn, lr, rg, pc, tr, wt, dl, mc, mk, mf, mv, ms, lm, mon, par, ce, ct, ca, sg, mx, wd, cn, cl, rc, rk, tp, tv, cnt)) ∧ (∀ post : SY → Prop, post v' → wpY_settle post (nI N, nI cap, nI Q, nI CS, nI now, nI cc, nI tc, nI kn, st, gn, lr, pc, wa, dy, tr, par, ce, ct, ca, kd, sg, mx, wd, rs, rg, mon, lk, mc, mk, mf, mv, ms, cel, trd, cnt)) := by
  have hn : now ≤ 1000 := I.1.2.2.2.2.2.2.2.2.2.1
  have kl8 : K.length ≤ 8 := am_K8 I.2.2.2.2.2.2.2.2.2.1 I.2.2.2.2.2.2.2.2.2.2.1
  have hm : xMu K (fl, nI N, nI cap, nI Q, nI CS, nI cc, nI now, nI tc, op, oa, ob, oc, st, gn, lr, rg, pc, tr, wt, dl, mc, mk, mf, mv, ms, lm, mon, par, ce, ct, ca, sg, mx, wd, cn, cl, rc, rk, tp, tv, cnt) ≤ 900 := by
    rw [xMu_e hn]
    unfold am_mu
    have := am_sm_c (f := fun s => if st s = 2 then 6 - am_rec now wd rc rk s else 0) (c := 6) 8 (fun i => by
      show (if st i = 2 then _ else _) ≤ 6
      by_cases q : st i = 2
      · rw [if_pos q]; omega
      · rw [if_neg q]; omega)
    omega
  obtain ⟨K', u', v', R', b1, b2, b3, bX, bY⟩ := st_loop 900 K _ _ (am_Ri I) hm (Nat.le_refl _)
  exact ⟨K', u', v', R', b1, b2, b3, fun post p => ⟨902, bX post 902 0 (by omega) (by omega) p⟩, fun post p => ⟨902, bY post 902 0 (by omega) (by omega) p⟩⟩
/-- nothing to settle -/
theorem st_nf {K : List Nat} (I : am_I K N cap Q CS cc now tc kn fl op oa ob oc st gn lr rg pc tr wt dl mc mk mf mv lm mon par ce ct ca sg mx wd cn cl rc rk tp tv wa dy kd rs lk cel trd ms cnt) (nf : ∀ j, j < 8 → ¬ st j = 3) : (∀ post : SX → Prop, post (fl, nI N, nI cap, nI Q, nI CS, nI cc, nI now, nI tc, op, oa, ob, oc, st, gn, lr, rg, pc, tr, wt, dl, mc, mk, mf, mv, ms, lm, mon, par, ce, ct, ca, sg, mx, wd, cn, cl, rc, rk, tp, tv, cnt) → wpX_settle post (fl, nI N, nI cap, nI Q, nI CS, nI cc, nI now, nI tc, op, oa, ob, oc, st, gn, lr, rg, pc, tr, wt, dl, mc, mk, mf, mv, ms, lm, mon, par, ce, ct, ca, sg, mx, wd, cn, cl, rc, rk, tp, tv, cnt)) ∧ (∀ post : SY → Prop, post (nI N, nI cap, nI Q, nI CS, nI now, nI cc, nI tc, nI kn, st, gn, lr, pc, wa, dy, tr, par, ce, ct, ca, kd, sg, mx, wd, rs, rg, mon, lk, mc, mk, mf, mv, ms, cel, trd, cnt) → wpY_settle post (nI N, nI cap, nI Q, nI CS, nI now, nI cc, nI tc, nI kn, st, gn, lr, pc, wa, dy, tr, par, ce, ct, ca, kd, sg, mx, wd, rs, rg, mon, lk, mc, mk, mf, mv, ms, cel, trd, cnt)) := by
  rcases ps_pass I with ⟨-, aX, aY⟩ | ⟨⟨j, hj, h3⟩, -⟩
  · refine ⟨fun post p => ⟨2, ?_⟩, fun post p => ⟨1, ?_⟩⟩
    · refine br_f (by decide) (br_f (by decide) (aX _ (nm_r (nI_1 0) ?_)))
      exact ⟨fun _ => p, fun _ => br_t rfl p⟩
    · exact br_f (by decide) (aY _ _ 0 p)
  · exact absurd h3 (nf j hj)
end SF
end
section
/-! 27: links and monitors made and cut -/
section RL
variable {N cap Q CS cc now tc kn : Nat} {fl : Int32} {op oa ob oc st gn lr rg pc tr wt dl mc mk mf mv lm mon par ce ct ca sg mx wd cn cl rc rk tp tv wa dy kd rs lk cel trd : Nat → Int32} {ms cnt : Nat → Int64}
theorem lk_I {K : List Nat} {a b : Nat} (I : am_I K N cap Q CS cc now tc kn fl op oa ob oc st gn lr rg pc tr wt dl mc mk mf mv lm mon par ce ct ca sg mx wd cn cl rc rk tp tv wa dy kd rs lk cel trd ms cnt) (ha : a < 8) (hb : b < 8) (ne : a ≠ b) (sa : st a = 1) (sb : st b = 1) : am_I K N cap Q CS cc now tc kn fl op oa ob oc st gn lr rg pc tr wt dl mc mk mf mv (upd (upd lm a (lm a ||| am_one b)) b (lm b ||| am_one a)) mon par ce ct ca sg mx wd cn cl rc rk tp tv wa dy kd rs (upd (upd lk (a * 8 + b) 1) (b * 8 + a) 1) cel trd ms cnt := by
  obtain ⟨h1, h2, h3, h4, h5, h6, h7, ⟨L, l1, l2, l3, l4⟩, h9⟩ := I
  refine ⟨h1, h2, h3, h4, h5, h6, h7, ⟨fun t j => L t j || decide (t = a ∧ j = b) || decide (t = b ∧ j = a), fun t j ht hj => ?_, fun t j ht hj => ?_, fun t j ht hj => ?_, fun t j ht hj e => ?_⟩, h9⟩
  · show bt (upd (upd lm a (lm a ||| am_one b)) b (lm b ||| am_one a) t) j = (L t j || decide (t = a ∧ j = b) || decide (t = b ∧ j = a))
    by_cases e : t = b
    · subst e
      rw [pk_us, am_orb (by omega), l1 t j ht hj, decide_eq_false (p := t = a ∧ j = t) (fun z => ne z.1.symm), Bool.or_false]
      exact congrArg _ (decide_eq_decide.mpr ⟨fun z => ⟨rfl, z⟩, fun z => z.2⟩)
    · rw [pk_un e]
      by_cases e2 : t = a
      · subst e2
        rw [pk_us, am_orb (by omega), l1 t j ht hj, decide_eq_false (p := t = b ∧ j = t) (fun z => e z.1), Bool.or_false]
        exact congrArg _ (decide_eq_decide.mpr ⟨fun z => ⟨rfl, z⟩, fun z => z.2⟩)
      · rw [pk_un e2, l1 t j ht hj, decide_eq_false (p := t = a ∧ j = b) (fun z => e2 z.1), decide_eq_false (p := t = b ∧ j = a) (fun z => e z.1), Bool.or_false, Bool.or_false]
  · show upd (upd lk (a * 8 + b) 1) (b * 8 + a) 1 (t * 8 + j) = am_b (L t j || decide (t = a ∧ j = b) || decide (t = b ∧ j = a))
    by_cases e : t = b ∧ j = a
    · rw [e.1, e.2, pk_us, decide_eq_true (p := b = b ∧ a = a) ⟨rfl, rfl⟩, Bool.or_true]; rfl
    · rw [pk_un (by omega), decide_eq_false e, Bool.or_false]
      by_cases e2 : t = a ∧ j = b
      · rw [e2.1, e2.2, pk_us, decide_eq_true (p := a = a ∧ b = b) ⟨rfl, rfl⟩, Bool.or_true]; rfl
      · rw [pk_un (by omega), decide_eq_false e2, Bool.or_false]; exact l2 t j ht hj
  · show (L t j || decide (t = a ∧ j = b) || decide (t = b ∧ j = a)) = (L j t || decide (j = a ∧ t = b) || decide (j = b ∧ t = a))
    rw [l3 t j ht hj, Bool.or_assoc, Bool.or_assoc, Bool.or_comm (decide (t = a ∧ j = b))]
    refine congrArg _ ?_
    rw [show decide (t = b ∧ j = a) = decide (j = a ∧ t = b) from decide_eq_decide.mpr ⟨fun z => ⟨z.2, z.1⟩, fun z => ⟨z.2, z.1⟩⟩, show decide (t = a ∧ j = b) = decide (j = b ∧ t = a) from decide_eq_decide.mpr ⟨fun z => ⟨z.2, z.1⟩, fun z => ⟨z.2, z.1⟩⟩]
  · rw [Bool.or_eq_true, Bool.or_eq_true] at e
    rcases e with (e | e) | e
    · exact l4 t j ht hj e
    · have q := of_decide_eq_true e
      rw [q.1, q.2]; exact ⟨sa, sb, ne⟩
    · have q := of_decide_eq_true e
      rw [q.1, q.2]; exact ⟨sb, sa, ne.symm⟩
theorem ul_I {K : List Nat} {a b : Nat} (I : am_I K N cap Q CS cc now tc kn fl op oa ob oc st gn lr rg pc tr wt dl mc mk mf mv lm mon par ce ct ca sg mx wd cn cl rc rk tp tv wa dy kd rs lk cel trd ms cnt) (ha : a < 8) (hb : b < 8) (ne : a ≠ b) : am_I K N cap Q CS cc now tc kn fl op oa ob oc st gn lr rg pc tr wt dl mc mk mf mv (upd (upd lm a (lm a &&& (am_one b ^^^ (-1)))) b (lm b &&& (am_one a ^^^ (-1)))) mon par ce ct ca sg mx wd cn cl rc rk tp tv wa dy kd rs (upd (upd lk (a * 8 + b) 0) (b * 8 + a) 0) cel trd ms cnt := by
  obtain ⟨h1, h2, h3, h4, h5, h6, h7, ⟨L, l1, l2, l3, l4⟩, h9⟩ := I
  refine ⟨h1, h2, h3, h4, h5, h6, h7, ⟨fun t j => L t j && !(decide (t = a ∧ j = b) || decide (t = b ∧ j = a)), fun t j ht hj => ?_, fun t j ht hj => ?_, fun t j ht hj => ?_, fun t j ht hj e => ?_⟩, h9⟩
  · show bt (upd (upd lm a (lm a &&& (am_one b ^^^ (-1)))) b (lm b &&& (am_one a ^^^ (-1))) t) j = (L t j && !(decide (t = a ∧ j = b) || decide (t = b ∧ j = a)))
    by_cases e : t = b
    · subst e
      rw [pk_us, am_andn (by omega), l1 t j ht hj, decide_eq_false (p := t = a ∧ j = t) (fun z => ne z.1.symm), Bool.false_or]
      exact congrArg (fun x => L t j && !x) (decide_eq_decide.mpr ⟨fun z => ⟨rfl, z⟩, fun z => z.2⟩)
    · rw [pk_un e]
      by_cases e2 : t = a
      · subst e2
        rw [pk_us, am_andn (by omega), l1 t j ht hj, decide_eq_false (p := t = b ∧ j = t) (fun z => e z.1), Bool.or_false]
        exact congrArg (fun x => L t j && !x) (decide_eq_decide.mpr ⟨fun z => ⟨rfl, z⟩, fun z => z.2⟩)
      · rw [pk_un e2, l1 t j ht hj, decide_eq_false (p := t = a ∧ j = b) (fun z => e2 z.1), decide_eq_false (p := t = b ∧ j = a) (fun z => e z.1)]
        exact (Bool.and_true _).symm
  · show upd (upd lk (a * 8 + b) 0) (b * 8 + a) 0 (t * 8 + j) = am_b (L t j && !(decide (t = a ∧ j = b) || decide (t = b ∧ j = a)))
    by_cases e : t = b ∧ j = a
    · rw [e.1, e.2, pk_us, decide_eq_true (p := b = b ∧ a = a) ⟨rfl, rfl⟩, Bool.or_true]
      show (0 : Int32) = am_b (L b a && false)
      rw [Bool.and_false]; rfl
    · rw [pk_un (by omega), decide_eq_false e, Bool.or_false]
      by_cases e2 : t = a ∧ j = b
      · rw [e2.1, e2.2, pk_us, decide_eq_true (p := a = a ∧ b = b) ⟨rfl, rfl⟩]
        show (0 : Int32) = am_b (L a b && false)
        rw [Bool.and_false]; rfl
      · rw [pk_un (by omega), decide_eq_false e2]
        show lk (t * 8 + j) = am_b (L t j && true)
        rw [Bool.and_true]; exact l2 t j ht hj
  · show (L t j && !(decide (t = a ∧ j = b) || decide (t = b ∧ j = a))) = (L j t && !(decide (j = a ∧ t = b) || decide (j = b ∧ t = a)))
    rw [l3 t j ht hj, Bool.or_comm (decide (t = a ∧ j = b)), show decide (t = b ∧ j = a) = decide (j = a ∧ t = b) from decide_eq_decide.mpr ⟨fun z => ⟨z.2, z.1⟩, fun z => ⟨z.2, z.1⟩⟩, show decide (t = a ∧ j = b) = decide (j = b ∧ t = a) from decide_eq_decide.mpr ⟨fun z => ⟨z.2, z.1⟩, fun z => ⟨z.2, z.1⟩⟩]
  · rw [Bool.and_eq_true] at e
    exact l4 t j ht hj e.1
theorem mo_I {K : List Nat} {a b k : Nat} (I : am_I K N cap Q CS cc now tc kn fl op oa ob oc st gn lr rg pc tr wt dl mc mk mf mv lm mon par ce ct ca sg mx wd cn cl rc rk tp tv wa dy kd rs lk cel trd ms cnt) (ha : a < 8) (hb : b < 8) (hk : k ≤ 3) (h : k ≠ 0 → st a = 1 ∧ (st b = 1 ∨ st b = 2)) : am_I K N cap Q CS cc now tc kn fl op oa ob oc st gn lr rg pc tr wt dl mc mk mf mv lm (upd mon (a * 8 + b) (nI k)) par ce ct ca sg mx wd cn cl rc rk tp tv wa dy kd rs lk cel trd ms cnt := by
  obtain ⟨h1, h2, h3, h4, h5, h6, h7, h8, h9, h10⟩ := I
  refine ⟨h1, h2, h3, h4, h5, h6, h7, h8, fun w t hw ht => ?_, h10⟩
  by_cases e : w = a ∧ t = b
  · rw [e.1, e.2]
    exact ⟨k, hk, pk_us, h⟩
  · rw [pk_un (by omega)]; exact h9 w t hw ht
theorem xr_mk {post : Int32 → SX → Prop} {a : Nat} {pB : Int32} (ha : a < 8) (hN : N ≤ 8) (h0 : gn a * 8 + nI a = pB → post 1 (fl, nI N, nI cap, nI Q, nI CS, nI cc, nI now, nI tc, op, oa, ob, oc, st, gn, lr, rg, pc, tr, wt, dl, mc, mk, mf, mv, ms, lm, mon, par, ce, ct, ca, sg, mx, wd, cn, cl, rc, rk, tp, tv, cnt)) (h1 : ¬ gn a * 8 + nI a = pB → ∀ b, am_fw N st gn pB = some b → a ≠ b → post 1 (fl, nI N, nI cap, nI Q, nI CS, nI cc, nI now, nI tc, op, oa, ob, oc, st, gn, lr, rg, pc, tr, wt, dl, mc, mk, mf, mv, ms, upd (upd lm a (lm a ||| am_one b)) b (lm b ||| am_one a), mon, par, ce, ct, ca, sg, mx, wd, cn, cl, rc, rk, tp, tv, cnt)) (h2 : ¬ gn a * 8 + nI a = pB → am_fw N st gn pB = none → wpX_deliverSignal (fun _ u => post 2 u) (fl, nI N, nI cap, nI Q, nI CS, nI cc, nI now, nI tc, op, oa, ob, oc, st, gn, lr, rg, pc, tr, wt, dl, mc, mk, mf, mv, ms, lm, mon, par, ce, ct, ca, sg, mx, wd, cn, cl, rc, rk, tp, tv, cnt) (gn a * 8 + nI a) pB 4) : wpX_makeLink post (fl, nI N, nI cap, nI Q, nI CS, nI cc, nI now, nI tc, op, oa, ob, oc, st, gn, lr, rg, pc, tr, wt, dl, mc, mk, mf, mv, ms, lm, mon, par, ce, ct, ca, sg, mx, wd, cn, cl, rc, rk, tp, tv, cnt) (nI a) pB := by
  unfold wpX_makeLink
  refine xv_pid ha ?_
  refine br_c h0 fun c => ?_
  refine xv_worker hN ?_
  refine am_oge (fun p e => by have := (am_fw_some e).2.1; omega) (fun b e => ?_) (fun e => h2 c e)
  obtain ⟨-, b8, -, be⟩ := am_fw_some e
  have ne : a ≠ b := fun z => c (by rw [z]; exact be)
  have i1 : vp_in (nI a) 8 := vp_in_nI ha (by omega)
  have e1 : (nI a).toNatClampNeg = a := nI_clamp (by omega)
  have i2 : vp_in (nI b) 8 := vp_in_nI b8 (by omega)
  have e2 : (nI b).toNatClampNeg = b := nI_clamp (by omega)
  rw [e]
  refine ⟨i1, i1, nm_r (e' := upd lm a (lm a ||| am_one b)) (by rw [e1]; rfl) ⟨i2, i2, nm_r (e' := upd (upd lm a (lm a ||| am_one b)) b (lm b ||| am_one a)) ?_ (h1 c b e ne)⟩⟩
  show upd _ (nI b).toNatClampNeg (upd lm a (lm a ||| am_one b) (nI b).toNatClampNeg ||| am_one a) = _
  rw [e2, pk_un ne.symm]
end RL
end
section
/-! 28: relate -/
theorem am_fw_s {N : Nat} {st gn : Nat → Int32} {p : Int32} {y : Nat} (e : am_fd N st gn p = some y) : am_fw N st gn p = if st y = 1 then some y else none := by rw [am_fw_fd, e]
theorem am_fw_n {N : Nat} {st gn : Nat → Int32} {p : Int32} (e : am_fd N st gn p = none) : am_fw N st gn p = none := by rw [am_fw_fd, e]
theorem am_10 : ¬ (1 : Int32) = 0 := by decide
section R2
variable {N cap Q CS cc now tc kn : Nat} {fl : Int32} {op oa ob oc st gn lr rg pc tr wt dl mc mk mf mv lm mon par ce ct ca sg mx wd cn cl rc rk tp tv wa dy kd rs lk cel trd : Nat → Int32} {ms cnt : Nat → Int64}
theorem yr_pre {post : Int32 → SY → Prop} {w a : Nat} {pA pB : Int32} (hN : N ≤ 8) (hw : w ≤ 3) (ha : am_fw N st gn pA = some a) (h : wY_relate_55 post (nI w) pA pB (nI a) (am_o (am_fd N st gn pB)) (am_b (am_fw N st gn pB).isSome) (nI N) (nI cap) (nI Q) (nI CS) (nI now) (nI cc) (nI tc) (nI kn) st gn lr pc wa dy tr par ce ct ca kd sg mx wd rs rg mon lk mc mk mf mv ms cel trd cnt) : wpY_relate post (nI N, nI cap, nI Q, nI CS, nI now, nI cc, nI tc, nI kn, st, gn, lr, pc, wa, dy, tr, par, ce, ct, ca, kd, sg, mx, wd, rs, rg, mon, lk, mc, mk, mf, mv, ms, cel, trd, cnt) (nI w) pA pB := by
  have a8 := (am_fw_some ha).2.1
  unfold wpY_relate
  refine br_f (nI_pos (by omega)) (br_t (nI_le (b := 3) hw (by omega)) (br_t rfl ?_))
  refine yv_worker hN ?_
  refine yv_live hN ?_
  rw [ha]
  refine br_t (nI_pos' (by omega)) ?_
  cases e : am_fd N st gn pB with
  | none =>
    rw [e, am_fw_n e] at h
    exact br_t am_n1lt h
  | some y =>
    rw [e, am_fw_s e] at h
    have y8 := (am_fd_some e).2.1
    refine br_f (nI_pos (by omega)) ⟨vp_in_nI y8 (by omega), ?_⟩
    have ey : (am_o (some y)).toNatClampNeg = y := nI_clamp (by omega)
    rw [ey]
    by_cases c : st y = 1
    · rw [if_pos c] at h
      exact br_t c h
    · rw [if_neg c] at h
      exact br_f c h
theorem rl_from {K : List Nat} {a w : Nat} {pB : Int32} (I : am_I K N cap Q CS cc now tc kn fl op oa ob oc st gn lr rg pc tr wt dl mc mk mf mv lm mon par ce ct ca sg mx wd cn cl rc rk tp tv wa dy kd rs lk cel trd ms cnt) (ha : a < N) (h1 : st a = 1) (hw : w ≤ 3) : ∃ (r : Int32) (K1 : List Nat) (u1 : SX) (v1 : SY), am_R K1 u1 v1 ∧ am_T N Q now st u1 ∧ (∀ post : Int32 → SX → Prop, post r u1 → wpX_relateFrom post (fl, nI N, nI cap, nI Q, nI CS, nI cc, nI now, nI tc, op, oa, ob, oc, st, gn, lr, rg, pc, tr, wt, dl, mc, mk, mf, mv, ms, lm, mon, par, ce, ct, ca, sg, mx, wd, cn, cl, rc, rk, tp, tv, cnt) (nI w) (nI a) pB) ∧ ((xSt u1 = st ∧ ∀ post : Int32 → SY → Prop, post r v1 → wpY_relate post (nI N, nI cap, nI Q, nI CS, nI now, nI cc, nI tc, nI kn, st, gn, lr, pc, wa, dy, tr, par, ce, ct, ca, kd, sg, mx, wd, rs, rg, mon, lk, mc, mk, mf, mv, ms, cel, trd, cnt) (nI w) (gn a * 8 + nI a) pB) ∨ (∀ post : Int32 → SY → Prop, wpY_settle (fun v => post r v) v1 → wpY_relate post (nI N, nI cap, nI Q, nI CS, nI now, nI cc, nI tc, nI kn, st, gn, lr, pc, wa, dy, tr, par, ce, ct, ca, kd, sg, mx, wd, rs, rg, mon, lk, mc, mk, mf, mv, ms, cel, trd, cnt) (nI w) (gn a * 8 + nI a) pB)) := by
  have hN : N ≤ 8 := I.1.2.1
  have a8 : a < 8 := by omega
  obtain ⟨ga, ga1, ga2⟩ := I.2.2.2.2.1 a a8
  have fa : am_fw N st gn (gn a * 8 + nI a) = some a := am_fw_of ha a8 h1 ga2 ga1
  have fda : am_fd N st gn (gn a * 8 + nI a) = some a := am_fd_of ha a8 (Or.inl h1) ga2 ga1
  have i1 : vp_in (nI a) 8 := vp_in_nI a8 (by omega)
  have e1 : (nI a).toNatClampNeg = a := nI_clamp (by omega)
  have L := I.2.2.2.2.2.2.2.1
  have MO := I.2.2.2.2.2.2.2.2.1
  rcases (by omega : w = 0 ∨ w = 1 ∨ w = 2 ∨ w = 3) with rfl | rfl | rfl | rfl
  · -- link
    by_cases c : gn a * 8 + nI a = pB
    · refine ⟨1, K, _, _, am_Ri I, ⟨⟨rfl, rfl, rfl⟩, fun i _ z => z⟩, fun post p => ?_, Or.inl ⟨rfl, fun post p => yr_pre hN hw fa ?_⟩⟩
      · exact br_f (by decide) (br_f (by decide) (br_t rfl (xr_mk a8 hN (fun _ => p) (fun z => absurd c z) (fun z => absurd c z))))
      · rw [← c, fda]
        exact br_t rfl (br_t rfl p)
    · cases e : am_fw N st gn pB with
      | some b =>
        obtain ⟨bN, b8, b1, be⟩ := am_fw_some e
        have ne : a ≠ b := fun z => c (by rw [z]; exact be)
        obtain ⟨gb, gb1, gb2⟩ := I.2.2.2.2.1 b b8
        have fdb : am_fd N st gn pB = some b := by rw [← be]; exact am_fd_of bN b8 (Or.inl b1) gb2 gb1
        refine ⟨1, K, _, _, am_Ri (lk_I I a8 b8 ne h1 b1), ⟨⟨rfl, rfl, rfl⟩, fun i _ z => z⟩, fun post p => ?_, Or.inl ⟨rfl, fun post p => yr_pre hN hw fa ?_⟩⟩
        · refine br_f (by decide) (br_f (by decide) (br_t rfl (xr_mk a8 hN (fun z => absurd z c) (fun _ b' e' _ => ?_) (fun _ z => ?_))))
          · rw [e] at e'
            cases e'
            exact p
          · rw [e] at z; exact absurd z (by simp)
        · rw [fdb, e]
          have e3 : (nI a * 8 + nI b).toNatClampNeg = a * 8 + b := by rw [am_8, nI_clamp (by omega)]
          have e4 : (nI b * 8 + nI a).toNatClampNeg = b * 8 + a := by rw [am_8, nI_clamp (by omega)]
          refine br_t rfl (br_f (fun z => ne (am_im z (by omega) (by omega))) (br_f am_10 ⟨pk_in (a * 8 + b) 64 (by omega) (am_8 a b), nm_r (e' := upd lk (a * 8 + b) 1) ?_ ⟨pk_in (b * 8 + a) 64 (by omega) (am_8 b a), nm_r (e' := upd (upd lk (a * 8 + b) 1) (b * 8 + a) 1) ?_ p⟩⟩))
          · show upd lk (nI a * 8 + nI b).toNatClampNeg _ = _
            rw [e3, am_vb1]
          · show upd _ (nI b * 8 + nI a).toNatClampNeg _ = _
            rw [e4, am_vb1]
      | none =>
        obtain ⟨r0, K1, u1, v1, R, t, aX, aY⟩ := ds_sig (p := gn a * 8 + nI a) (fr := pB) (r := 4) I
        refine ⟨2, K1, u1, v1, R, t, fun post p => ?_, Or.inr fun post p => yr_pre hN hw fa ?_⟩
        · refine br_f (by decide) (br_f (by decide) (br_t rfl (xr_mk a8 hN (fun z => absurd z c) (fun _ b' e' _ => ?_) (fun _ _ => aX _ p))))
          rw [e] at e'; exact absurd e' (by simp)
        · rw [e]
          refine br_t rfl (br_f (fun z => ?_) (br_t rfl (aY _ p)))
          cases q : am_fd N st gn pB with
          | none => rw [q] at z; exact am_ne1 (by omega) z
          | some y =>
            rw [q] at z
            obtain ⟨-, y8, -, ye⟩ := am_fd_some q
            have : a = y := am_im z (by omega) (by omega)
            rw [← this] at ye
            exact c ye
  · -- unlink
    obtain ⟨LL, l1, l2, l3, l4⟩ := L
    cases e : am_fw N st gn pB with
    | none =>
      refine ⟨0, K, _, _, am_Ri I, ⟨⟨rfl, rfl, rfl⟩, fun i _ z => z⟩, fun post p => ?_, Or.inl ⟨rfl, fun post p => yr_pre hN hw fa ?_⟩⟩
      · refine br_f (by decide) (br_f (by decide) (br_f (by decide) (br_t rfl ?_)))
        unfold wpX_cutLink
        refine xv_worker hN ?_
        rw [e]; exact br_t am_n1lt p
      · rw [e]; exact br_f (by decide) (br_t rfl (br_t rfl p))
    | some b =>
      obtain ⟨bN, b8, b1, be⟩ := am_fw_some e
      obtain ⟨gb, gb1, gb2⟩ := I.2.2.2.2.1 b b8
      have fdb : am_fd N st gn pB = some b := by rw [← be]; exact am_fd_of bN b8 (Or.inl b1) gb2 gb1
      have i2 : vp_in (nI b) 8 := vp_in_nI b8 (by omega)
      have e2 : (nI b).toNatClampNeg = b := nI_clamp (by omega)
      have e3 : (nI a * 8 + nI b).toNatClampNeg = a * 8 + b := by rw [am_8, nI_clamp (by omega)]
      have e4 : (nI b * 8 + nI a).toNatClampNeg = b * 8 + a := by rw [am_8, nI_clamp (by omega)]
      cases q : LL a b with
      | false =>
        refine ⟨0, K, _, _, am_Ri I, ⟨⟨rfl, rfl, rfl⟩, fun i _ z => z⟩, fun post p => ?_, Or.inl ⟨rfl, fun post p => yr_pre hN hw fa ?_⟩⟩
        · refine br_f (by decide) (br_f (by decide) (br_f (by decide) (br_t rfl ?_)))
          unfold wpX_cutLink
          refine xv_worker hN ?_
          rw [e]
          refine br_f (nI_pos (by omega)) ⟨i1, ?_⟩
          rw [e1]
          refine xv_has (j := b) (by omega) ?_
          rw [l1 a b a8 b8, q]
          exact br_t rfl p
        · rw [fdb, e]
          refine br_f (by decide) (br_t rfl (br_f am_10 ⟨pk_in (a * 8 + b) 64 (by omega) (am_8 a b), br_t ?_ p⟩))
          show lk (nI a * 8 + nI b).toNatClampNeg = 0
          rw [e3, l2 a b a8 b8, q]; rfl
      | true =>
        have ne := (l4 a b a8 b8 q).2.2
        refine ⟨1, K, _, _, am_Ri (ul_I I a8 b8 ne), ⟨⟨rfl, rfl, rfl⟩, fun i _ z => z⟩, fun post p => ?_, Or.inl ⟨rfl, fun post p => yr_pre hN hw fa ?_⟩⟩
        · refine br_f (by decide) (br_f (by decide) (br_f (by decide) (br_t rfl ?_)))
          unfold wpX_cutLink
          refine xv_worker hN ?_
          rw [e]
          refine br_f (nI_pos (by omega)) ⟨i1, ?_⟩
          rw [e1]
          refine xv_has (j := b) (by omega) ?_
          rw [l1 a b a8 b8, q]
          refine br_f (by decide) ⟨i1, i1, nm_e ⟨i2, i2, nm_r (e' := upd (upd lm a (lm a &&& (am_one b ^^^ (-1)))) b (lm b &&& (am_one a ^^^ (-1)))) ?_ p⟩⟩
          show upd _ (nI b).toNatClampNeg (upd lm a (lm a &&& (am_one b ^^^ (-1))) (nI b).toNatClampNeg &&& (am_one a ^^^ (-1))) = _
          rw [e2, pk_un ne.symm]
          rfl
        · rw [fdb, e]
          refine br_f (by decide) (br_t rfl (br_f am_10 ⟨pk_in (a * 8 + b) 64 (by omega) (am_8 a b), br_f ?_ ⟨pk_in (a * 8 + b) 64 (by omega) (am_8 a b), nm_r (e' := upd lk (a * 8 + b) 0) ?_ ⟨pk_in (b * 8 + a) 64 (by omega) (am_8 b a), nm_r (e' := upd (upd lk (a * 8 + b) 0) (b * 8 + a) 0) ?_ p⟩⟩⟩))
          · show ¬ lk (nI a * 8 + nI b).toNatClampNeg = 0
            rw [e3, l2 a b a8 b8, q]; decide
          · show upd lk (nI a * 8 + nI b).toNatClampNeg _ = _
            rw [e3, am_vb0]
          · show upd _ (nI b * 8 + nI a).toNatClampNeg _ = _
            rw [e4, am_vb0]
  · -- monitor
    by_cases c : gn a * 8 + nI a = pB
    · refine ⟨0, K, _, _, am_Ri I, ⟨⟨rfl, rfl, rfl⟩, fun i _ z => z⟩, fun post p => ?_, Or.inl ⟨rfl, fun post p => yr_pre hN hw fa ?_⟩⟩
      · refine br_f (by decide) (br_f (by decide) (br_f (by decide) (br_f (by decide) (br_t rfl ?_))))
        unfold wpX_makeMonitor
        refine xv_pid a8 ?_
        exact br_t c p
      · rw [← c, fda]
        exact br_f (by decide) (br_f (by decide) (br_t rfl (br_t rfl p)))
    · cases e : am_fd N st gn pB with
      | none =>
        obtain ⟨n, n1, n2, -⟩ := I.2.2.2.2.2.1 a a8
        have I' : am_I K N cap Q CS cc now tc kn fl op oa ob oc st gn lr rg pc tr wt dl ((am_pl cap a 3 pB 4 (am_ct 5 (am_ct 4 (mc, mk, mf, mv, ms, cnt)))).1) ((am_pl cap a 3 pB 4 (am_ct 5 (am_ct 4 (mc, mk, mf, mv, ms, cnt)))).2.1) ((am_pl cap a 3 pB 4 (am_ct 5 (am_ct 4 (mc, mk, mf, mv, ms, cnt)))).2.2.1) ((am_pl cap a 3 pB 4 (am_ct 5 (am_ct 4 (mc, mk, mf, mv, ms, cnt)))).2.2.2.1) lm mon par ce ct ca sg mx wd cn cl rc rk tp tv wa dy kd rs lk cel trd ((am_pl cap a 3 pB 4 (am_ct 5 (am_ct 4 (mc, mk, mf, mv, ms, cnt)))).2.2.2.2.1) ((am_pl cap a 3 pB 4 (am_ct 5 (am_ct 4 (mc, mk, mf, mv, ms, cnt)))).2.2.2.2.2) := pl_I (m := am_ct 5 (am_ct 4 (mc, mk, mf, mv, ms, cnt))) I a8 h1
        refine ⟨2, K, _, _, am_Ri I', ⟨⟨rfl, rfl, rfl⟩, fun i _ z => z⟩, fun post p => ?_, Or.inl ⟨rfl, fun post p => yr_pre hN hw fa ?_⟩⟩
        · refine br_f (by decide) (br_f (by decide) (br_f (by decide) (br_f (by decide) (br_t rfl ?_))))
          unfold wpX_makeMonitor
          refine xv_pid a8 ?_
          refine br_f c ?_
          refine xv_live hN ?_
          rw [e]
          exact br_f am_n1le (nm_e (nm_e (xp_place (m := am_ct 5 (am_ct 4 (mc, mk, mf, mv, ms, cnt))) a8 n2 n1 I.1.2.2.2.1 (fun _ _ => p))))
        · rw [e]
          exact br_f (by decide) (br_f (by decide) (br_t rfl (br_f (am_ne1 (by omega)) (br_t am_n1lt (nm_e (br_t am_n1lt (nm_e (yp_place (m := am_ct 5 (am_ct 4 (mc, mk, mf, mv, ms, cnt))) a8 n2 n1 I.1.2.2.2.1 p))))))))
      | some b =>
        obtain ⟨bN, b8, b1, be⟩ := am_fd_some e
        have ne : a ≠ b := fun z => c (by rw [z]; exact be)
        obtain ⟨k, k1, k2, k3⟩ := MO a b a8 b8
        have e3 : (nI a * 8 + nI b).toNatClampNeg = a * 8 + b := by rw [am_8, nI_clamp (by omega)]
        have i3 : vp_in (nI a * 8 + nI b) 64 := pk_in (a * 8 + b) 64 (by omega) (am_8 a b)
        by_cases q : k < 3
        · have I' : am_I K N cap Q CS cc now tc kn fl op oa ob oc st gn lr rg pc tr wt dl mc mk mf mv lm (upd mon (a * 8 + b) (nI (k + 1))) par ce ct ca sg mx wd cn cl rc rk tp tv wa dy kd rs lk cel trd ms (vp_updL cnt 4 (cnt 4 + 1)) := mo_I I a8 b8 (by omega) (fun _ => ⟨h1, b1⟩)
          refine ⟨1, K, _, _, am_Ri I', ⟨⟨rfl, rfl, rfl⟩, fun i _ z => z⟩, fun post p => ?_, Or.inl ⟨rfl, fun post p => yr_pre hN hw fa ?_⟩⟩
          · refine br_f (by decide) (br_f (by decide) (br_f (by decide) (br_f (by decide) (br_t rfl ?_))))
            unfold wpX_makeMonitor
            refine xv_pid a8 ?_
            refine br_f c ?_
            refine xv_live hN ?_
            rw [e]
            refine br_t (nI_pos' (by omega)) ⟨i3, br_t ?_ ⟨i3, i3, nm_r (e' := upd mon (a * 8 + b) (nI (k + 1))) ?_ (nm_e p)⟩⟩
            · show mon (nI a * 8 + nI b).toNatClampNeg < 3
              rw [e3, k2]; exact nI_lt (b := 3) q (by omega)
            · show upd mon (nI a * 8 + nI b).toNatClampNeg (mon (nI a * 8 + nI b).toNatClampNeg + 1) = _
              rw [e3, k2, nI_1]
          · rw [e]
            refine br_f (by decide) (br_f (by decide) (br_t rfl (br_f (fun z => ne (am_im z (by omega) (by omega))) (br_f (nI_pos (by omega)) ⟨i3, br_t ?_ (nm_e (br_f (nI_pos (by omega)) ⟨i3, i3, nm_r (e' := upd mon (a * 8 + b) (nI (k + 1))) ?_ p⟩))⟩))))
            · show mon (nI a * 8 + nI b).toNatClampNeg < 3
              rw [e3, k2]; exact nI_lt (b := 3) q (by omega)
            · show upd mon (nI a * 8 + nI b).toNatClampNeg (mon (nI a * 8 + nI b).toNatClampNeg + 1) = _
              rw [e3, k2, nI_1]
        · refine ⟨-2, K, _, _, am_Ri I, ⟨⟨rfl, rfl, rfl⟩, fun i _ z => z⟩, fun post p => ?_, Or.inl ⟨rfl, fun post p => yr_pre hN hw fa ?_⟩⟩
          · refine br_f (by decide) (br_f (by decide) (br_f (by decide) (br_f (by decide) (br_t rfl ?_))))
            unfold wpX_makeMonitor
            refine xv_pid a8 ?_
            refine br_f c ?_
            refine xv_live hN ?_
            rw [e]
            refine br_t (nI_pos' (by omega)) ⟨i3, br_f ?_ p⟩
            show ¬ mon (nI a * 8 + nI b).toNatClampNeg < 3
            rw [e3, k2]; exact nI_nlt (b := 3) (by omega) (by omega)
          · rw [e]
            refine br_f (by decide) (br_f (by decide) (br_t rfl (br_f (fun z => ne (am_im z (by omega) (by omega))) (br_f (nI_pos (by omega)) ⟨i3, br_f ?_ p⟩))))
            show ¬ mon (nI a * 8 + nI b).toNatClampNeg < 3
            rw [e3, k2]; exact nI_nlt (b := 3) (by omega) (by omega)
  · -- demonitor
    cases e : am_fd N st gn pB with
    | none =>
      refine ⟨0, K, _, _, am_Ri I, ⟨⟨rfl, rfl, rfl⟩, fun i _ z => z⟩, fun post p => ?_, Or.inl ⟨rfl, fun post p => yr_pre hN hw fa ?_⟩⟩
      · refine br_f (by decide) (br_t (by decide) ?_)
        unfold wpX_cutMonitor
        refine xv_live hN ?_
        rw [e]; exact br_t am_n1lt p
      · rw [e]
        exact br_f (by decide) (br_f (by decide) (br_f (by decide) (br_t am_n1lt p)))
    | some b =>
      obtain ⟨bN, b8, b1, be⟩ := am_fd_some e
      obtain ⟨k, k1, k2, k3⟩ := MO a b a8 b8
      have e3 : (nI a * 8 + nI b).toNatClampNeg = a * 8 + b := by rw [am_8, nI_clamp (by omega)]
      have i3 : vp_in (nI a * 8 + nI b) 64 := pk_in (a * 8 + b) 64 (by omega) (am_8 a b)
      by_cases q : k = 0
      · refine ⟨0, K, _, _, am_Ri I, ⟨⟨rfl, rfl, rfl⟩, fun i _ z => z⟩, fun post p => ?_, Or.inl ⟨rfl, fun post p => yr_pre hN hw fa ?_⟩⟩
        · refine br_f (by decide) (br_t (by decide) ?_)
          unfold wpX_cutMonitor
          refine xv_live hN ?_
          rw [e]
          refine br_f (nI_pos (by omega)) ⟨i3, br_t ?_ p⟩
          show mon (nI a * 8 + nI b).toNatClampNeg = 0
          rw [e3, k2, q]; rfl
        · rw [e]
          refine br_f (by decide) (br_f (by decide) (br_f (by decide) (br_f (nI_pos (by omega)) ⟨i3, br_f ?_ p⟩)))
          show ¬ 1 ≤ mon (nI a * 8 + nI b).toNatClampNeg
          rw [e3, k2, q]; decide
      · have I' : am_I K N cap Q CS cc now tc kn fl op oa ob oc st gn lr rg pc tr wt dl mc mk mf mv lm (upd mon (a * 8 + b) (nI (k - 1))) par ce ct ca sg mx wd cn cl rc rk tp tv wa dy kd rs lk cel trd ms (vp_updL cnt 6 (cnt 6 + 1)) := mo_I I a8 b8 (by omega) (fun _ => ⟨h1, b1⟩)
        refine ⟨1, K, _, _, am_Ri I', ⟨⟨rfl, rfl, rfl⟩, fun i _ z => z⟩, fun post p => ?_, Or.inl ⟨rfl, fun post p => yr_pre hN hw fa ?_⟩⟩
        · refine br_f (by decide) (br_t (by decide) ?_)
          unfold wpX_cutMonitor
          refine xv_live hN ?_
          rw [e]
          refine br_f (nI_pos (by omega)) ⟨i3, br_f ?_ ⟨i3, i3, nm_r (e' := upd mon (a * 8 + b) (nI (k - 1))) ?_ (nm_e p)⟩⟩
          · show ¬ mon (nI a * 8 + nI b).toNatClampNeg = 0
            rw [e3, k2]; exact nI_ne0 (by omega) (by omega)
          · show upd mon (nI a * 8 + nI b).toNatClampNeg (mon (nI a * 8 + nI b).toNatClampNeg - 1) = _
            rw [e3, k2, am_s1 (by omega)]
        · rw [e]
          refine br_f (by decide) (br_f (by decide) (br_f (by decide) (br_f (nI_pos (by omega)) ⟨i3, br_t ?_ ⟨i3, i3, nm_r (e' := upd mon (a * 8 + b) (nI (k - 1))) ?_ (nm_e p)⟩⟩)))
          · show 1 ≤ mon (nI a * 8 + nI b).toNatClampNeg
            rw [e3, k2]; exact nI_le (a := 1) (by omega) (by omega)
          · show upd mon (nI a * 8 + nI b).toNatClampNeg (mon (nI a * 8 + nI b).toNatClampNeg - 1) = _
            rw [e3, k2, am_s1 (by omega)]
end R2
end
section
/-! 29: selective receive -/
def am_ma (b : Nat) (key k f v : Int32) : Bool :=
  match b with
  | 0 => true
  | 1 => decide (k = 1)
  | 2 => decide (k = 2)
  | 3 => decide (k = 3)
  | 4 => decide (f = key)
  | 5 => decide (k = 1 ∧ v = key)
  | _ => decide (¬ k = 1 ∧ f = key)
def am_fi (p : Nat → Bool) : Nat → Nat → Option Nat
  | _, 0 => none
  | i, d + 1 => if p i = true then some i else am_fi p (i + 1) d
theorem am_fi_lt {p : Nat → Bool} : ∀ {d i j : Nat}, am_fi p i d = some j → j < i + d := by
  intro d
  induction d with
  | zero => intro i j h; exact absurd h (by simp [am_fi])
  | succ d ih =>
    intro i j h
    unfold am_fi at h
    by_cases c : p i = true
    · rw [if_pos c] at h
      have := Option.some.inj h
      omega
    · rw [if_neg c] at h
      have := ih h
      omega
theorem am_dc {p : Prop} [Decidable p] {post : Int32 → Prop} (h : post (am_b (decide p))) : (p → post 1) ∧ (¬ p → post 0) := by
  by_cases c : p
  · rw [decide_eq_true c] at h; exact br_t c h
  · rw [decide_eq_false c] at h; exact br_f c h
section RV
variable {N cap Q CS cc now tc kn : Nat} {fl : Int32} {op oa ob oc st gn lr rg pc tr wt dl mc mk mf mv lm mon par ce ct ca sg mx wd cn cl rc rk tp tv wa dy kd rs lk cel trd : Nat → Int32} {ms cnt : Nat → Int64}
theorem xv_ma {post : Int32 → Prop} {x b : Nat} {key : Int32} (hx : x < 96) (hb : b ≤ 6) (h : post (am_b (am_ma b key (mk x) (mf x) (mv x)))) : wpX_matches post (fl, nI N, nI cap, nI Q, nI CS, nI cc, nI now, nI tc, op, oa, ob, oc, st, gn, lr, rg, pc, tr, wt, dl, mc, mk, mf, mv, ms, lm, mon, par, ce, ct, ca, sg, mx, wd, cn, cl, rc, rk, tp, tv, cnt) (nI x) (nI b) key := by
  have i1 : vp_in (nI x) 96 := vp_in_nI hx (by omega)
  have e1 : (nI x).toNatClampNeg = x := nI_clamp (by omega)
  unfold wpX_matches
  dsimp only
  rw [e1]
  rcases (by omega : b = 0 ∨ b = 1 ∨ b = 2 ∨ b = 3 ∨ b = 4 ∨ b = 5 ∨ b = 6) with rfl | rfl | rfl | rfl | rfl | rfl | rfl
  · exact br_f (by decide) (br_f (by decide) (br_t rfl h))
  · exact br_f (by decide) (br_f (by decide) (br_f (by decide) (br_t rfl ⟨i1, am_dc h⟩)))
  · exact br_f (by decide) (br_f (by decide) (br_f (by decide) (br_f (by decide) (br_t rfl ⟨i1, am_dc h⟩))))
  · exact br_f (by decide) (br_f (by decide) (br_f (by decide) (br_f (by decide) (br_f (by decide) (br_t rfl ⟨i1, am_dc h⟩)))))
  · exact br_f (by decide) (br_f (by decide) (br_f (by decide) (br_f (by decide) (br_f (by decide) (br_f (by decide) (br_t rfl ⟨i1, am_dc h⟩))))))
  · refine br_f (by decide) (br_f (by decide) (br_f (by decide) (br_f (by decide) (br_f (by decide) (br_f (by decide) (br_f (by decide) (br_t rfl ⟨i1, ?_⟩)))))))
    have h' : post (am_b (decide (mk x = 1 ∧ mv x = key))) := h
    by_cases c : mk x = 1
    · refine br_t c ⟨i1, am_dc ?_⟩
      rw [show decide (mk x = 1 ∧ mv x = key) = decide (mv x = key) from decide_eq_decide.mpr ⟨fun z => z.2, fun z => ⟨c, z⟩⟩] at h'
      exact h'
    · rw [decide_eq_false fun z => c z.1] at h'
      exact br_f c h'
  · refine br_f (by decide) (br_f (by decide) (br_f (by decide) (br_f (by decide) (br_f (by decide) (br_f (by decide) (br_f (by decide) (br_f (by decide) (br_t rfl ⟨i1, ?_⟩))))))))
    have h' : post (am_b (decide (¬ mk x = 1 ∧ mf x = key))) := h
    by_cases c : mk x = 1
    · rw [decide_eq_false fun z => z.1 c] at h'
      exact br_t c h'
    · refine br_f c ⟨i1, am_dc ?_⟩
      rw [show decide (¬ mk x = 1 ∧ mf x = key) = decide (mf x = key) from decide_eq_decide.mpr ⟨fun z => z.2, fun z => ⟨c, z⟩⟩] at h'
      exact h'
theorem yv_ma {post : Int32 → Prop} {x b : Nat} {key : Int32} (hx : x < 96) (hb : b ≤ 6) (h : post (am_b (am_ma b key (mk x) (mf x) (mv x)))) : wpY_matches post (nI N, nI cap, nI Q, nI CS, nI now, nI cc, nI tc, nI kn, st, gn, lr, pc, wa, dy, tr, par, ce, ct, ca, kd, sg, mx, wd, rs, rg, mon, lk, mc, mk, mf, mv, ms, cel, trd, cnt) (nI b) (nI x) key := by
  have i1 : vp_in (nI x) 96 := vp_in_nI hx (by omega)
  have e1 : (nI x).toNatClampNeg = x := nI_clamp (by omega)
  unfold wpY_matches
  dsimp only
  rw [e1]
  rcases (by omega : b = 0 ∨ b = 1 ∨ b = 2 ∨ b = 3 ∨ b = 4 ∨ b = 5 ∨ b = 6) with rfl | rfl | rfl | rfl | rfl | rfl | rfl
  · exact br_t rfl h
  · exact br_f (by decide) (br_f (by decide) ⟨i1, am_dc h⟩)
  · exact br_f (by decide) (br_f (by decide) ⟨i1, am_dc h⟩)
  · exact br_f (by decide) (br_f (by decide) ⟨i1, am_dc h⟩)
  · refine br_f (by decide) (br_t (by decide) (br_f (by decide) ⟨i1, ?_⟩))
    have h' : post (am_b (decide (mf x = key))) := h
    by_cases c : mf x = key
    · rw [decide_eq_true c] at h'
      exact br_t c (br_t rfl h')
    · rw [decide_eq_false c] at h'
      exact br_f c h'
  · refine br_f (by decide) (br_t (by decide) (br_t rfl ⟨i1, ?_⟩))
    have h' : post (am_b (decide (mk x = 1 ∧ mv x = key))) := h
    by_cases c : mk x = 1
    · refine br_t c ⟨i1, am_dc ?_⟩
      rw [show decide (mk x = 1 ∧ mv x = key) = decide (mv x = key) from decide_eq_decide.mpr ⟨fun z => z.2, fun z => ⟨c, z⟩⟩] at h'
      exact h'
    · rw [decide_eq_false fun z => c z.1] at h'
      exact br_f c h'
  · refine br_f (by decide) (br_t (by decide) (br_f (by decide) ⟨i1, ?_⟩))
    have h' : post (am_b (decide (¬ mk x = 1 ∧ mf x = key))) := h
    by_cases c : mf x = key
    · refine br_t c (br_f (by decide) ⟨i1, ?_⟩)
      by_cases c2 : mk x = 1
      · rw [decide_eq_false fun z => z.1 c2] at h'
        exact br_t c2 h'
      · rw [decide_eq_true ⟨c2, c⟩] at h'
        exact br_f c2 h'
    · rw [decide_eq_false fun z => c z.2] at h'
      exact br_f c h'
theorem xv_fm {post : Int32 → Prop} {s n b : Nat} {key : Int32} (hs : s < 8) (hc : mc s = nI n) (h12 : n ≤ 12) (hb : b ≤ 6) : ∀ d i f, i + d = n → d < f → post (am_o (am_fi (fun i => am_ma b key (mk (s * 12 + i)) (mf (s * 12 + i)) (mv (s * 12 + i))) i d)) → wX_findMessage_3 post (nI s) (nI b) key fl (nI N) (nI cap) (nI Q) (nI CS) (nI cc) (nI now) (nI tc) op oa ob oc st gn lr rg pc tr wt dl mc mk mf mv ms lm mon par ce ct ca sg mx wd cn cl rc rk tp tv cnt f (nI i) := by
  have i1 : vp_in (nI s) 8 := vp_in_nI hs (by omega)
  have e1 : (nI s).toNatClampNeg = s := nI_clamp (by omega)
  intro d
  induction d with
  | zero =>
    intro i f hi hf h
    obtain ⟨m, rfl⟩ : ∃ m, f = m + 1 := ⟨f - 1, by omega⟩
    obtain rfl : i = n := hi
    exact ⟨i1, br_t (by rw [e1, hc]; exact Int32.le_refl _) h⟩
  | succ d ih =>
    intro i f hi hf h
    obtain ⟨m, rfl⟩ : ∃ m, f = m + 1 := ⟨f - 1, by omega⟩
    refine ⟨i1, br_f (by rw [e1, hc]; exact nI_ge (by omega) (by omega)) ?_⟩
    rw [am_12]
    refine xv_ma (by omega) hb (am_br (fun c => ?_) (fun c => ?_))
    · unfold am_fi at h
      rw [if_neg (by rw [c]; decide)] at h
      exact nm_r (nI_1 i) (ih (i + 1) m (by omega) (by omega) h)
    · unfold am_fi at h
      rw [if_pos c] at h
      exact h
theorem yv_46 {post : Int32 → SY → Prop} {s n b pp : Nat} {ta : Nat} {x4 : Int32} (hs : s < 8) (h12 : n ≤ 12) (hb : b ≤ 6) (hp : pp < 64) (hcel : cel (pp * 4 + 2) = nI b) (hta : ta < 64) (h : ∀ f, wY_receive_46 post (nI s) (nI (pp * 4)) (nI ta) x4 (nI N) (nI cap) (nI Q) (nI CS) (nI now) (nI cc) (nI tc) (nI kn) st gn lr pc wa dy tr par ce ct ca kd sg mx wd rs rg mon lk mc mk mf mv ms cel trd cnt (f + 1) (am_o (am_fi (fun i => am_ma b (rg ta) (mk (s * 12 + i)) (mf (s * 12 + i)) (mv (s * 12 + i))) 0 n)) (-1)) : ∀ i f, i ≤ n → i < f → wY_receive_46 post (nI s) (nI (pp * 4)) (nI ta) x4 (nI N) (nI cap) (nI Q) (nI CS) (nI now) (nI cc) (nI tc) (nI kn) st gn lr pc wa dy tr par ce ct ca kd sg mx wd rs rg mon lk mc mk mf mv ms cel trd cnt f (am_o (am_fi (fun i => am_ma b (rg ta) (mk (s * 12 + i)) (mf (s * 12 + i)) (mv (s * 12 + i))) i (n - i))) (nI i - 1) := by
  intro i
  induction i with
  | zero =>
    intro f hi hf
    obtain ⟨m, rfl⟩ : ∃ m, f = m + 1 := ⟨f - 1, by omega⟩
    exact h m
  | succ i ih =>
    intro f hi hf
    obtain ⟨m, rfl⟩ : ∃ m, f = m + 1 := ⟨f - 1, by omega⟩
    rw [nI_pred]
    have z := ih m (by omega) (by omega)
    rw [show n - i = n - (i + 1) + 1 by omega] at z
    unfold am_fi at z
    refine br_f (nI_pos (by omega)) ⟨pk_in (pp * 4 + 2) 256 (by omega) (am_p2 _), vp_in_nI hta (by omega), ?_⟩
    rw [am_p2, nI_clamp (by omega), nI_clamp (by omega), hcel, am_12]
    refine yv_ma (by omega) hb (am_br (fun c => ?_) (fun c => ?_))
    · rw [if_neg (by rw [c]; decide)] at z
      exact nm_r (e' := nI i - 1) (am_sub1 _) z
    · rw [if_pos c] at z
      exact nm_r (e' := nI i - 1) (am_sub1 _) z
theorem xv_pro {post : SX → Prop} {s p : Nat} (hs : s < 8) (h : post (fl, nI N, nI cap, nI Q, nI CS, nI cc, nI now, nI tc, op, oa, ob, oc, st, gn, lr, rg, upd pc s (nI (p + 1)), tr, upd wt s 0, upd dl s (-1), mc, mk, mf, mv, ms, lm, mon, par, ce, ct, ca, sg, mx, wd, cn, cl, rc, rk, tp, tv, cnt)) : wpX_proceed post (fl, nI N, nI cap, nI Q, nI CS, nI cc, nI now, nI tc, op, oa, ob, oc, st, gn, lr, rg, pc, tr, wt, dl, mc, mk, mf, mv, ms, lm, mon, par, ce, ct, ca, sg, mx, wd, cn, cl, rc, rk, tp, tv, cnt) (nI s) (nI p) := by
  have i1 : vp_in (nI s) 8 := vp_in_nI hs (by omega)
  have e1 : (nI s).toNatClampNeg = s := nI_clamp (by omega)
  exact ⟨i1, nm_r (by rw [e1, am_vb0]) ⟨i1, nm_r (by rw [e1]) ⟨i1, nm_r (by rw [e1, nI_1]) h⟩⟩⟩
theorem w0_I {K : List Nat} {s : Nat} {x y z : Int32} (I : am_I K N cap Q CS cc now tc kn fl op oa ob oc st gn lr rg pc tr wt dl mc mk mf mv lm mon par ce ct ca sg mx wd cn cl rc rk tp tv wa dy kd rs lk cel trd ms cnt) (hs : s < 8) (h : (x = 0 ∧ z = 0) ∨ (x = 1 ∧ z = 1 ∧ y = -1) ∨ (x = 1 ∧ z = 2 ∧ ∃ d, d ≤ 1100 ∧ y = nI d ∧ dy s = nI d)) : am_I K N cap Q CS cc now tc kn fl op oa ob oc st gn lr rg pc tr (upd wt s x) (upd dl s y) mc mk mf mv lm mon par ce ct ca sg mx wd cn cl rc rk tp tv (upd wa s z) dy kd rs lk cel trd ms cnt := by
  obtain ⟨h1, h2, h3, h4, h5, h6, h7, h8⟩ := I
  refine ⟨h1, h2, h3, h4, h5, h6, fun j hj e => ?_, h8⟩
  by_cases q : j = s
  · subst q
    rw [pk_us, pk_us, pk_us]; exact h
  · rw [pk_un q, pk_un q, pk_un q]; exact h7 j hj e
theorem rv_recv {K : List Nat} {s p : Nat} (I : am_I K N cap Q CS cc now tc kn fl op oa ob oc st gn lr rg pc tr wt dl mc mk mf mv lm mon par ce ct ca sg mx wd cn cl rc rk tp tv wa dy kd rs lk cel trd ms cnt) (hs : s < 8) (h1 : st s = 1) (hp : pc s = nI p) (hpc : p < cc) (hop : op p = 12) : ∃ (b : Bool) (u1 : SX) (v1 : SY), am_R K u1 v1 ∧ am_T N Q now st u1 ∧ (∀ post : Int32 → SX → Prop, post (am_b b) u1 → wpX_receive post (fl, nI N, nI cap, nI Q, nI CS, nI cc, nI now, nI tc, op, oa, ob, oc, st, gn, lr, rg, pc, tr, wt, dl, mc, mk, mf, mv, ms, lm, mon, par, ce, ct, ca, sg, mx, wd, cn, cl, rc, rk, tp, tv, cnt) (nI s) (nI p)) ∧ (∀ post : Int32 → SY → Prop, post (am_b (!b)) v1 → wpY_receive post (nI N, nI cap, nI Q, nI CS, nI now, nI cc, nI tc, nI kn, st, gn, lr, pc, wa, dy, tr, par, ce, ct, ca, kd, sg, mx, wd, rs, rg, mon, lk, mc, mk, mf, mv, ms, cel, trd, cnt) (nI s)) := by
  have hcc : cc ≤ 64 := by have := I.1; unfold iS at this; omega
  have hn : now ≤ 1000 := I.1.2.2.2.2.2.2.2.2.2.1
  have hcap : cap ≤ 12 := I.1.2.2.2.1
  obtain ⟨-, ⟨a, a7, ea⟩, hb', c0, c1, c2, c3⟩ := I.2.1 p hpc
  obtain ⟨⟨b, b6, eb⟩, hoc⟩ := hb' hop
  obtain ⟨n, n1, n2, n3⟩ := I.2.2.2.2.2.1 s hs
  have hW := I.2.2.2.2.2.2.1 s hs h1
  have i1 : vp_in (nI s) 8 := vp_in_nI hs (by omega)
  have e1 : (nI s).toNatClampNeg = s := nI_clamp (by omega)
  have ip : vp_in (nI p) 64 := vp_in_nI (by omega) (by omega)
  have ep : (nI p).toNatClampNeg = p := nI_clamp (by omega)
  have it : vp_in (nI (s * 8 + a)) 64 := vp_in_nI (by omega) (by omega)
  have et : (nI (s * 8 + a)).toNatClampNeg = s * 8 + a := nI_clamp (by omega)
  have XP : ∀ post : Int32 → SX → Prop, ((am_fi (fun i => am_ma b (rg (s * 8 + a)) (mk (s * 12 + i)) (mf (s * 12 + i)) (mv (s * 12 + i))) 0 n) = none → ((wt s = 0 → wX_receive_181 post (nI s) (nI p) (nI (s * 8)) (oc p) (am_b (decide (oc p = 0))) fl (nI N) (nI cap) (nI Q) (nI CS) (nI cc) (nI now) (nI tc) op oa ob oc st gn lr rg pc tr wt dl mc mk mf mv ms lm mon par ce ct ca sg mx wd cn cl rc rk tp tv cnt) ∧ (¬ wt s = 0 → wX_receive_181 post (nI s) (nI p) (nI (s * 8)) (oc p) (am_b (decide (¬ dl s < 0 ∧ ¬ nI now < dl s))) fl (nI N) (nI cap) (nI Q) (nI CS) (nI cc) (nI now) (nI tc) op oa ob oc st gn lr rg pc tr wt dl mc mk mf mv ms lm mon par ce ct ca sg mx wd cn cl rc rk tp tv cnt))) → (∀ i, (am_fi (fun i => am_ma b (rg (s * 8 + a)) (mk (s * 12 + i)) (mf (s * 12 + i)) (mv (s * 12 + i))) 0 n) = some i → post 1 (fl, nI N, nI cap, nI Q, nI CS, nI cc, nI now, nI tc, op, oa, ob, oc, st, gn, lr, upd (upd (upd rg (s * 8 + 6) (mf (s * 12 + i))) (s * 8 + 7) (mk (s * 12 + i))) (s * 8 + a) (mv (s * 12 + i)), upd pc s (nI (p + 1)), tr, upd wt s 0, upd dl s (-1), (am_ct 2 (am_rem s i (mc, mk, mf, mv, ms, cnt))).1, (am_ct 2 (am_rem s i (mc, mk, mf, mv, ms, cnt))).2.1, (am_ct 2 (am_rem s i (mc, mk, mf, mv, ms, cnt))).2.2.1, (am_ct 2 (am_rem s i (mc, mk, mf, mv, ms, cnt))).2.2.2.1, (am_ct 2 (am_rem s i (mc, mk, mf, mv, ms, cnt))).2.2.2.2.1, lm, mon, par, ce, ct, ca, sg, mx, wd, cn, cl, rc, rk, tp, tv, (am_ct 2 (am_rem s i (mc, mk, mf, mv, ms, cnt))).2.2.2.2.2)) → wpX_receive post (fl, nI N, nI cap, nI Q, nI CS, nI cc, nI now, nI tc, op, oa, ob, oc, st, gn, lr, rg, pc, tr, wt, dl, mc, mk, mf, mv, ms, lm, mon, par, ce, ct, ca, sg, mx, wd, cn, cl, rc, rk, tp, tv, cnt) (nI s) (nI p) := fun post q1 q2 => by
    refine nm_r (am_m8 s) ⟨ip, nm_r (e' := nI (s * 8 + a)) (by rw [ep, ea, nI_add]) ⟨ip, nm_r (e' := oc p) (by rw [ep]) ⟨ip, it, ?_⟩⟩⟩
    rw [ep, et, eb]
    refine ⟨n + 1, xv_fm hs n2 (by omega) b6 n 0 (n + 1) (by omega) (by omega) ?_⟩
    refine am_olt (fun i e => by have := am_fi_lt e; omega) (fun e => ⟨i1, ?_⟩) (fun i e => ?_)
    · obtain ⟨y1, y2⟩ := q1 e
      rw [e1]
      refine br_c (fun w0 => ?_) (fun w1 => ⟨i1, ?_⟩)
      · have y := y1 w0
        by_cases z : oc p = 0
        · rw [decide_eq_true z] at y; exact br_t z y
        · rw [decide_eq_false z] at y; exact br_f z y
      · have y := y2 w1
        by_cases z : dl s < 0
        · rw [decide_eq_false fun w => w.1 z] at y; exact br_t z y
        · refine br_f z ⟨i1, ?_⟩
          by_cases z2 : nI now < dl s
          · rw [decide_eq_false fun w => w.2 z2] at y; exact br_t z2 y
          · rw [decide_eq_true ⟨z, z2⟩] at y; exact br_f z2 y
    · have hi := am_fi_lt e
      have y := q2 i e
      rw [e]
      have ic : vp_in (nI (s * 12 + i)) 96 := vp_in_nI (by omega) (by omega)
      have ec : (nI (s * 12 + i)).toNatClampNeg = s * 12 + i := nI_clamp (by omega)
      have e6 : nI (s * 8) + 6 = nI (s * 8 + 6) := am_p6 _
      have e7 : nI (s * 8) + 7 = nI (s * 8 + 7) := am_p7 _
      refine nm_r (e' := nI (s * 12 + i)) (am_12 s i) ⟨ic, pk_in (s * 8 + 6) 64 (by omega) e6, nm_r (e' := upd rg (s * 8 + 6) (mf (s * 12 + i))) (by rw [e6, nI_clamp (by omega), ec]) ⟨ic, pk_in (s * 8 + 7) 64 (by omega) e7, nm_r (e' := upd (upd rg (s * 8 + 6) (mf (s * 12 + i))) (s * 8 + 7) (mk (s * 12 + i))) (by rw [e7, nI_clamp (by omega), ec]) ⟨ic, it, nm_r (e' := upd (upd (upd rg (s * 8 + 6) (mf (s * 12 + i))) (s * 8 + 7) (mk (s * 12 + i))) (s * 8 + a) (mv (s * 12 + i))) (by rw [ec]) ?_⟩⟩⟩
      exact xp_rem (m := (mc, mk, mf, mv, ms, cnt)) hs n2 (by omega) (by omega) (nm_e (xv_pro hs y))
  have YP : ∀ post : Int32 → SY → Prop, (∀ f, wY_receive_46 post (nI s) (nI (p * 4)) (nI (s * 8 + a)) (oc p) (nI N) (nI cap) (nI Q) (nI CS) (nI now) (nI cc) (nI tc) (nI kn) st gn lr pc wa dy tr par ce ct ca kd sg mx wd rs rg mon lk mc mk mf mv ms cel trd cnt (f + 1) (am_o (am_fi (fun i => am_ma b (rg (s * 8 + a)) (mk (s * 12 + i)) (mf (s * 12 + i)) (mv (s * 12 + i))) 0 n)) (-1)) → wpY_receive post (nI N, nI cap, nI Q, nI CS, nI now, nI cc, nI tc, nI kn, st, gn, lr, pc, wa, dy, tr, par, ce, ct, ca, kd, sg, mx, wd, rs, rg, mon, lk, mc, mk, mf, mv, ms, cel, trd, cnt) (nI s) := fun post q => by
    refine ⟨i1, nm_r (e' := nI (p * 4)) (by rw [e1, hp, am_m4]) ⟨pk_in (p * 4 + 1) 256 (by omega) (nI_1 _), nm_r (e' := nI (s * 8 + a)) (by rw [nI_1, nI_clamp (by omega), c1, ea, am_8]) ⟨pk_in (p * 4 + 3) 256 (by omega) (am_p3 _), nm_r (e' := oc p) (by rw [am_p3, nI_clamp (by omega), c3]) ⟨i1, nm_r (e' := nI n - 1) (by rw [e1, n2]) ⟨n + 1, ?_⟩⟩⟩⟩⟩
    have z := yv_46 (post := post) (x4 := oc p) hs (by omega) b6 (by omega) (by rw [c2, eb]) (by omega) q n (n + 1) (Nat.le_refl n) (by omega)
    rw [Nat.sub_self] at z
    exact z
  have Y179 : ∀ (post : Int32 → SY → Prop), post 0 (nI N, nI cap, nI Q, nI CS, nI now, nI cc, nI tc, nI kn, st, gn, lr, upd pc s (nI (p + 1)), upd wa s 0, dy, tr, par, ce, ct, ca, kd, sg, mx, wd, rs, upd (upd rg (s * 8 + 6) 0) (s * 8 + 7) 0, mon, lk, mc, mk, mf, mv, ms, cel, trd, cnt) → wY_receive_179 post (nI s) (nI (s * 8 + a)) (-1) (nI N) (nI cap) (nI Q) (nI CS) (nI now) (nI cc) (nI tc) (nI kn) st gn lr pc wa dy tr par ce ct ca kd sg mx wd rs rg mon lk mc mk mf mv ms cel trd cnt := fun post q => by
    refine ⟨i1, nm_r (e' := upd wa s 0) (by rw [e1]) ⟨i1, i1, nm_r (e' := upd pc s (nI (p + 1))) (by rw [e1, hp, nI_1]) (br_f am_n1le (br_f am_n1le ?_))⟩⟩
    have e6 : nI s * 8 + 6 = nI (s * 8 + 6) := by rw [am_m8, am_p6]
    have e7 : nI s * 8 + 7 = nI (s * 8 + 7) := by rw [am_m8, am_p7]
    refine ⟨pk_in (s * 8 + 6) 64 (by omega) e6, nm_r (e' := upd rg (s * 8 + 6) 0) (by rw [e6, nI_clamp (by omega)]) (br_f am_n1le ⟨pk_in (s * 8 + 7) 64 (by omega) e7, nm_r (e' := upd (upd rg (s * 8 + 6) 0) (s * 8 + 7) 0) (by rw [e7, nI_clamp (by omega)]) (br_f am_n1le q)⟩)⟩
  have X181 : ∀ (post : Int32 → SX → Prop), post 1 (fl, nI N, nI cap, nI Q, nI CS, nI cc, nI now, nI tc, op, oa, ob, oc, st, gn, lr, upd (upd rg (s * 8 + 6) 0) (s * 8 + 7) 0, upd pc s (nI (p + 1)), tr, upd wt s 0, upd dl s (-1), mc, mk, mf, mv, ms, lm, mon, par, ce, ct, ca, sg, mx, wd, cn, cl, rc, rk, tp, tv, cnt) → wX_receive_181 post (nI s) (nI p) (nI (s * 8)) (oc p) 1 fl (nI N) (nI cap) (nI Q) (nI CS) (nI cc) (nI now) (nI tc) op oa ob oc st gn lr rg pc tr wt dl mc mk mf mv ms lm mon par ce ct ca sg mx wd cn cl rc rk tp tv cnt := fun post q => by
    have e6 : nI (s * 8) + 6 = nI (s * 8 + 6) := am_p6 _
    have e7 : nI (s * 8) + 7 = nI (s * 8 + 7) := am_p7 _
    exact br_f (by decide) ⟨pk_in (s * 8 + 6) 64 (by omega) e6, nm_r (e' := upd rg (s * 8 + 6) 0) (by rw [e6, nI_clamp (by omega)]) ⟨pk_in (s * 8 + 7) 64 (by omega) e7, nm_r (e' := upd (upd rg (s * 8 + 6) 0) (s * 8 + 7) 0) (by rw [e7, nI_clamp (by omega)]) (xv_pro hs q)⟩⟩
  cases e : am_fi (fun i => am_ma b (rg (s * 8 + a)) (mk (s * 12 + i)) (mf (s * 12 + i)) (mv (s * 12 + i))) 0 n with
  | some i =>
    have hi := am_fi_lt e
    have I' : am_I K N cap Q CS cc now tc kn fl op oa ob oc st gn lr (upd (upd (upd rg (s * 8 + 6) (mf (s * 12 + i))) (s * 8 + 7) (mk (s * 12 + i))) (s * 8 + a) (mv (s * 12 + i))) (upd pc s (nI (p + 1))) tr (upd wt s 0) (upd dl s (-1)) ((am_ct 2 (am_rem s i (mc, mk, mf, mv, ms, cnt))).1) ((am_ct 2 (am_rem s i (mc, mk, mf, mv, ms, cnt))).2.1) ((am_ct 2 (am_rem s i (mc, mk, mf, mv, ms, cnt))).2.2.1) ((am_ct 2 (am_rem s i (mc, mk, mf, mv, ms, cnt))).2.2.2.1) lm mon par ce ct ca sg mx wd cn cl rc rk tp tv (upd wa s 0) dy kd rs lk cel trd ((am_ct 2 (am_rem s i (mc, mk, mf, mv, ms, cnt))).2.2.2.2.1) ((am_ct 2 (am_rem s i (mc, mk, mf, mv, ms, cnt))).2.2.2.2.2) := by
      obtain ⟨h1', h2, h3, h4, h5, h6, h7⟩ := w0_I (s := s) (x := 0) (y := -1) (z := 0) I hs (Or.inl ⟨rfl, rfl⟩)
      refine ⟨h1', h2, h3, h4, h5, fun j hj => ?_, h7⟩
      show ∃ n', n' ≤ cap ∧ upd mc s (nI (am_n s (mc, mk, mf, mv, ms, cnt) - 1)) j = nI n' ∧ _
      by_cases q : j = s
      · subst q
        rw [pk_us, am_n_of (t := j) (m := (mc, mk, mf, mv, ms, cnt)) n2 (by omega)]
        exact ⟨n - 1, by omega, rfl, fun z => absurd h1 z⟩
      · rw [pk_un q]; exact h6 j hj
    refine ⟨true, _, _, am_Ri I', ⟨⟨rfl, rfl, rfl⟩, fun _ _ z => z⟩, fun post q => XP post (fun z => by rw [e] at z; exact absurd z (by simp)) (fun i' z => ?_), fun post q => YP post fun f => ?_⟩
    · rw [e] at z
      cases z
      exact q
    · rw [e]
      have p0 : (0 : Int32) ≤ nI i := nI_pos' (by omega)
      have ic : vp_in (nI (s * 12 + i)) 96 := vp_in_nI (by omega) (by omega)
      have ec : (nI (s * 12 + i)).toNatClampNeg = s * 12 + i := nI_clamp (by omega)
      have e6 : nI s * 8 + 6 = nI (s * 8 + 6) := by rw [am_m8, am_p6]
      have e7 : nI s * 8 + 7 = nI (s * 8 + 7) := by rw [am_m8, am_p7]
      refine br_t am_n1lt (br_t p0 (br_t p0 ⟨i1, nm_r (e' := upd wa s 0) (by rw [e1]) ⟨i1, i1, nm_r (e' := upd pc s (nI (p + 1))) (by rw [e1, hp, nI_1]) (br_t p0 ?_)⟩⟩))
      unfold wY_receive_212
      rw [show nI s * 12 + am_o (some i) = nI (s * 12 + i) from am_12 s i]
      refine br_t p0 ⟨ic, pk_in (s * 8 + 6) 64 (by omega) e6, nm_r (e' := upd rg (s * 8 + 6) (mf (s * 12 + i))) (by rw [e6, nI_clamp (by omega), ec]) (br_t p0 ⟨ic, pk_in (s * 8 + 7) 64 (by omega) e7, nm_r (e' := upd (upd rg (s * 8 + 6) (mf (s * 12 + i))) (s * 8 + 7) (mk (s * 12 + i))) (by rw [e7, nI_clamp (by omega), ec]) (br_t p0 ⟨ic, it, nm_r (e' := upd (upd (upd rg (s * 8 + 6) (mf (s * 12 + i))) (s * 8 + 7) (mk (s * 12 + i))) (s * 8 + a) (mv (s * 12 + i))) (by rw [et, ec]) (nm_e ?_)⟩)⟩)⟩
      exact yp_rem (m := am_ct 2 (mc, mk, mf, mv, ms, cnt)) hs n2 (by omega) (by omega) q
  | none =>
    have TO : (wt s = 0 ∧ oc p = 0 ∧ wa s = 0) ∨ (¬ wt s = 0 ∧ wa s = 2 ∧ ∃ d, d ≤ 1100 ∧ d ≤ now ∧ dl s = nI d ∧ dy s = nI d) → ∃ (b : Bool) (u1 : SX) (v1 : SY), am_R K u1 v1 ∧ am_T N Q now st u1 ∧ (∀ post : Int32 → SX → Prop, post (am_b b) u1 → wpX_receive post (fl, nI N, nI cap, nI Q, nI CS, nI cc, nI now, nI tc, op, oa, ob, oc, st, gn, lr, rg, pc, tr, wt, dl, mc, mk, mf, mv, ms, lm, mon, par, ce, ct, ca, sg, mx, wd, cn, cl, rc, rk, tp, tv, cnt) (nI s) (nI p)) ∧ (∀ post : Int32 → SY → Prop, post (am_b (!b)) v1 → wpY_receive post (nI N, nI cap, nI Q, nI CS, nI now, nI cc, nI tc, nI kn, st, gn, lr, pc, wa, dy, tr, par, ce, ct, ca, kd, sg, mx, wd, rs, rg, mon, lk, mc, mk, mf, mv, ms, cel, trd, cnt) (nI s)) := fun cse => by
      have I' : am_I K N cap Q CS cc now tc kn fl op oa ob oc st gn lr (upd (upd rg (s * 8 + 6) 0) (s * 8 + 7) 0) (upd pc s (nI (p + 1))) tr (upd wt s 0) (upd dl s (-1)) mc mk mf mv lm mon par ce ct ca sg mx wd cn cl rc rk tp tv (upd wa s 0) dy kd rs lk cel trd ms cnt := w0_I (s := s) (x := 0) (y := -1) (z := 0) I hs (Or.inl ⟨rfl, rfl⟩)
      refine ⟨true, _, _, am_Ri I', ⟨⟨rfl, rfl, rfl⟩, fun _ _ z => z⟩, fun post q => XP post (fun _ => ⟨fun w0 => ?_, fun w1 => ?_⟩) (fun i' z => by rw [e] at z; exact absurd z (by simp)), fun post q => YP post fun f => ?_⟩
      · rcases cse with ⟨-, z, -⟩ | ⟨z, -⟩
        · rw [decide_eq_true z]; exact X181 post q
        · exact absurd w0 z
      · rcases cse with ⟨z, -⟩ | ⟨-, -, d, d1, d2, d3, -⟩
        · exact absurd z w1
        · rw [d3, decide_eq_true (p := ¬ nI d < 0 ∧ ¬ nI now < nI d) ⟨nI_pos (by omega), nI_nlt d2 (by omega)⟩]
          exact X181 post q
      · rw [e]
        refine br_t am_n1lt (br_f am_n1le ⟨i1, ?_⟩)
        rw [e1]
        rcases cse with ⟨-, z, w⟩ | ⟨-, w, d, d1, d2, d3, d4⟩
        · refine br_t w (br_t z (br_f am_n1le ⟨i1, ?_⟩))
          rw [e1]
          refine br_f (by rw [w]; decide) ⟨i1, br_f (by rw [w]; decide) (Y179 post q)⟩
        · refine br_f (by rw [w]; decide) (br_f am_n1le ⟨i1, ?_⟩)
          rw [e1]
          refine br_f (by rw [w]; decide) ⟨i1, br_t w ⟨i1, br_t (by rw [d4]; exact nI_le d2 (by omega)) (Y179 post q)⟩⟩
    rcases hW with ⟨w0, v0⟩ | ⟨w1, v1, d1⟩ | ⟨w1, v2, d, d1, d2, d3⟩
    · by_cases z : oc p = 0
      · exact TO (Or.inl ⟨w0, z, v0⟩)
      · -- begins to wait
        rcases hoc with oe | ⟨cx, cx1, oe⟩
        · have I' : am_I K N cap Q CS cc now tc kn fl op oa ob oc st gn lr rg pc tr (upd wt s 1) (upd dl s (-1)) mc mk mf mv lm mon par ce ct ca sg mx wd cn cl rc rk tp tv (upd wa s 1) (upd dy s (nI now + oc p)) kd rs lk cel trd ms cnt := by
            obtain ⟨h1', h2, h3, h4, h5, h6, h7, h8⟩ := I
            refine ⟨h1', h2, h3, h4, h5, h6, fun j hj ej => ?_, h8⟩
            by_cases q : j = s
            · subst q
              rw [pk_us, pk_us, pk_us]; exact Or.inr (Or.inl ⟨rfl, rfl, rfl⟩)
            · rw [pk_un q, pk_un q, pk_un q, pk_un q]; exact h7 j hj ej
          refine ⟨false, _, _, am_Ri I', ⟨⟨rfl, rfl, rfl⟩, fun _ _ z => z⟩, fun post q => XP post (fun _ => ⟨fun _ => ?_, fun w => absurd w0 w⟩) (fun i' z => by rw [e] at z; exact absurd z (by simp)), fun post q => YP post fun f => ?_⟩
          · rw [decide_eq_false z]
            refine br_t rfl ⟨i1, ?_⟩
            rw [e1]
            refine br_t w0 ⟨i1, nm_r (e' := upd wt s 1) (by rw [am_vb1]) (br_f (by rw [oe]; decide) ⟨i1, nm_e q⟩)⟩
          · rw [e]
            refine br_t am_n1lt (br_f am_n1le ⟨i1, ?_⟩)
            rw [e1]
            refine br_t v0 (br_f z (br_f (by rw [oe]; decide) ⟨i1, nm_r (e' := upd wa s 1) (by rw [e1]) ⟨i1, nm_r (e' := upd dy s (nI now + oc p)) (by rw [e1]) q⟩⟩))
        · have I' : am_I K N cap Q CS cc now tc kn fl op oa ob oc st gn lr rg pc tr (upd wt s 1) (upd dl s (nI now + oc p)) mc mk mf mv lm mon par ce ct ca sg mx wd cn cl rc rk tp tv (upd wa s 2) (upd dy s (nI now + oc p)) kd rs lk cel trd ms cnt := by
            obtain ⟨h1', h2, h3, h4, h5, h6, h7, h8⟩ := I
            refine ⟨h1', h2, h3, h4, h5, h6, fun j hj ej => ?_, h8⟩
            by_cases q : j = s
            · subst q
              rw [pk_us, pk_us, pk_us, pk_us, oe, nI_add]
              exact Or.inr (Or.inr ⟨rfl, rfl, now + cx, by omega, rfl, rfl⟩)
            · rw [pk_un q, pk_un q, pk_un q, pk_un q]; exact h7 j hj ej
          refine ⟨false, _, _, am_Ri I', ⟨⟨rfl, rfl, rfl⟩, fun _ _ z => z⟩, fun post q => XP post (fun _ => ⟨fun _ => ?_, fun w => absurd w0 w⟩) (fun i' z => by rw [e] at z; exact absurd z (by simp)), fun post q => YP post fun f => ?_⟩
          · rw [decide_eq_false z]
            refine br_t rfl ⟨i1, ?_⟩
            rw [e1]
            refine br_t w0 ⟨i1, nm_r (e' := upd wt s 1) (by rw [am_vb1]) (br_t (by rw [oe]; exact nI_pos' (by omega)) ⟨i1, nm_e q⟩)⟩
          · rw [e]
            refine br_t am_n1lt (br_f am_n1le ⟨i1, ?_⟩)
            rw [e1]
            refine br_t v0 (br_f z (br_t (by rw [oe]; exact nI_pos' (by omega)) ⟨i1, nm_r (e' := upd wa s 2) (by rw [e1]) ⟨i1, nm_r (e' := upd dy s (nI now + oc p)) (by rw [e1]) q⟩⟩))
    · -- waits on for ever
      refine ⟨false, _, _, am_Ri I, ⟨⟨rfl, rfl, rfl⟩, fun _ _ z => z⟩, fun post q => XP post (fun _ => ⟨fun w => absurd w (by rw [w1]; decide), fun _ => ?_⟩) (fun i' z => by rw [e] at z; exact absurd z (by simp)), fun post q => YP post fun f => ?_⟩
      · rw [decide_eq_false (p := ¬ dl s < 0 ∧ ¬ nI now < dl s) fun z => z.1 (by rw [d1]; decide)]
        refine br_t rfl ⟨i1, ?_⟩
        rw [e1]
        exact br_f (by rw [w1]; decide) q
      · rw [e]
        refine br_t am_n1lt (br_f am_n1le ⟨i1, ?_⟩)
        rw [e1]
        refine br_f (by rw [v1]; decide) (br_f am_n1le ⟨i1, ?_⟩)
        rw [e1]
        exact br_t v1 q
    · by_cases z : d ≤ now
      · exact TO (Or.inr ⟨by rw [w1]; decide, v2, d, d1, z, d2, d3⟩)
      · refine ⟨false, _, _, am_Ri I, ⟨⟨rfl, rfl, rfl⟩, fun _ _ z => z⟩, fun post q => XP post (fun _ => ⟨fun w => absurd w (by rw [w1]; decide), fun _ => ?_⟩) (fun i' z => by rw [e] at z; exact absurd z (by simp)), fun post q => YP post fun f => ?_⟩
        · rw [decide_eq_false (p := ¬ dl s < 0 ∧ ¬ nI now < dl s) fun y => y.2 (by rw [d2]; exact nI_lt (by omega) (by omega))]
          refine br_t rfl ⟨i1, ?_⟩
          rw [e1]
          exact br_f (by rw [w1]; decide) q
        · rw [e]
          refine br_t am_n1lt (br_f am_n1le ⟨i1, ?_⟩)
          rw [e1]
          refine br_f (by rw [v2]; decide) (br_f am_n1le ⟨i1, ?_⟩)
          rw [e1]
          exact br_f (by rw [v2]; decide) ⟨i1, br_t v2 ⟨i1, br_f (by rw [d3]; exact nI_ge (by omega) (by omega)) q⟩⟩
end RV
end
section
/-! 30: the instructions, the component's side (printed by genops.py) -/
section XO
variable {N cap Q CS cc now tc kn : Nat} {fl : Int32} {op oa ob oc st gn lr rg pc tr wt dl mc mk mf mv lm mon par ce ct ca sg mx wd cn cl rc rk tp tv wa dy kd rs lk cel trd : Nat → Int32} {ms cnt : Nat → Int64}
theorem xa_9 {F : SX → Prop} {s p a b : Nat} (hs : s < 8) (hp : p < 64) (ha : a ≤ 7) (hb : b < 8) (ea : oa p = nI a) (eb : ob p &&& 7 = nI b) (ek : op p = 9) (h : F (fl, nI N, nI cap, nI Q, nI CS, nI cc, nI now, nI tc, op, oa, ob, oc, st, gn, lr, upd rg (s * 8 + a) (gn s * 8 + nI s), pc, tr, wt, dl, mc, mk, mf, mv, ms, lm, mon, par, ce, ct, ca, sg, mx, wd, cn, cl, rc, rk, tp, tv, cnt)) : wpX_act F (fl, nI N, nI cap, nI Q, nI CS, nI cc, nI now, nI tc, op, oa, ob, oc, st, gn, lr, rg, pc, tr, wt, dl, mc, mk, mf, mv, ms, lm, mon, par, ce, ct, ca, sg, mx, wd, cn, cl, rc, rk, tp, tv, cnt) (nI s) (nI p) := by
  have i1 : vp_in (nI s) 8 := vp_in_nI hs (by omega)
  have e1 : (nI s).toNatClampNeg = s := nI_clamp (by omega)
  have ip : vp_in (nI p) 64 := vp_in_nI hp (by omega)
  have ep : (nI p).toNatClampNeg = p := nI_clamp (by omega)
  have it : vp_in (nI (s * 8 + a)) 64 := vp_in_nI (by omega) (by omega)
  have et : (nI (s * 8 + a)).toNatClampNeg = s * 8 + a := nI_clamp (by omega)
  have ib : vp_in (nI s * 8 + (ob p &&& 7)) 64 := by rw [eb]; exact pk_in (s * 8 + b) 64 (by omega) (am_8 s b)
  have ebx : (nI s * 8 + (ob p &&& 7)).toNatClampNeg = s * 8 + b := by rw [eb, am_8, nI_clamp (by omega)]
  refine ⟨ip, nm_r (e' := nI (s * 8 + a)) (by rw [ep, ea, am_8]) ⟨ip, nm_r (e' := ob p) (by rw [ep]) ⟨it, nm_r (e' := rg (s * 8 + a)) (by rw [et]) ⟨ib, nm_r (e' := rg (s * 8 + b)) (by rw [ebx]) ?_⟩⟩⟩⟩
  refine xv_pid hs ?_
  refine ⟨ip, nm_r (e' := 9) (by rw [ep, ek]) ?_⟩
  exact br_f (by decide) (br_f (by decide) (br_t rfl (⟨it, nm_r (e' := upd rg (s * 8 + a) (gn s * 8 + nI s)) (by rw [et]) h⟩)))
theorem xa_10 {F : SX → Prop} {s p a b : Nat} (hs : s < 8) (hp : p < 64) (ha : a ≤ 7) (hb : b < 8) (ea : oa p = nI a) (eb : ob p &&& 7 = nI b) (ek : op p = 10) (hN : N ≤ 8) (h0 : am_fs st 0 N = none → F (fl, nI N, nI cap, nI Q, nI CS, nI cc, nI now, nI tc, op, oa, ob, oc, st, gn, lr, upd rg (s * 8 + a) 0, pc, tr, wt, dl, mc, mk, mf, mv, ms, lm, mon, par, ce, ct, ca, sg, mx, wd, cn, cl, rc, rk, tp, tv, cnt)) (h : ∀ f, am_fs st 0 N = some f → F (fl, nI N, nI cap, nI Q, nI CS, nI cc, nI now, nI tc, op, oa, ob, oc, upd st f 1, upd gn f (am_nx (gn f)), lr, upd (am_rg rg f (rg (s * 8 + a)) (gn s * 8 + nI s)) (s * 8 + a) (am_nx (gn f) * 8 + nI f), upd pc f (ob p), upd tr f 0, upd wt f 0, upd dl f (-1), upd mc f 0, mk, mf, mv, ms, lm, mon, par, ce, ct, ca, sg, mx, wd, cn, cl, rc, rk, tp, tv, vp_updL cnt 7 (cnt 7 + 1))) : wpX_act F (fl, nI N, nI cap, nI Q, nI CS, nI cc, nI now, nI tc, op, oa, ob, oc, st, gn, lr, rg, pc, tr, wt, dl, mc, mk, mf, mv, ms, lm, mon, par, ce, ct, ca, sg, mx, wd, cn, cl, rc, rk, tp, tv, cnt) (nI s) (nI p) := by
  have i1 : vp_in (nI s) 8 := vp_in_nI hs (by omega)
  have e1 : (nI s).toNatClampNeg = s := nI_clamp (by omega)
  have ip : vp_in (nI p) 64 := vp_in_nI hp (by omega)
  have ep : (nI p).toNatClampNeg = p := nI_clamp (by omega)
  have it : vp_in (nI (s * 8 + a)) 64 := vp_in_nI (by omega) (by omega)
  have et : (nI (s * 8 + a)).toNatClampNeg = s * 8 + a := nI_clamp (by omega)
  have ib : vp_in (nI s * 8 + (ob p &&& 7)) 64 := by rw [eb]; exact pk_in (s * 8 + b) 64 (by omega) (am_8 s b)
  have ebx : (nI s * 8 + (ob p &&& 7)).toNatClampNeg = s * 8 + b := by rw [eb, am_8, nI_clamp (by omega)]
  refine ⟨ip, nm_r (e' := nI (s * 8 + a)) (by rw [ep, ea, am_8]) ⟨ip, nm_r (e' := ob p) (by rw [ep]) ⟨it, nm_r (e' := rg (s * 8 + a)) (by rw [et]) ⟨ib, nm_r (e' := rg (s * 8 + b)) (by rw [ebx]) ?_⟩⟩⟩⟩
  refine xv_pid hs ?_
  refine ⟨ip, nm_r (e' := 10) (by rw [ep, ek]) ?_⟩
  refine br_f (by decide) (br_f (by decide) (br_f (by decide) (br_t rfl (?_))))
  unfold wpX_spawnFrom
  refine xv_free hN ?_
  refine am_oge (fun f e => by have := (am_fs_some e).1; omega) (fun f e => ?_) (fun e => ?_)
  · rw [e]
    have f8 := (am_fs_some e).1
    exact xs_start (by omega) ⟨it, nm_r (by rw [et]) (h f e)⟩
  · exact ⟨it, nm_r (by rw [et]) (h0 e)⟩
theorem xa_11 {F : SX → Prop} {s p a b : Nat} (hs : s < 8) (hp : p < 64) (ha : a ≤ 7) (hb : b < 8) (ea : oa p = nI a) (eb : ob p &&& 7 = nI b) (ek : op p = 11) {r : Int32} {u1 : SX} (hX : ∀ post : Int32 → SX → Prop, post r u1 → wpX_sendValue post (fl, nI N, nI cap, nI Q, nI CS, nI cc, nI now, nI tc, op, oa, ob, oc, st, gn, lr, rg, pc, tr, wt, dl, mc, mk, mf, mv, ms, lm, mon, par, ce, ct, ca, sg, mx, wd, cn, cl, rc, rk, tp, tv, cnt) (rg (s * 8 + a)) (gn s * 8 + nI s) (rg (s * 8 + b))) (h : F u1) : wpX_act F (fl, nI N, nI cap, nI Q, nI CS, nI cc, nI now, nI tc, op, oa, ob, oc, st, gn, lr, rg, pc, tr, wt, dl, mc, mk, mf, mv, ms, lm, mon, par, ce, ct, ca, sg, mx, wd, cn, cl, rc, rk, tp, tv, cnt) (nI s) (nI p) := by
  have i1 : vp_in (nI s) 8 := vp_in_nI hs (by omega)
  have e1 : (nI s).toNatClampNeg = s := nI_clamp (by omega)
  have ip : vp_in (nI p) 64 := vp_in_nI hp (by omega)
  have ep : (nI p).toNatClampNeg = p := nI_clamp (by omega)
  have it : vp_in (nI (s * 8 + a)) 64 := vp_in_nI (by omega) (by omega)
  have et : (nI (s * 8 + a)).toNatClampNeg = s * 8 + a := nI_clamp (by omega)
  have ib : vp_in (nI s * 8 + (ob p &&& 7)) 64 := by rw [eb]; exact pk_in (s * 8 + b) 64 (by omega) (am_8 s b)
  have ebx : (nI s * 8 + (ob p &&& 7)).toNatClampNeg = s * 8 + b := by rw [eb, am_8, nI_clamp (by omega)]
  refine ⟨ip, nm_r (e' := nI (s * 8 + a)) (by rw [ep, ea, am_8]) ⟨ip, nm_r (e' := ob p) (by rw [ep]) ⟨it, nm_r (e' := rg (s * 8 + a)) (by rw [et]) ⟨ib, nm_r (e' := rg (s * 8 + b)) (by rw [ebx]) ?_⟩⟩⟩⟩
  refine xv_pid hs ?_
  refine ⟨ip, nm_r (e' := 11) (by rw [ep, ek]) ?_⟩
  exact br_f (by decide) (br_f (by decide) (br_f (by decide) (br_f (by decide) (br_t rfl (hX _ h)))))
theorem xa_13 {F : SX → Prop} {s p a b : Nat} (hs : s < 8) (hp : p < 64) (ha : a ≤ 7) (hb : b < 8) (ea : oa p = nI a) (eb : ob p &&& 7 = nI b) (ek : op p = 13) {r : Int32} {u1 : SX} (hX : ∀ post : Int32 → SX → Prop, post r u1 → wpX_relateFrom post (fl, nI N, nI cap, nI Q, nI CS, nI cc, nI now, nI tc, op, oa, ob, oc, st, gn, lr, rg, pc, tr, wt, dl, mc, mk, mf, mv, ms, lm, mon, par, ce, ct, ca, sg, mx, wd, cn, cl, rc, rk, tp, tv, cnt) (nI 0) (nI s) (rg (s * 8 + a))) (h : F u1) : wpX_act F (fl, nI N, nI cap, nI Q, nI CS, nI cc, nI now, nI tc, op, oa, ob, oc, st, gn, lr, rg, pc, tr, wt, dl, mc, mk, mf, mv, ms, lm, mon, par, ce, ct, ca, sg, mx, wd, cn, cl, rc, rk, tp, tv, cnt) (nI s) (nI p) := by
  have i1 : vp_in (nI s) 8 := vp_in_nI hs (by omega)
  have e1 : (nI s).toNatClampNeg = s := nI_clamp (by omega)
  have ip : vp_in (nI p) 64 := vp_in_nI hp (by omega)
  have ep : (nI p).toNatClampNeg = p := nI_clamp (by omega)
  have it : vp_in (nI (s * 8 + a)) 64 := vp_in_nI (by omega) (by omega)
  have et : (nI (s * 8 + a)).toNatClampNeg = s * 8 + a := nI_clamp (by omega)
  have ib : vp_in (nI s * 8 + (ob p &&& 7)) 64 := by rw [eb]; exact pk_in (s * 8 + b) 64 (by omega) (am_8 s b)
  have ebx : (nI s * 8 + (ob p &&& 7)).toNatClampNeg = s * 8 + b := by rw [eb, am_8, nI_clamp (by omega)]
  refine ⟨ip, nm_r (e' := nI (s * 8 + a)) (by rw [ep, ea, am_8]) ⟨ip, nm_r (e' := ob p) (by rw [ep]) ⟨it, nm_r (e' := rg (s * 8 + a)) (by rw [et]) ⟨ib, nm_r (e' := rg (s * 8 + b)) (by rw [ebx]) ?_⟩⟩⟩⟩
  refine xv_pid hs ?_
  refine ⟨ip, nm_r (e' := 13) (by rw [ep, ek]) ?_⟩
  exact br_f (by decide) (br_f (by decide) (br_f (by decide) (br_f (by decide) (br_f (by decide) (br_f (by decide) (br_t rfl (hX _ h)))))))
theorem xa_14 {F : SX → Prop} {s p a b : Nat} (hs : s < 8) (hp : p < 64) (ha : a ≤ 7) (hb : b < 8) (ea : oa p = nI a) (eb : ob p &&& 7 = nI b) (ek : op p = 14) {r : Int32} {u1 : SX} (hX : ∀ post : Int32 → SX → Prop, post r u1 → wpX_relateFrom post (fl, nI N, nI cap, nI Q, nI CS, nI cc, nI now, nI tc, op, oa, ob, oc, st, gn, lr, rg, pc, tr, wt, dl, mc, mk, mf, mv, ms, lm, mon, par, ce, ct, ca, sg, mx, wd, cn, cl, rc, rk, tp, tv, cnt) (nI 1) (nI s) (rg (s * 8 + a))) (h : F u1) : wpX_act F (fl, nI N, nI cap, nI Q, nI CS, nI cc, nI now, nI tc, op, oa, ob, oc, st, gn, lr, rg, pc, tr, wt, dl, mc, mk, mf, mv, ms, lm, mon, par, ce, ct, ca, sg, mx, wd, cn, cl, rc, rk, tp, tv, cnt) (nI s) (nI p) := by
  have i1 : vp_in (nI s) 8 := vp_in_nI hs (by omega)
  have e1 : (nI s).toNatClampNeg = s := nI_clamp (by omega)
  have ip : vp_in (nI p) 64 := vp_in_nI hp (by omega)
  have ep : (nI p).toNatClampNeg = p := nI_clamp (by omega)
  have it : vp_in (nI (s * 8 + a)) 64 := vp_in_nI (by omega) (by omega)
  have et : (nI (s * 8 + a)).toNatClampNeg = s * 8 + a := nI_clamp (by omega)
  have ib : vp_in (nI s * 8 + (ob p &&& 7)) 64 := by rw [eb]; exact pk_in (s * 8 + b) 64 (by omega) (am_8 s b)
  have ebx : (nI s * 8 + (ob p &&& 7)).toNatClampNeg = s * 8 + b := by rw [eb, am_8, nI_clamp (by omega)]
  refine ⟨ip, nm_r (e' := nI (s * 8 + a)) (by rw [ep, ea, am_8]) ⟨ip, nm_r (e' := ob p) (by rw [ep]) ⟨it, nm_r (e' := rg (s * 8 + a)) (by rw [et]) ⟨ib, nm_r (e' := rg (s * 8 + b)) (by rw [ebx]) ?_⟩⟩⟩⟩
  refine xv_pid hs ?_
  refine ⟨ip, nm_r (e' := 14) (by rw [ep, ek]) ?_⟩
  exact br_f (by decide) (br_f (by decide) (br_f (by decide) (br_f (by decide) (br_f (by decide) (br_f (by decide) (br_f (by decide) (br_t rfl (hX _ h))))))))
theorem xa_15 {F : SX → Prop} {s p a b : Nat} (hs : s < 8) (hp : p < 64) (ha : a ≤ 7) (hb : b < 8) (ea : oa p = nI a) (eb : ob p &&& 7 = nI b) (ek : op p = 15) {r : Int32} {u1 : SX} (hX : ∀ post : Int32 → SX → Prop, post r u1 → wpX_relateFrom post (fl, nI N, nI cap, nI Q, nI CS, nI cc, nI now, nI tc, op, oa, ob, oc, st, gn, lr, rg, pc, tr, wt, dl, mc, mk, mf, mv, ms, lm, mon, par, ce, ct, ca, sg, mx, wd, cn, cl, rc, rk, tp, tv, cnt) (nI 2) (nI s) (rg (s * 8 + a))) (h : F u1) : wpX_act F (fl, nI N, nI cap, nI Q, nI CS, nI cc, nI now, nI tc, op, oa, ob, oc, st, gn, lr, rg, pc, tr, wt, dl, mc, mk, mf, mv, ms, lm, mon, par, ce, ct, ca, sg, mx, wd, cn, cl, rc, rk, tp, tv, cnt) (nI s) (nI p) := by
  have i1 : vp_in (nI s) 8 := vp_in_nI hs (by omega)
  have e1 : (nI s).toNatClampNeg = s := nI_clamp (by omega)
  have ip : vp_in (nI p) 64 := vp_in_nI hp (by omega)
  have ep : (nI p).toNatClampNeg = p := nI_clamp (by omega)
  have it : vp_in (nI (s * 8 + a)) 64 := vp_in_nI (by omega) (by omega)
  have et : (nI (s * 8 + a)).toNatClampNeg = s * 8 + a := nI_clamp (by omega)
  have ib : vp_in (nI s * 8 + (ob p &&& 7)) 64 := by rw [eb]; exact pk_in (s * 8 + b) 64 (by omega) (am_8 s b)
  have ebx : (nI s * 8 + (ob p &&& 7)).toNatClampNeg = s * 8 + b := by rw [eb, am_8, nI_clamp (by omega)]
  refine ⟨ip, nm_r (e' := nI (s * 8 + a)) (by rw [ep, ea, am_8]) ⟨ip, nm_r (e' := ob p) (by rw [ep]) ⟨it, nm_r (e' := rg (s * 8 + a)) (by rw [et]) ⟨ib, nm_r (e' := rg (s * 8 + b)) (by rw [ebx]) ?_⟩⟩⟩⟩
  refine xv_pid hs ?_
  refine ⟨ip, nm_r (e' := 15) (by rw [ep, ek]) ?_⟩
  exact br_f (by decide) (br_f (by decide) (br_f (by decide) (br_f (by decide) (br_f (by decide) (br_f (by decide) (br_f (by decide) (br_f (by decide) (br_t rfl (hX _ h)))))))))
theorem xa_16 {F : SX → Prop} {s p a b : Nat} (hs : s < 8) (hp : p < 64) (ha : a ≤ 7) (hb : b < 8) (ea : oa p = nI a) (eb : ob p &&& 7 = nI b) (ek : op p = 16) {r : Int32} {u1 : SX} (hX : ∀ post : Int32 → SX → Prop, post r u1 → wpX_relateFrom post (fl, nI N, nI cap, nI Q, nI CS, nI cc, nI now, nI tc, op, oa, ob, oc, st, gn, lr, rg, pc, tr, wt, dl, mc, mk, mf, mv, ms, lm, mon, par, ce, ct, ca, sg, mx, wd, cn, cl, rc, rk, tp, tv, cnt) (nI 3) (nI s) (rg (s * 8 + a))) (h : F u1) : wpX_act F (fl, nI N, nI cap, nI Q, nI CS, nI cc, nI now, nI tc, op, oa, ob, oc, st, gn, lr, rg, pc, tr, wt, dl, mc, mk, mf, mv, ms, lm, mon, par, ce, ct, ca, sg, mx, wd, cn, cl, rc, rk, tp, tv, cnt) (nI s) (nI p) := by
  have i1 : vp_in (nI s) 8 := vp_in_nI hs (by omega)
  have e1 : (nI s).toNatClampNeg = s := nI_clamp (by omega)
  have ip : vp_in (nI p) 64 := vp_in_nI hp (by omega)
  have ep : (nI p).toNatClampNeg = p := nI_clamp (by omega)
  have it : vp_in (nI (s * 8 + a)) 64 := vp_in_nI (by omega) (by omega)
  have et : (nI (s * 8 + a)).toNatClampNeg = s * 8 + a := nI_clamp (by omega)
  have ib : vp_in (nI s * 8 + (ob p &&& 7)) 64 := by rw [eb]; exact pk_in (s * 8 + b) 64 (by omega) (am_8 s b)
  have ebx : (nI s * 8 + (ob p &&& 7)).toNatClampNeg = s * 8 + b := by rw [eb, am_8, nI_clamp (by omega)]
  refine ⟨ip, nm_r (e' := nI (s * 8 + a)) (by rw [ep, ea, am_8]) ⟨ip, nm_r (e' := ob p) (by rw [ep]) ⟨it, nm_r (e' := rg (s * 8 + a)) (by rw [et]) ⟨ib, nm_r (e' := rg (s * 8 + b)) (by rw [ebx]) ?_⟩⟩⟩⟩
  refine xv_pid hs ?_
  refine ⟨ip, nm_r (e' := 16) (by rw [ep, ek]) ?_⟩
  exact br_f (by decide) (br_f (by decide) (br_f (by decide) (br_f (by decide) (br_f (by decide) (br_f (by decide) (br_f (by decide) (br_f (by decide) (br_f (by decide) (br_t rfl (hX _ h))))))))))
theorem xa_17 {F : SX → Prop} {s p a b : Nat} (hs : s < 8) (hp : p < 64) (ha : a ≤ 7) (hb : b < 8) (ea : oa p = nI a) (eb : ob p &&& 7 = nI b) (ek : op p = 17) (h1 : ob p = 1 → F (fl, nI N, nI cap, nI Q, nI CS, nI cc, nI now, nI tc, op, oa, ob, oc, st, gn, lr, rg, pc, upd tr s 1, wt, dl, mc, mk, mf, mv, ms, lm, mon, par, ce, ct, ca, sg, mx, wd, cn, cl, rc, rk, tp, tv, cnt)) (h0 : ¬ ob p = 1 → F (fl, nI N, nI cap, nI Q, nI CS, nI cc, nI now, nI tc, op, oa, ob, oc, st, gn, lr, rg, pc, upd tr s 0, wt, dl, mc, mk, mf, mv, ms, lm, mon, par, ce, ct, ca, sg, mx, wd, cn, cl, rc, rk, tp, tv, cnt)) : wpX_act F (fl, nI N, nI cap, nI Q, nI CS, nI cc, nI now, nI tc, op, oa, ob, oc, st, gn, lr, rg, pc, tr, wt, dl, mc, mk, mf, mv, ms, lm, mon, par, ce, ct, ca, sg, mx, wd, cn, cl, rc, rk, tp, tv, cnt) (nI s) (nI p) := by
  have i1 : vp_in (nI s) 8 := vp_in_nI hs (by omega)
  have e1 : (nI s).toNatClampNeg = s := nI_clamp (by omega)
  have ip : vp_in (nI p) 64 := vp_in_nI hp (by omega)
  have ep : (nI p).toNatClampNeg = p := nI_clamp (by omega)
  have it : vp_in (nI (s * 8 + a)) 64 := vp_in_nI (by omega) (by omega)
  have et : (nI (s * 8 + a)).toNatClampNeg = s * 8 + a := nI_clamp (by omega)
  have ib : vp_in (nI s * 8 + (ob p &&& 7)) 64 := by rw [eb]; exact pk_in (s * 8 + b) 64 (by omega) (am_8 s b)
  have ebx : (nI s * 8 + (ob p &&& 7)).toNatClampNeg = s * 8 + b := by rw [eb, am_8, nI_clamp (by omega)]
  refine ⟨ip, nm_r (e' := nI (s * 8 + a)) (by rw [ep, ea, am_8]) ⟨ip, nm_r (e' := ob p) (by rw [ep]) ⟨it, nm_r (e' := rg (s * 8 + a)) (by rw [et]) ⟨ib, nm_r (e' := rg (s * 8 + b)) (by rw [ebx]) ?_⟩⟩⟩⟩
  refine xv_pid hs ?_
  refine ⟨ip, nm_r (e' := 17) (by rw [ep, ek]) ?_⟩
  exact br_f (by decide) (br_f (by decide) (br_f (by decide) (br_f (by decide) (br_f (by decide) (br_f (by decide) (br_f (by decide) (br_f (by decide) (br_f (by decide) (br_f (by decide) (br_t rfl (br_c (fun q => ⟨i1, nm_r (e' := upd tr s 1) (by rw [e1, am_vb1]) (h1 q)⟩) (fun q => ⟨i1, nm_r (e' := upd tr s 0) (by rw [e1, am_vb0]) (h0 q)⟩))))))))))))
theorem xa_18 {F : SX → Prop} {s p a b : Nat} (hs : s < 8) (hp : p < 64) (ha : a ≤ 7) (hb : b < 8) (ea : oa p = nI a) (eb : ob p &&& 7 = nI b) (ek : op p = 18) {u1 : SX} (hX : ∀ post : SX → Prop, post u1 → wpX_endProcess post (fl, nI N, nI cap, nI Q, nI CS, nI cc, nI now, nI tc, op, oa, ob, oc, st, gn, lr, rg, pc, tr, wt, dl, mc, mk, mf, mv, ms, lm, mon, par, ce, ct, ca, sg, mx, wd, cn, cl, rc, rk, tp, tv, cnt) (nI s) (if rg (s * 8 + a) = 1 then 2 else rg (s * 8 + a))) (h : F u1) : wpX_act F (fl, nI N, nI cap, nI Q, nI CS, nI cc, nI now, nI tc, op, oa, ob, oc, st, gn, lr, rg, pc, tr, wt, dl, mc, mk, mf, mv, ms, lm, mon, par, ce, ct, ca, sg, mx, wd, cn, cl, rc, rk, tp, tv, cnt) (nI s) (nI p) := by
  have i1 : vp_in (nI s) 8 := vp_in_nI hs (by omega)
  have e1 : (nI s).toNatClampNeg = s := nI_clamp (by omega)
  have ip : vp_in (nI p) 64 := vp_in_nI hp (by omega)
  have ep : (nI p).toNatClampNeg = p := nI_clamp (by omega)
  have it : vp_in (nI (s * 8 + a)) 64 := vp_in_nI (by omega) (by omega)
  have et : (nI (s * 8 + a)).toNatClampNeg = s * 8 + a := nI_clamp (by omega)
  have ib : vp_in (nI s * 8 + (ob p &&& 7)) 64 := by rw [eb]; exact pk_in (s * 8 + b) 64 (by omega) (am_8 s b)
  have ebx : (nI s * 8 + (ob p &&& 7)).toNatClampNeg = s * 8 + b := by rw [eb, am_8, nI_clamp (by omega)]
  refine ⟨ip, nm_r (e' := nI (s * 8 + a)) (by rw [ep, ea, am_8]) ⟨ip, nm_r (e' := ob p) (by rw [ep]) ⟨it, nm_r (e' := rg (s * 8 + a)) (by rw [et]) ⟨ib, nm_r (e' := rg (s * 8 + b)) (by rw [ebx]) ?_⟩⟩⟩⟩
  refine xv_pid hs ?_
  refine ⟨ip, nm_r (e' := 18) (by rw [ep, ek]) ?_⟩
  refine br_f (by decide) (br_f (by decide) (br_f (by decide) (br_f (by decide) (br_f (by decide) (br_f (by decide) (br_f (by decide) (br_f (by decide) (br_f (by decide) (br_f (by decide) (br_f (by decide) (br_t rfl (?_))))))))))))
  by_cases q : rg (s * 8 + a) = 1
  · rw [if_pos q] at hX; exact br_t q (hX _ h)
  · rw [if_neg q] at hX; exact br_f q (hX _ h)
theorem xa_19 {F : SX → Prop} {s p a b : Nat} (hs : s < 8) (hp : p < 64) (ha : a ≤ 7) (hb : b < 8) (ea : oa p = nI a) (eb : ob p &&& 7 = nI b) (ek : op p = 19) {r : Int32} {u1 : SX} (hX : ∀ post : Int32 → SX → Prop, post r u1 → wpX_deliverSignal post (fl, nI N, nI cap, nI Q, nI CS, nI cc, nI now, nI tc, op, oa, ob, oc, st, gn, lr, rg, pc, tr, wt, dl, mc, mk, mf, mv, ms, lm, mon, par, ce, ct, ca, sg, mx, wd, cn, cl, rc, rk, tp, tv, cnt) (rg (s * 8 + a)) (gn s * 8 + nI s) (rg (s * 8 + b))) (h : F u1) : wpX_act F (fl, nI N, nI cap, nI Q, nI CS, nI cc, nI now, nI tc, op, oa, ob, oc, st, gn, lr, rg, pc, tr, wt, dl, mc, mk, mf, mv, ms, lm, mon, par, ce, ct, ca, sg, mx, wd, cn, cl, rc, rk, tp, tv, cnt) (nI s) (nI p) := by
  have i1 : vp_in (nI s) 8 := vp_in_nI hs (by omega)
  have e1 : (nI s).toNatClampNeg = s := nI_clamp (by omega)
  have ip : vp_in (nI p) 64 := vp_in_nI hp (by omega)
  have ep : (nI p).toNatClampNeg = p := nI_clamp (by omega)
  have it : vp_in (nI (s * 8 + a)) 64 := vp_in_nI (by omega) (by omega)
  have et : (nI (s * 8 + a)).toNatClampNeg = s * 8 + a := nI_clamp (by omega)
  have ib : vp_in (nI s * 8 + (ob p &&& 7)) 64 := by rw [eb]; exact pk_in (s * 8 + b) 64 (by omega) (am_8 s b)
  have ebx : (nI s * 8 + (ob p &&& 7)).toNatClampNeg = s * 8 + b := by rw [eb, am_8, nI_clamp (by omega)]
  refine ⟨ip, nm_r (e' := nI (s * 8 + a)) (by rw [ep, ea, am_8]) ⟨ip, nm_r (e' := ob p) (by rw [ep]) ⟨it, nm_r (e' := rg (s * 8 + a)) (by rw [et]) ⟨ib, nm_r (e' := rg (s * 8 + b)) (by rw [ebx]) ?_⟩⟩⟩⟩
  refine xv_pid hs ?_
  refine ⟨ip, nm_r (e' := 19) (by rw [ep, ek]) ?_⟩
  exact br_f (by decide) (br_f (by decide) (br_f (by decide) (br_f (by decide) (br_f (by decide) (br_f (by decide) (br_f (by decide) (br_f (by decide) (br_f (by decide) (br_f (by decide) (br_f (by decide) (br_f (by decide) (br_t rfl (hX _ h)))))))))))))
theorem xa_20 {F : SX → Prop} {s p a b : Nat} (hs : s < 8) (hp : p < 64) (ha : a ≤ 7) (hb : b < 8) (ea : oa p = nI a) (eb : ob p &&& 7 = nI b) (ek : op p = 20) (h : F (fl, nI N, nI cap, nI Q, nI CS, nI cc, nI now, nI tc, op, oa, ob, oc, st, gn, lr, rg, pc, tr, wt, dl, mc, mk, mf, mv, ms, lm, mon, par, ce, ct, ca, sg, mx, wd, cn, cl, rc, rk, tp, tv, cnt)) : wpX_act F (fl, nI N, nI cap, nI Q, nI CS, nI cc, nI now, nI tc, op, oa, ob, oc, st, gn, lr, rg, pc, tr, wt, dl, mc, mk, mf, mv, ms, lm, mon, par, ce, ct, ca, sg, mx, wd, cn, cl, rc, rk, tp, tv, cnt) (nI s) (nI p) := by
  have i1 : vp_in (nI s) 8 := vp_in_nI hs (by omega)
  have e1 : (nI s).toNatClampNeg = s := nI_clamp (by omega)
  have ip : vp_in (nI p) 64 := vp_in_nI hp (by omega)
  have ep : (nI p).toNatClampNeg = p := nI_clamp (by omega)
  have it : vp_in (nI (s * 8 + a)) 64 := vp_in_nI (by omega) (by omega)
  have et : (nI (s * 8 + a)).toNatClampNeg = s * 8 + a := nI_clamp (by omega)
  have ib : vp_in (nI s * 8 + (ob p &&& 7)) 64 := by rw [eb]; exact pk_in (s * 8 + b) 64 (by omega) (am_8 s b)
  have ebx : (nI s * 8 + (ob p &&& 7)).toNatClampNeg = s * 8 + b := by rw [eb, am_8, nI_clamp (by omega)]
  refine ⟨ip, nm_r (e' := nI (s * 8 + a)) (by rw [ep, ea, am_8]) ⟨ip, nm_r (e' := ob p) (by rw [ep]) ⟨it, nm_r (e' := rg (s * 8 + a)) (by rw [et]) ⟨ib, nm_r (e' := rg (s * 8 + b)) (by rw [ebx]) ?_⟩⟩⟩⟩
  refine xv_pid hs ?_
  refine ⟨ip, nm_r (e' := 20) (by rw [ep, ek]) ?_⟩
  exact br_f (by decide) (br_f (by decide) (br_f (by decide) (br_f (by decide) (br_f (by decide) (br_f (by decide) (br_f (by decide) (br_f (by decide) (br_f (by decide) (br_f (by decide) (br_f (by decide) (br_f (by decide) (br_f (by decide) (br_t rfl (h))))))))))))))
theorem xa_21 {F : SX → Prop} {s p a b : Nat} (hs : s < 8) (hp : p < 64) (ha : a ≤ 7) (hb : b < 8) (ea : oa p = nI a) (eb : ob p &&& 7 = nI b) (ek : op p = 21) (ht : tc ≤ 64) (h1 : tc < 64 → F (fl, nI N, nI cap, nI Q, nI CS, nI cc, nI now, nI (tc + 1), op, oa, ob, oc, st, gn, lr, rg, pc, tr, wt, dl, mc, mk, mf, mv, ms, lm, mon, par, ce, ct, ca, sg, mx, wd, cn, cl, rc, rk, upd tp tc (gn s * 8 + nI s), upd tv tc (rg (s * 8 + a)), cnt)) (h0 : ¬ tc < 64 → F (fl, nI N, nI cap, nI Q, nI CS, nI cc, nI now, nI tc, op, oa, ob, oc, st, gn, lr, rg, pc, tr, wt, dl, mc, mk, mf, mv, ms, lm, mon, par, ce, ct, ca, sg, mx, wd, cn, cl, rc, rk, tp, tv, vp_updL cnt 10 (cnt 10 + 1))) : wpX_act F (fl, nI N, nI cap, nI Q, nI CS, nI cc, nI now, nI tc, op, oa, ob, oc, st, gn, lr, rg, pc, tr, wt, dl, mc, mk, mf, mv, ms, lm, mon, par, ce, ct, ca, sg, mx, wd, cn, cl, rc, rk, tp, tv, cnt) (nI s) (nI p) := by
  have i1 : vp_in (nI s) 8 := vp_in_nI hs (by omega)
  have e1 : (nI s).toNatClampNeg = s := nI_clamp (by omega)
  have ip : vp_in (nI p) 64 := vp_in_nI hp (by omega)
  have ep : (nI p).toNatClampNeg = p := nI_clamp (by omega)
  have it : vp_in (nI (s * 8 + a)) 64 := vp_in_nI (by omega) (by omega)
  have et : (nI (s * 8 + a)).toNatClampNeg = s * 8 + a := nI_clamp (by omega)
  have ib : vp_in (nI s * 8 + (ob p &&& 7)) 64 := by rw [eb]; exact pk_in (s * 8 + b) 64 (by omega) (am_8 s b)
  have ebx : (nI s * 8 + (ob p &&& 7)).toNatClampNeg = s * 8 + b := by rw [eb, am_8, nI_clamp (by omega)]
  refine ⟨ip, nm_r (e' := nI (s * 8 + a)) (by rw [ep, ea, am_8]) ⟨ip, nm_r (e' := ob p) (by rw [ep]) ⟨it, nm_r (e' := rg (s * 8 + a)) (by rw [et]) ⟨ib, nm_r (e' := rg (s * 8 + b)) (by rw [ebx]) ?_⟩⟩⟩⟩
  refine xv_pid hs ?_
  refine ⟨ip, nm_r (e' := 21) (by rw [ep, ek]) ?_⟩
  refine br_f (by decide) (br_f (by decide) (br_f (by decide) (br_f (by decide) (br_f (by decide) (br_f (by decide) (br_f (by decide) (br_f (by decide) (br_f (by decide) (br_f (by decide) (br_f (by decide) (br_f (by decide) (br_f (by decide) (br_f (by decide) (br_t rfl (?_)))))))))))))))
  by_cases q : tc < 64
  · refine br_f (nI_ge (b := 64) q (by omega)) ⟨vp_in_nI q (by omega), nm_r (e' := upd tp tc (gn s * 8 + nI s)) (by rw [nI_clamp (by omega)]) ⟨vp_in_nI q (by omega), nm_r (e' := upd tv tc (rg (s * 8 + a))) (by rw [nI_clamp (by omega)]) (nm_r (nI_1 tc) (h1 q))⟩⟩
  · exact br_t (nI_le (a := 64) (by omega) (by omega)) (nm_e (h0 q))
theorem xc_0 {F : SX → Prop} {s p a b : Nat} (hs : s < 8) (hp : p < 64) (ha : a ≤ 7) (hb : b < 8) (ea : oa p = nI a) (eb : ob p &&& 7 = nI b) (ek : op p = 0) (h : F (fl, nI N, nI cap, nI Q, nI CS, nI cc, nI now, nI tc, op, oa, ob, oc, st, gn, lr, upd rg (s * 8 + a) (ob p), pc, tr, wt, dl, mc, mk, mf, mv, ms, lm, mon, par, ce, ct, ca, sg, mx, wd, cn, cl, rc, rk, tp, tv, cnt)) : wpX_compute F (fl, nI N, nI cap, nI Q, nI CS, nI cc, nI now, nI tc, op, oa, ob, oc, st, gn, lr, rg, pc, tr, wt, dl, mc, mk, mf, mv, ms, lm, mon, par, ce, ct, ca, sg, mx, wd, cn, cl, rc, rk, tp, tv, cnt) (nI s) (nI p) := by
  have i1 : vp_in (nI s) 8 := vp_in_nI hs (by omega)
  have e1 : (nI s).toNatClampNeg = s := nI_clamp (by omega)
  have ip : vp_in (nI p) 64 := vp_in_nI hp (by omega)
  have ep : (nI p).toNatClampNeg = p := nI_clamp (by omega)
  have it : vp_in (nI (s * 8 + a)) 64 := vp_in_nI (by omega) (by omega)
  have et : (nI (s * 8 + a)).toNatClampNeg = s * 8 + a := nI_clamp (by omega)
  have ib : vp_in (nI s * 8 + (ob p &&& 7)) 64 := by rw [eb]; exact pk_in (s * 8 + b) 64 (by omega) (am_8 s b)
  have ebx : (nI s * 8 + (ob p &&& 7)).toNatClampNeg = s * 8 + b := by rw [eb, am_8, nI_clamp (by omega)]
  refine ⟨ip, nm_r (e' := nI (s * 8 + a)) (by rw [ep, ea, am_8]) ⟨ip, ?_⟩⟩
  rw [ep]
  refine ⟨ib, nm_r (e' := rg (s * 8 + b)) (by rw [ebx]) ⟨ip, nm_r (e' := 0) ek ?_⟩⟩
  exact br_f (by decide) (br_f (by decide) (br_t rfl ⟨ip, it, nm_r (by rw [et]) h⟩))
theorem xc_1 {F : SX → Prop} {s p a b : Nat} (hs : s < 8) (hp : p < 64) (ha : a ≤ 7) (hb : b < 8) (ea : oa p = nI a) (eb : ob p &&& 7 = nI b) (ek : op p = 1) (h : F (fl, nI N, nI cap, nI Q, nI CS, nI cc, nI now, nI tc, op, oa, ob, oc, st, gn, lr, upd rg (s * 8 + a) (rg (s * 8 + b)), pc, tr, wt, dl, mc, mk, mf, mv, ms, lm, mon, par, ce, ct, ca, sg, mx, wd, cn, cl, rc, rk, tp, tv, cnt)) : wpX_compute F (fl, nI N, nI cap, nI Q, nI CS, nI cc, nI now, nI tc, op, oa, ob, oc, st, gn, lr, rg, pc, tr, wt, dl, mc, mk, mf, mv, ms, lm, mon, par, ce, ct, ca, sg, mx, wd, cn, cl, rc, rk, tp, tv, cnt) (nI s) (nI p) := by
  have i1 : vp_in (nI s) 8 := vp_in_nI hs (by omega)
  have e1 : (nI s).toNatClampNeg = s := nI_clamp (by omega)
  have ip : vp_in (nI p) 64 := vp_in_nI hp (by omega)
  have ep : (nI p).toNatClampNeg = p := nI_clamp (by omega)
  have it : vp_in (nI (s * 8 + a)) 64 := vp_in_nI (by omega) (by omega)
  have et : (nI (s * 8 + a)).toNatClampNeg = s * 8 + a := nI_clamp (by omega)
  have ib : vp_in (nI s * 8 + (ob p &&& 7)) 64 := by rw [eb]; exact pk_in (s * 8 + b) 64 (by omega) (am_8 s b)
  have ebx : (nI s * 8 + (ob p &&& 7)).toNatClampNeg = s * 8 + b := by rw [eb, am_8, nI_clamp (by omega)]
  refine ⟨ip, nm_r (e' := nI (s * 8 + a)) (by rw [ep, ea, am_8]) ⟨ip, ?_⟩⟩
  rw [ep]
  refine ⟨ib, nm_r (e' := rg (s * 8 + b)) (by rw [ebx]) ⟨ip, nm_r (e' := 1) ek ?_⟩⟩
  exact br_f (by decide) (br_f (by decide) (br_f (by decide) (br_t rfl ⟨it, nm_r (by rw [et]) h⟩)))
theorem xc_2 {F : SX → Prop} {s p a b : Nat} (hs : s < 8) (hp : p < 64) (ha : a ≤ 7) (hb : b < 8) (ea : oa p = nI a) (eb : ob p &&& 7 = nI b) (ek : op p = 2) (h : F (fl, nI N, nI cap, nI Q, nI CS, nI cc, nI now, nI tc, op, oa, ob, oc, st, gn, lr, upd rg (s * 8 + a) (rg (s * 8 + a) + rg (s * 8 + b)), pc, tr, wt, dl, mc, mk, mf, mv, ms, lm, mon, par, ce, ct, ca, sg, mx, wd, cn, cl, rc, rk, tp, tv, cnt)) : wpX_compute F (fl, nI N, nI cap, nI Q, nI CS, nI cc, nI now, nI tc, op, oa, ob, oc, st, gn, lr, rg, pc, tr, wt, dl, mc, mk, mf, mv, ms, lm, mon, par, ce, ct, ca, sg, mx, wd, cn, cl, rc, rk, tp, tv, cnt) (nI s) (nI p) := by
  have i1 : vp_in (nI s) 8 := vp_in_nI hs (by omega)
  have e1 : (nI s).toNatClampNeg = s := nI_clamp (by omega)
  have ip : vp_in (nI p) 64 := vp_in_nI hp (by omega)
  have ep : (nI p).toNatClampNeg = p := nI_clamp (by omega)
  have it : vp_in (nI (s * 8 + a)) 64 := vp_in_nI (by omega) (by omega)
  have et : (nI (s * 8 + a)).toNatClampNeg = s * 8 + a := nI_clamp (by omega)
  have ib : vp_in (nI s * 8 + (ob p &&& 7)) 64 := by rw [eb]; exact pk_in (s * 8 + b) 64 (by omega) (am_8 s b)
  have ebx : (nI s * 8 + (ob p &&& 7)).toNatClampNeg = s * 8 + b := by rw [eb, am_8, nI_clamp (by omega)]
  refine ⟨ip, nm_r (e' := nI (s * 8 + a)) (by rw [ep, ea, am_8]) ⟨ip, ?_⟩⟩
  rw [ep]
  refine ⟨ib, nm_r (e' := rg (s * 8 + b)) (by rw [ebx]) ⟨ip, nm_r (e' := 2) ek ?_⟩⟩
  exact br_f (by decide) (br_f (by decide) (br_f (by decide) (br_f (by decide) (br_t rfl ⟨it, it, nm_r (by rw [et]) h⟩))))
theorem xc_3 {F : SX → Prop} {s p a b : Nat} (hs : s < 8) (hp : p < 64) (ha : a ≤ 7) (hb : b < 8) (ea : oa p = nI a) (eb : ob p &&& 7 = nI b) (ek : op p = 3) (h : F (fl, nI N, nI cap, nI Q, nI CS, nI cc, nI now, nI tc, op, oa, ob, oc, st, gn, lr, upd rg (s * 8 + a) (rg (s * 8 + a) - rg (s * 8 + b)), pc, tr, wt, dl, mc, mk, mf, mv, ms, lm, mon, par, ce, ct, ca, sg, mx, wd, cn, cl, rc, rk, tp, tv, cnt)) : wpX_compute F (fl, nI N, nI cap, nI Q, nI CS, nI cc, nI now, nI tc, op, oa, ob, oc, st, gn, lr, rg, pc, tr, wt, dl, mc, mk, mf, mv, ms, lm, mon, par, ce, ct, ca, sg, mx, wd, cn, cl, rc, rk, tp, tv, cnt) (nI s) (nI p) := by
  have i1 : vp_in (nI s) 8 := vp_in_nI hs (by omega)
  have e1 : (nI s).toNatClampNeg = s := nI_clamp (by omega)
  have ip : vp_in (nI p) 64 := vp_in_nI hp (by omega)
  have ep : (nI p).toNatClampNeg = p := nI_clamp (by omega)
  have it : vp_in (nI (s * 8 + a)) 64 := vp_in_nI (by omega) (by omega)
  have et : (nI (s * 8 + a)).toNatClampNeg = s * 8 + a := nI_clamp (by omega)
  have ib : vp_in (nI s * 8 + (ob p &&& 7)) 64 := by rw [eb]; exact pk_in (s * 8 + b) 64 (by omega) (am_8 s b)
  have ebx : (nI s * 8 + (ob p &&& 7)).toNatClampNeg = s * 8 + b := by rw [eb, am_8, nI_clamp (by omega)]
  refine ⟨ip, nm_r (e' := nI (s * 8 + a)) (by rw [ep, ea, am_8]) ⟨ip, ?_⟩⟩
  rw [ep]
  refine ⟨ib, nm_r (e' := rg (s * 8 + b)) (by rw [ebx]) ⟨ip, nm_r (e' := 3) ek ?_⟩⟩
  exact br_f (by decide) (br_f (by decide) (br_f (by decide) (br_f (by decide) (br_f (by decide) (br_t rfl ⟨it, it, nm_r (by rw [et]) h⟩)))))
theorem xc_4 {F : SX → Prop} {s p a b : Nat} (hs : s < 8) (hp : p < 64) (ha : a ≤ 7) (hb : b < 8) (ea : oa p = nI a) (eb : ob p &&& 7 = nI b) (ek : op p = 4) (h : F (fl, nI N, nI cap, nI Q, nI CS, nI cc, nI now, nI tc, op, oa, ob, oc, st, gn, lr, upd rg (s * 8 + a) (rg (s * 8 + a) * rg (s * 8 + b)), pc, tr, wt, dl, mc, mk, mf, mv, ms, lm, mon, par, ce, ct, ca, sg, mx, wd, cn, cl, rc, rk, tp, tv, cnt)) : wpX_compute F (fl, nI N, nI cap, nI Q, nI CS, nI cc, nI now, nI tc, op, oa, ob, oc, st, gn, lr, rg, pc, tr, wt, dl, mc, mk, mf, mv, ms, lm, mon, par, ce, ct, ca, sg, mx, wd, cn, cl, rc, rk, tp, tv, cnt) (nI s) (nI p) := by
  have i1 : vp_in (nI s) 8 := vp_in_nI hs (by omega)
  have e1 : (nI s).toNatClampNeg = s := nI_clamp (by omega)
  have ip : vp_in (nI p) 64 := vp_in_nI hp (by omega)
  have ep : (nI p).toNatClampNeg = p := nI_clamp (by omega)
  have it : vp_in (nI (s * 8 + a)) 64 := vp_in_nI (by omega) (by omega)
  have et : (nI (s * 8 + a)).toNatClampNeg = s * 8 + a := nI_clamp (by omega)
  have ib : vp_in (nI s * 8 + (ob p &&& 7)) 64 := by rw [eb]; exact pk_in (s * 8 + b) 64 (by omega) (am_8 s b)
  have ebx : (nI s * 8 + (ob p &&& 7)).toNatClampNeg = s * 8 + b := by rw [eb, am_8, nI_clamp (by omega)]
  refine ⟨ip, nm_r (e' := nI (s * 8 + a)) (by rw [ep, ea, am_8]) ⟨ip, ?_⟩⟩
  rw [ep]
  refine ⟨ib, nm_r (e' := rg (s * 8 + b)) (by rw [ebx]) ⟨ip, nm_r (e' := 4) ek ?_⟩⟩
  exact br_f (by decide) (br_f (by decide) (br_f (by decide) (br_f (by decide) (br_f (by decide) (br_f (by decide) (br_t rfl ⟨it, it, nm_r (by rw [et]) h⟩))))))
theorem xc_5 {F : SX → Prop} {s p a b : Nat} (hs : s < 8) (hp : p < 64) (ha : a ≤ 7) (hb : b < 8) (ea : oa p = nI a) (eb : ob p &&& 7 = nI b) (ek : op p = 5) {u1 : SX} (hX : rg (s * 8 + b) = 0 → ∀ post : SX → Prop, post u1 → wpX_endProcess post (fl, nI N, nI cap, nI Q, nI CS, nI cc, nI now, nI tc, op, oa, ob, oc, st, gn, lr, rg, pc, tr, wt, dl, mc, mk, mf, mv, ms, lm, mon, par, ce, ct, ca, sg, mx, wd, cn, cl, rc, rk, tp, tv, cnt) (nI s) 5) (h0 : rg (s * 8 + b) = 0 → F u1) (h : ¬ rg (s * 8 + b) = 0 → F (fl, nI N, nI cap, nI Q, nI CS, nI cc, nI now, nI tc, op, oa, ob, oc, st, gn, lr, upd rg (s * 8 + a) (rg (s * 8 + a) / rg (s * 8 + b)), pc, tr, wt, dl, mc, mk, mf, mv, ms, lm, mon, par, ce, ct, ca, sg, mx, wd, cn, cl, rc, rk, tp, tv, cnt)) : wpX_compute F (fl, nI N, nI cap, nI Q, nI CS, nI cc, nI now, nI tc, op, oa, ob, oc, st, gn, lr, rg, pc, tr, wt, dl, mc, mk, mf, mv, ms, lm, mon, par, ce, ct, ca, sg, mx, wd, cn, cl, rc, rk, tp, tv, cnt) (nI s) (nI p) := by
  have i1 : vp_in (nI s) 8 := vp_in_nI hs (by omega)
  have e1 : (nI s).toNatClampNeg = s := nI_clamp (by omega)
  have ip : vp_in (nI p) 64 := vp_in_nI hp (by omega)
  have ep : (nI p).toNatClampNeg = p := nI_clamp (by omega)
  have it : vp_in (nI (s * 8 + a)) 64 := vp_in_nI (by omega) (by omega)
  have et : (nI (s * 8 + a)).toNatClampNeg = s * 8 + a := nI_clamp (by omega)
  have ib : vp_in (nI s * 8 + (ob p &&& 7)) 64 := by rw [eb]; exact pk_in (s * 8 + b) 64 (by omega) (am_8 s b)
  have ebx : (nI s * 8 + (ob p &&& 7)).toNatClampNeg = s * 8 + b := by rw [eb, am_8, nI_clamp (by omega)]
  refine ⟨ip, nm_r (e' := nI (s * 8 + a)) (by rw [ep, ea, am_8]) ⟨ip, ?_⟩⟩
  rw [ep]
  refine ⟨ib, nm_r (e' := rg (s * 8 + b)) (by rw [ebx]) ⟨ip, nm_r (e' := 5) ek ?_⟩⟩
  exact br_f (by decide) (br_t (by decide) (br_c (fun q => hX q _ (h0 q)) (fun q => ⟨it, q, it, nm_r (by rw [et]) (h q)⟩)))
theorem xj_6 {F : SX → Prop} {s p a b : Nat} (hs : s < 8) (hp : p < 64) (ha : a ≤ 7) (hb : b < 8) (ea : oa p = nI a) (eb : ob p &&& 7 = nI b) (ek : op p = 6) (h1 : (True) → F (fl, nI N, nI cap, nI Q, nI CS, nI cc, nI now, nI tc, op, oa, ob, oc, st, gn, lr, rg, upd pc s (ob p), tr, wt, dl, mc, mk, mf, mv, ms, lm, mon, par, ce, ct, ca, sg, mx, wd, cn, cl, rc, rk, tp, tv, cnt)) (h0 : ¬ (True) → F (fl, nI N, nI cap, nI Q, nI CS, nI cc, nI now, nI tc, op, oa, ob, oc, st, gn, lr, rg, pc, tr, wt, dl, mc, mk, mf, mv, ms, lm, mon, par, ce, ct, ca, sg, mx, wd, cn, cl, rc, rk, tp, tv, cnt)) : wpX_jump F (fl, nI N, nI cap, nI Q, nI CS, nI cc, nI now, nI tc, op, oa, ob, oc, st, gn, lr, rg, pc, tr, wt, dl, mc, mk, mf, mv, ms, lm, mon, par, ce, ct, ca, sg, mx, wd, cn, cl, rc, rk, tp, tv, cnt) (nI s) (nI p) := by
  have i1 : vp_in (nI s) 8 := vp_in_nI hs (by omega)
  have e1 : (nI s).toNatClampNeg = s := nI_clamp (by omega)
  have ip : vp_in (nI p) 64 := vp_in_nI hp (by omega)
  have ep : (nI p).toNatClampNeg = p := nI_clamp (by omega)
  have it : vp_in (nI (s * 8 + a)) 64 := vp_in_nI (by omega) (by omega)
  have et : (nI (s * 8 + a)).toNatClampNeg = s * 8 + a := nI_clamp (by omega)
  have ib : vp_in (nI s * 8 + (ob p &&& 7)) 64 := by rw [eb]; exact pk_in (s * 8 + b) 64 (by omega) (am_8 s b)
  have ebx : (nI s * 8 + (ob p &&& 7)).toNatClampNeg = s * 8 + b := by rw [eb, am_8, nI_clamp (by omega)]
  have e8 : nI s * 8 + oa p = nI (s * 8 + a) := by rw [ea, am_8]
  refine ⟨ip, nm_r (e' := 6) (by rw [ep, ek]) ⟨ip, ?_⟩⟩
  rw [ep, e8]
  refine ⟨it, nm_r (e' := rg (s * 8 + a)) (by rw [et]) ?_⟩
  exact br_t rfl ⟨ip, i1, nm_r (e' := upd pc s (ob p)) (by rw [e1, ep]) (h1 trivial)⟩
theorem xj_7 {F : SX → Prop} {s p a b : Nat} (hs : s < 8) (hp : p < 64) (ha : a ≤ 7) (hb : b < 8) (ea : oa p = nI a) (eb : ob p &&& 7 = nI b) (ek : op p = 7) (h1 : (rg (s * 8 + a) = 0) → F (fl, nI N, nI cap, nI Q, nI CS, nI cc, nI now, nI tc, op, oa, ob, oc, st, gn, lr, rg, upd pc s (ob p), tr, wt, dl, mc, mk, mf, mv, ms, lm, mon, par, ce, ct, ca, sg, mx, wd, cn, cl, rc, rk, tp, tv, cnt)) (h0 : ¬ (rg (s * 8 + a) = 0) → F (fl, nI N, nI cap, nI Q, nI CS, nI cc, nI now, nI tc, op, oa, ob, oc, st, gn, lr, rg, pc, tr, wt, dl, mc, mk, mf, mv, ms, lm, mon, par, ce, ct, ca, sg, mx, wd, cn, cl, rc, rk, tp, tv, cnt)) : wpX_jump F (fl, nI N, nI cap, nI Q, nI CS, nI cc, nI now, nI tc, op, oa, ob, oc, st, gn, lr, rg, pc, tr, wt, dl, mc, mk, mf, mv, ms, lm, mon, par, ce, ct, ca, sg, mx, wd, cn, cl, rc, rk, tp, tv, cnt) (nI s) (nI p) := by
  have i1 : vp_in (nI s) 8 := vp_in_nI hs (by omega)
  have e1 : (nI s).toNatClampNeg = s := nI_clamp (by omega)
  have ip : vp_in (nI p) 64 := vp_in_nI hp (by omega)
  have ep : (nI p).toNatClampNeg = p := nI_clamp (by omega)
  have it : vp_in (nI (s * 8 + a)) 64 := vp_in_nI (by omega) (by omega)
  have et : (nI (s * 8 + a)).toNatClampNeg = s * 8 + a := nI_clamp (by omega)
  have ib : vp_in (nI s * 8 + (ob p &&& 7)) 64 := by rw [eb]; exact pk_in (s * 8 + b) 64 (by omega) (am_8 s b)
  have ebx : (nI s * 8 + (ob p &&& 7)).toNatClampNeg = s * 8 + b := by rw [eb, am_8, nI_clamp (by omega)]
  have e8 : nI s * 8 + oa p = nI (s * 8 + a) := by rw [ea, am_8]
  refine ⟨ip, nm_r (e' := 7) (by rw [ep, ek]) ⟨ip, ?_⟩⟩
  rw [ep, e8]
  refine ⟨it, nm_r (e' := rg (s * 8 + a)) (by rw [et]) ?_⟩
  exact br_f (by decide) (br_t rfl (br_c (fun q => ⟨ip, i1, nm_r (e' := upd pc s (ob p)) (by rw [e1, ep]) (h1 q)⟩) (fun q => br_f (by decide) (h0 q))))
theorem xj_8 {F : SX → Prop} {s p a b : Nat} (hs : s < 8) (hp : p < 64) (ha : a ≤ 7) (hb : b < 8) (ea : oa p = nI a) (eb : ob p &&& 7 = nI b) (ek : op p = 8) (h1 : (rg (s * 8 + a) < 0) → F (fl, nI N, nI cap, nI Q, nI CS, nI cc, nI now, nI tc, op, oa, ob, oc, st, gn, lr, rg, upd pc s (ob p), tr, wt, dl, mc, mk, mf, mv, ms, lm, mon, par, ce, ct, ca, sg, mx, wd, cn, cl, rc, rk, tp, tv, cnt)) (h0 : ¬ (rg (s * 8 + a) < 0) → F (fl, nI N, nI cap, nI Q, nI CS, nI cc, nI now, nI tc, op, oa, ob, oc, st, gn, lr, rg, pc, tr, wt, dl, mc, mk, mf, mv, ms, lm, mon, par, ce, ct, ca, sg, mx, wd, cn, cl, rc, rk, tp, tv, cnt)) : wpX_jump F (fl, nI N, nI cap, nI Q, nI CS, nI cc, nI now, nI tc, op, oa, ob, oc, st, gn, lr, rg, pc, tr, wt, dl, mc, mk, mf, mv, ms, lm, mon, par, ce, ct, ca, sg, mx, wd, cn, cl, rc, rk, tp, tv, cnt) (nI s) (nI p) := by
  have i1 : vp_in (nI s) 8 := vp_in_nI hs (by omega)
  have e1 : (nI s).toNatClampNeg = s := nI_clamp (by omega)
  have ip : vp_in (nI p) 64 := vp_in_nI hp (by omega)
  have ep : (nI p).toNatClampNeg = p := nI_clamp (by omega)
  have it : vp_in (nI (s * 8 + a)) 64 := vp_in_nI (by omega) (by omega)
  have et : (nI (s * 8 + a)).toNatClampNeg = s * 8 + a := nI_clamp (by omega)
  have ib : vp_in (nI s * 8 + (ob p &&& 7)) 64 := by rw [eb]; exact pk_in (s * 8 + b) 64 (by omega) (am_8 s b)
  have ebx : (nI s * 8 + (ob p &&& 7)).toNatClampNeg = s * 8 + b := by rw [eb, am_8, nI_clamp (by omega)]
  have e8 : nI s * 8 + oa p = nI (s * 8 + a) := by rw [ea, am_8]
  refine ⟨ip, nm_r (e' := 8) (by rw [ep, ek]) ⟨ip, ?_⟩⟩
  rw [ep, e8]
  refine ⟨it, nm_r (e' := rg (s * 8 + a)) (by rw [et]) ?_⟩
  exact br_f (by decide) (br_f (by decide) (br_t rfl (br_c (fun q => h0 (Int32.not_lt.mpr q)) (fun q => ⟨ip, i1, nm_r (e' := upd pc s (ob p)) (by rw [e1, ep]) (h1 (Int32.not_le.mp q))⟩))))
end XO
end
section
/-! 31: the instructions, the reference's side (printed by genops.py) -/
section YO
variable {N cap Q CS cc now tc kn : Nat} {fl : Int32} {op oa ob oc st gn lr rg pc tr wt dl mc mk mf mv lm mon par ce ct ca sg mx wd cn cl rc rk tp tv wa dy kd rs lk cel trd : Nat → Int32} {ms cnt : Nat → Int64}
theorem yo_1 {post : Int32 → SY → Prop} {s p a b : Nat} (hs : s < 8) (ha : a ≤ 7) (h : post 0 (nI N, nI cap, nI Q, nI CS, nI now, nI cc, nI tc, nI kn, st, gn, lr, pc, wa, dy, tr, par, ce, ct, ca, kd, sg, mx, wd, rs, upd rg (s * 8 + a) (rg (s * 8 + b)), mon, lk, mc, mk, mf, mv, ms, cel, trd, cnt)) : wY_step_97 post (nI s) 1 (nI (s * 8 + a)) (ob p) (rg (s * 8 + a)) (rg (s * 8 + b)) (gn s * 8 + nI s) (nI N) (nI cap) (nI Q) (nI CS) (nI now) (nI cc) (nI tc) (nI kn) st gn lr pc wa dy tr par ce ct ca kd sg mx wd rs rg mon lk mc mk mf mv ms cel trd cnt := by
  have i1 : vp_in (nI s) 8 := vp_in_nI hs (by omega)
  have e1 : (nI s).toNatClampNeg = s := nI_clamp (by omega)
  have it : vp_in (nI (s * 8 + a)) 64 := vp_in_nI (by omega) (by omega)
  have et : (nI (s * 8 + a)).toNatClampNeg = s * 8 + a := nI_clamp (by omega)
  exact br_t rfl ⟨it, nm_r (e' := upd rg (s * 8 + a) (rg (s * 8 + b))) (by rw [et]) (br_f (by decide) (br_f (by decide) (br_f (by decide) (br_f (by decide) (br_f (by decide) (br_f (by decide) (br_f (by decide) (br_f (by decide) (br_f (by decide) (br_f (by decide) (br_t (by decide) (br_f (by decide) (br_f (by decide) (br_f (by decide) (br_f (by decide) (br_f (by decide) (br_f (by decide) (h))))))))))))))))))⟩
theorem yo_2 {post : Int32 → SY → Prop} {s p a b : Nat} (hs : s < 8) (ha : a ≤ 7) (h : post 0 (nI N, nI cap, nI Q, nI CS, nI now, nI cc, nI tc, nI kn, st, gn, lr, pc, wa, dy, tr, par, ce, ct, ca, kd, sg, mx, wd, rs, upd rg (s * 8 + a) (rg (s * 8 + a) + rg (s * 8 + b)), mon, lk, mc, mk, mf, mv, ms, cel, trd, cnt)) : wY_step_97 post (nI s) 2 (nI (s * 8 + a)) (ob p) (rg (s * 8 + a)) (rg (s * 8 + b)) (gn s * 8 + nI s) (nI N) (nI cap) (nI Q) (nI CS) (nI now) (nI cc) (nI tc) (nI kn) st gn lr pc wa dy tr par ce ct ca kd sg mx wd rs rg mon lk mc mk mf mv ms cel trd cnt := by
  have i1 : vp_in (nI s) 8 := vp_in_nI hs (by omega)
  have e1 : (nI s).toNatClampNeg = s := nI_clamp (by omega)
  have it : vp_in (nI (s * 8 + a)) 64 := vp_in_nI (by omega) (by omega)
  have et : (nI (s * 8 + a)).toNatClampNeg = s * 8 + a := nI_clamp (by omega)
  exact br_f (by decide) (br_t rfl ⟨it, nm_r (e' := upd rg (s * 8 + a) (rg (s * 8 + a) + rg (s * 8 + b))) (by rw [et]) (br_f (by decide) (br_f (by decide) (br_f (by decide) (br_f (by decide) (br_f (by decide) (br_f (by decide) (br_f (by decide) (br_f (by decide) (br_f (by decide) (br_t (by decide) (br_f (by decide) (br_f (by decide) (br_f (by decide) (br_f (by decide) (br_f (by decide) (br_f (by decide) (h)))))))))))))))))⟩)
theorem yo_3 {post : Int32 → SY → Prop} {s p a b : Nat} (hs : s < 8) (ha : a ≤ 7) (h : post 0 (nI N, nI cap, nI Q, nI CS, nI now, nI cc, nI tc, nI kn, st, gn, lr, pc, wa, dy, tr, par, ce, ct, ca, kd, sg, mx, wd, rs, upd rg (s * 8 + a) (rg (s * 8 + a) - rg (s * 8 + b)), mon, lk, mc, mk, mf, mv, ms, cel, trd, cnt)) : wY_step_97 post (nI s) 3 (nI (s * 8 + a)) (ob p) (rg (s * 8 + a)) (rg (s * 8 + b)) (gn s * 8 + nI s) (nI N) (nI cap) (nI Q) (nI CS) (nI now) (nI cc) (nI tc) (nI kn) st gn lr pc wa dy tr par ce ct ca kd sg mx wd rs rg mon lk mc mk mf mv ms cel trd cnt := by
  have i1 : vp_in (nI s) 8 := vp_in_nI hs (by omega)
  have e1 : (nI s).toNatClampNeg = s := nI_clamp (by omega)
  have it : vp_in (nI (s * 8 + a)) 64 := vp_in_nI (by omega) (by omega)
  have et : (nI (s * 8 + a)).toNatClampNeg = s * 8 + a := nI_clamp (by omega)
  exact br_f (by decide) (br_f (by decide) (br_t rfl ⟨it, nm_r (e' := upd rg (s * 8 + a) (rg (s * 8 + a) - rg (s * 8 + b))) (by rw [et]) (br_f (by decide) (br_f (by decide) (br_f (by decide) (br_f (by decide) (br_f (by decide) (br_f (by decide) (br_f (by decide) (br_f (by decide) (br_t (by decide) (br_f (by decide) (br_f (by decide) (br_f (by decide) (br_f (by decide) (br_f (by decide) (br_f (by decide) (h))))))))))))))))⟩))
theorem yo_4 {post : Int32 → SY → Prop} {s p a b : Nat} (hs : s < 8) (ha : a ≤ 7) (h : post 0 (nI N, nI cap, nI Q, nI CS, nI now, nI cc, nI tc, nI kn, st, gn, lr, pc, wa, dy, tr, par, ce, ct, ca, kd, sg, mx, wd, rs, upd rg (s * 8 + a) (rg (s * 8 + a) * rg (s * 8 + b)), mon, lk, mc, mk, mf, mv, ms, cel, trd, cnt)) : wY_step_97 post (nI s) 4 (nI (s * 8 + a)) (ob p) (rg (s * 8 + a)) (rg (s * 8 + b)) (gn s * 8 + nI s) (nI N) (nI cap) (nI Q) (nI CS) (nI now) (nI cc) (nI tc) (nI kn) st gn lr pc wa dy tr par ce ct ca kd sg mx wd rs rg mon lk mc mk mf mv ms cel trd cnt := by
  have i1 : vp_in (nI s) 8 := vp_in_nI hs (by omega)
  have e1 : (nI s).toNatClampNeg = s := nI_clamp (by omega)
  have it : vp_in (nI (s * 8 + a)) 64 := vp_in_nI (by omega) (by omega)
  have et : (nI (s * 8 + a)).toNatClampNeg = s * 8 + a := nI_clamp (by omega)
  exact br_f (by decide) (br_f (by decide) (br_f (by decide) (br_t rfl ⟨it, nm_r (e' := upd rg (s * 8 + a) (rg (s * 8 + a) * rg (s * 8 + b))) (by rw [et]) (br_f (by decide) (br_f (by decide) (br_f (by decide) (br_f (by decide) (br_f (by decide) (br_f (by decide) (br_f (by decide) (br_t (by decide) (br_f (by decide) (br_f (by decide) (br_f (by decide) (br_f (by decide) (br_f (by decide) (br_f (by decide) (h)))))))))))))))⟩)))
theorem yo_5 {post : Int32 → SY → Prop} {s p a b : Nat} (hs : s < 8) (ha : a ≤ 7) {v1 : SY} (hY : rg (s * 8 + b) = 0 → ∀ post : SY → Prop, post v1 → wpY_end post (nI N, nI cap, nI Q, nI CS, nI now, nI cc, nI tc, nI kn, st, gn, lr, pc, wa, dy, tr, par, ce, ct, ca, kd, sg, mx, wd, rs, rg, mon, lk, mc, mk, mf, mv, ms, cel, trd, cnt) (am_one s) 5) (h0 : rg (s * 8 + b) = 0 → post 0 v1) (h : ¬ rg (s * 8 + b) = 0 → post 0 (nI N, nI cap, nI Q, nI CS, nI now, nI cc, nI tc, nI kn, st, gn, lr, pc, wa, dy, tr, par, ce, ct, ca, kd, sg, mx, wd, rs, upd rg (s * 8 + a) (rg (s * 8 + a) / rg (s * 8 + b)), mon, lk, mc, mk, mf, mv, ms, cel, trd, cnt)) : wY_step_97 post (nI s) 5 (nI (s * 8 + a)) (ob p) (rg (s * 8 + a)) (rg (s * 8 + b)) (gn s * 8 + nI s) (nI N) (nI cap) (nI Q) (nI CS) (nI now) (nI cc) (nI tc) (nI kn) st gn lr pc wa dy tr par ce ct ca kd sg mx wd rs rg mon lk mc mk mf mv ms cel trd cnt := by
  have i1 : vp_in (nI s) 8 := vp_in_nI hs (by omega)
  have e1 : (nI s).toNatClampNeg = s := nI_clamp (by omega)
  have it : vp_in (nI (s * 8 + a)) 64 := vp_in_nI (by omega) (by omega)
  have et : (nI (s * 8 + a)).toNatClampNeg = s * 8 + a := nI_clamp (by omega)
  exact br_f (by decide) (br_f (by decide) (br_f (by decide) (br_f (by decide) (br_t rfl (br_c (fun q => hY q _ (br_f (by decide) (br_f (by decide) (br_f (by decide) (br_f (by decide) (br_f (by decide) (br_f (by decide) (br_t (by decide) (br_f (by decide) (br_f (by decide) (br_f (by decide) (br_f (by decide) (br_f (by decide) (br_f (by decide) (h0 q))))))))))))))) (fun q => ⟨q, it, nm_r (e' := upd rg (s * 8 + a) (rg (s * 8 + a) / rg (s * 8 + b))) (by rw [et]) (br_f (by decide) (br_f (by decide) (br_f (by decide) (br_f (by decide) (br_f (by decide) (br_f (by decide) (br_t (by decide) (br_f (by decide) (br_f (by decide) (br_f (by decide) (br_f (by decide) (br_f (by decide) (br_f (by decide) (h q))))))))))))))⟩))))))
theorem yo_6 {post : Int32 → SY → Prop} {s p a b : Nat} (hs : s < 8) (ha : a ≤ 7) (h : post 0 (nI N, nI cap, nI Q, nI CS, nI now, nI cc, nI tc, nI kn, st, gn, lr, upd pc s (ob p), wa, dy, tr, par, ce, ct, ca, kd, sg, mx, wd, rs, rg, mon, lk, mc, mk, mf, mv, ms, cel, trd, cnt)) : wY_step_97 post (nI s) 6 (nI (s * 8 + a)) (ob p) (rg (s * 8 + a)) (rg (s * 8 + b)) (gn s * 8 + nI s) (nI N) (nI cap) (nI Q) (nI CS) (nI now) (nI cc) (nI tc) (nI kn) st gn lr pc wa dy tr par ce ct ca kd sg mx wd rs rg mon lk mc mk mf mv ms cel trd cnt := by
  have i1 : vp_in (nI s) 8 := vp_in_nI hs (by omega)
  have e1 : (nI s).toNatClampNeg = s := nI_clamp (by omega)
  have it : vp_in (nI (s * 8 + a)) 64 := vp_in_nI (by omega) (by omega)
  have et : (nI (s * 8 + a)).toNatClampNeg = s * 8 + a := nI_clamp (by omega)
  exact br_f (by decide) (br_f (by decide) (br_f (by decide) (br_f (by decide) (br_f (by decide) (br_t rfl ⟨i1, nm_r (e' := upd pc s (ob p)) (by rw [e1]) (br_f (by decide) (br_f (by decide) (br_f (by decide) (br_t (by decide) (br_f (by decide) (br_f (by decide) (br_f (by decide) (br_f (by decide) (br_f (by decide) (br_f (by decide) (h)))))))))))⟩)))))
theorem yo_7 {post : Int32 → SY → Prop} {s p a b : Nat} (hs : s < 8) (ha : a ≤ 7) (h1 : rg (s * 8 + a) = 0 → post 0 (nI N, nI cap, nI Q, nI CS, nI now, nI cc, nI tc, nI kn, st, gn, lr, upd pc s (ob p), wa, dy, tr, par, ce, ct, ca, kd, sg, mx, wd, rs, rg, mon, lk, mc, mk, mf, mv, ms, cel, trd, cnt)) (h0 : ¬ rg (s * 8 + a) = 0 → post 0 (nI N, nI cap, nI Q, nI CS, nI now, nI cc, nI tc, nI kn, st, gn, lr, pc, wa, dy, tr, par, ce, ct, ca, kd, sg, mx, wd, rs, rg, mon, lk, mc, mk, mf, mv, ms, cel, trd, cnt)) : wY_step_97 post (nI s) 7 (nI (s * 8 + a)) (ob p) (rg (s * 8 + a)) (rg (s * 8 + b)) (gn s * 8 + nI s) (nI N) (nI cap) (nI Q) (nI CS) (nI now) (nI cc) (nI tc) (nI kn) st gn lr pc wa dy tr par ce ct ca kd sg mx wd rs rg mon lk mc mk mf mv ms cel trd cnt := by
  have i1 : vp_in (nI s) 8 := vp_in_nI hs (by omega)
  have e1 : (nI s).toNatClampNeg = s := nI_clamp (by omega)
  have it : vp_in (nI (s * 8 + a)) 64 := vp_in_nI (by omega) (by omega)
  have et : (nI (s * 8 + a)).toNatClampNeg = s * 8 + a := nI_clamp (by omega)
  exact br_f (by decide) (br_f (by decide) (br_f (by decide) (br_f (by decide) (br_f (by decide) (br_f (by decide) (br_t rfl (br_c (fun q => ⟨i1, nm_r (e' := upd pc s (ob p)) (by rw [e1]) (br_f (by decide) (br_f (by decide) (br_f (by decide) (br_t (by decide) (br_f (by decide) (br_f (by decide) (br_f (by decide) (br_f (by decide) (br_f (by decide) (br_f (by decide) (h1 q)))))))))))⟩) (fun q => br_f (by decide) (br_f (by decide) (br_f (by decide) (br_f (by decide) (br_t (by decide) (br_f (by decide) (br_f (by decide) (br_f (by decide) (br_f (by decide) (br_f (by decide) (br_f (by decide) (h0 q)))))))))))))))))))
theorem yo_8 {post : Int32 → SY → Prop} {s p a b : Nat} (hs : s < 8) (ha : a ≤ 7) (h1 : rg (s * 8 + a) < 0 → post 0 (nI N, nI cap, nI Q, nI CS, nI now, nI cc, nI tc, nI kn, st, gn, lr, upd pc s (ob p), wa, dy, tr, par, ce, ct, ca, kd, sg, mx, wd, rs, rg, mon, lk, mc, mk, mf, mv, ms, cel, trd, cnt)) (h0 : ¬ rg (s * 8 + a) < 0 → post 0 (nI N, nI cap, nI Q, nI CS, nI now, nI cc, nI tc, nI kn, st, gn, lr, pc, wa, dy, tr, par, ce, ct, ca, kd, sg, mx, wd, rs, rg, mon, lk, mc, mk, mf, mv, ms, cel, trd, cnt)) : wY_step_97 post (nI s) 8 (nI (s * 8 + a)) (ob p) (rg (s * 8 + a)) (rg (s * 8 + b)) (gn s * 8 + nI s) (nI N) (nI cap) (nI Q) (nI CS) (nI now) (nI cc) (nI tc) (nI kn) st gn lr pc wa dy tr par ce ct ca kd sg mx wd rs rg mon lk mc mk mf mv ms cel trd cnt := by
  have i1 : vp_in (nI s) 8 := vp_in_nI hs (by omega)
  have e1 : (nI s).toNatClampNeg = s := nI_clamp (by omega)
  have it : vp_in (nI (s * 8 + a)) 64 := vp_in_nI (by omega) (by omega)
  have et : (nI (s * 8 + a)).toNatClampNeg = s * 8 + a := nI_clamp (by omega)
  exact br_f (by decide) (br_f (by decide) (br_f (by decide) (br_f (by decide) (br_f (by decide) (br_f (by decide) (br_f (by decide) (br_t rfl (br_c (fun q => br_f (by decide) (br_f (by decide) (br_f (by decide) (br_t (by decide) (br_f (by decide) (br_f (by decide) (br_f (by decide) (br_f (by decide) (br_f (by decide) (br_f (by decide) (h0 (Int32.not_lt.mpr q)))))))))))) (fun q => ⟨i1, nm_r (e' := upd pc s (ob p)) (by rw [e1]) (br_f (by decide) (br_f (by decide) (br_f (by decide) (br_t (by decide) (br_f (by decide) (br_f (by decide) (br_f (by decide) (br_f (by decide) (br_f (by decide) (br_f (by decide) (h1 (Int32.not_le.mp q))))))))))))⟩)))))))))
theorem yo_9 {post : Int32 → SY → Prop} {s p a b : Nat} (hs : s < 8) (ha : a ≤ 7) (h : post 0 (nI N, nI cap, nI Q, nI CS, nI now, nI cc, nI tc, nI kn, st, gn, lr, pc, wa, dy, tr, par, ce, ct, ca, kd, sg, mx, wd, rs, upd rg (s * 8 + a) (gn s * 8 + nI s), mon, lk, mc, mk, mf, mv, ms, cel, trd, cnt)) : wY_step_97 post (nI s) 9 (nI (s * 8 + a)) (ob p) (rg (s * 8 + a)) (rg (s * 8 + b)) (gn s * 8 + nI s) (nI N) (nI cap) (nI Q) (nI CS) (nI now) (nI cc) (nI tc) (nI kn) st gn lr pc wa dy tr par ce ct ca kd sg mx wd rs rg mon lk mc mk mf mv ms cel trd cnt := by
  have i1 : vp_in (nI s) 8 := vp_in_nI hs (by omega)
  have e1 : (nI s).toNatClampNeg = s := nI_clamp (by omega)
  have it : vp_in (nI (s * 8 + a)) 64 := vp_in_nI (by omega) (by omega)
  have et : (nI (s * 8 + a)).toNatClampNeg = s * 8 + a := nI_clamp (by omega)
  exact br_f (by decide) (br_f (by decide) (br_f (by decide) (br_f (by decide) (br_f (by decide) (br_f (by decide) (br_f (by decide) (br_f (by decide) (br_t rfl ⟨it, nm_r (e' := upd rg (s * 8 + a) ((gn s * 8 + nI s))) (by rw [et]) (br_f (by decide) (br_f (by decide) (br_t (by decide) (br_f (by decide) (br_f (by decide) (br_f (by decide) (br_f (by decide) (br_f (by decide) (br_f (by decide) (h))))))))))⟩))))))))
theorem yo_10 {post : Int32 → SY → Prop} {s p a b : Nat} (hs : s < 8) (ha : a ≤ 7) (hN : N ≤ 8) (hG : iG gn) (h0 : am_fs st 0 N = none → post 0 (nI N, nI cap, nI Q, nI CS, nI now, nI cc, nI tc, nI kn, st, gn, lr, pc, wa, dy, tr, par, ce, ct, ca, kd, sg, mx, wd, rs, upd rg (s * 8 + a) 0, mon, lk, mc, mk, mf, mv, ms, cel, trd, cnt)) (h : ∀ f, am_fs st 0 N = some f → post 0 (nI N, nI cap, nI Q, nI CS, nI now, nI cc, nI tc, nI kn, upd st f 1, upd gn f (am_nx (gn f)), lr, upd pc f (ob p), upd wa f 0, dy, upd tr f 0, par, ce, ct, ca, kd, sg, mx, wd, rs, upd (am_rg rg f (rg (s * 8 + a)) (gn s * 8 + nI s)) (s * 8 + a) (am_nx (gn f) * 8 + nI f), mon, lk, upd mc f 0, mk, mf, mv, ms, cel, trd, vp_updL cnt 7 (cnt 7 + 1))) : wY_step_97 post (nI s) 10 (nI (s * 8 + a)) (ob p) (rg (s * 8 + a)) (rg (s * 8 + b)) (gn s * 8 + nI s) (nI N) (nI cap) (nI Q) (nI CS) (nI now) (nI cc) (nI tc) (nI kn) st gn lr pc wa dy tr par ce ct ca kd sg mx wd rs rg mon lk mc mk mf mv ms cel trd cnt := by
  have i1 : vp_in (nI s) 8 := vp_in_nI hs (by omega)
  have e1 : (nI s).toNatClampNeg = s := nI_clamp (by omega)
  have it : vp_in (nI (s * 8 + a)) 64 := vp_in_nI (by omega) (by omega)
  have et : (nI (s * 8 + a)).toNatClampNeg = s * 8 + a := nI_clamp (by omega)
  refine br_f (by decide) (br_f (by decide) (br_f (by decide) (br_f (by decide) (br_f (by decide) (br_f (by decide) (br_f (by decide) (br_f (by decide) (br_f (by decide) (br_t rfl ?_)))))))))
  refine yv_free hN ?_
  refine am_olt (fun f e => by have := (am_fs_some e).1; omega) (fun e => ?_) (fun f e => ?_)
  · rw [e]
    exact br_f am_n1le ⟨it, nm_r (e' := upd rg (s * 8 + a) 0) (by rw [et]) (br_f (by decide) (br_t (by decide) (br_f (by decide) (br_f (by decide) (br_f (by decide) (br_f (by decide) (br_f (by decide) (br_f (by decide) (h0 e)))))))))⟩
  · rw [e]
    have f8 := (am_fs_some e).1
    obtain ⟨gg, g1, g2⟩ := hG f (by omega)
    refine ys_start (by omega) g2 g1 (br_t (nI_pos' (by omega)) ⟨vp_in_nI (by omega) (by omega), it, nm_r (e' := upd (am_rg rg f (rg (s * 8 + a)) (gn s * 8 + nI s)) (s * 8 + a) (am_nx (gn f) * 8 + nI f)) ?_ (br_f (by decide) (br_t (by decide) (br_f (by decide) (br_f (by decide) (br_f (by decide) (br_f (by decide) (br_f (by decide) (br_f (by decide) (h f e)))))))))⟩)
    show upd _ (nI (s * 8 + a)).toNatClampNeg (upd gn f (am_nx (gn f)) (nI f).toNatClampNeg * 8 + nI f) = _
    rw [et, nI_clamp (by omega), pk_us]
theorem yo_11 {post : Int32 → SY → Prop} {s p a b : Nat} (hs : s < 8) (ha : a ≤ 7) {r : Int32} {v1 : SY} (hY : ∀ post : Int32 → SY → Prop, post r v1 → wpY_deliver post (nI N, nI cap, nI Q, nI CS, nI now, nI cc, nI tc, nI kn, st, gn, lr, pc, wa, dy, tr, par, ce, ct, ca, kd, sg, mx, wd, rs, rg, mon, lk, mc, mk, mf, mv, ms, cel, trd, cnt) (gn s * 8 + nI s) (rg (s * 8 + a)) (rg (s * 8 + b))) (h : post 0 v1) : wY_step_97 post (nI s) 11 (nI (s * 8 + a)) (ob p) (rg (s * 8 + a)) (rg (s * 8 + b)) (gn s * 8 + nI s) (nI N) (nI cap) (nI Q) (nI CS) (nI now) (nI cc) (nI tc) (nI kn) st gn lr pc wa dy tr par ce ct ca kd sg mx wd rs rg mon lk mc mk mf mv ms cel trd cnt := by
  have i1 : vp_in (nI s) 8 := vp_in_nI hs (by omega)
  have e1 : (nI s).toNatClampNeg = s := nI_clamp (by omega)
  have it : vp_in (nI (s * 8 + a)) 64 := vp_in_nI (by omega) (by omega)
  have et : (nI (s * 8 + a)).toNatClampNeg = s * 8 + a := nI_clamp (by omega)
  exact br_f (by decide) (br_f (by decide) (br_f (by decide) (br_f (by decide) (br_f (by decide) (br_f (by decide) (br_f (by decide) (br_f (by decide) (br_f (by decide) (br_f (by decide) (br_t rfl (hY _ (br_t (by decide) (br_f (by decide) (br_f (by decide) (br_f (by decide) (br_f (by decide) (br_f (by decide) (br_f (by decide) (h)))))))))))))))))))
theorem yo_13 {post : Int32 → SY → Prop} {s p a b : Nat} (hs : s < 8) (ha : a ≤ 7) (h : ∀ F : Int32 → SY → Prop, (∀ r v, post 0 v → F r v) → wpY_relate F (nI N, nI cap, nI Q, nI CS, nI now, nI cc, nI tc, nI kn, st, gn, lr, pc, wa, dy, tr, par, ce, ct, ca, kd, sg, mx, wd, rs, rg, mon, lk, mc, mk, mf, mv, ms, cel, trd, cnt) (nI 0) (gn s * 8 + nI s) (rg (s * 8 + a))) : wY_step_97 post (nI s) 13 (nI (s * 8 + a)) (ob p) (rg (s * 8 + a)) (rg (s * 8 + b)) (gn s * 8 + nI s) (nI N) (nI cap) (nI Q) (nI CS) (nI now) (nI cc) (nI tc) (nI kn) st gn lr pc wa dy tr par ce ct ca kd sg mx wd rs rg mon lk mc mk mf mv ms cel trd cnt := by
  have i1 : vp_in (nI s) 8 := vp_in_nI hs (by omega)
  have e1 : (nI s).toNatClampNeg = s := nI_clamp (by omega)
  have it : vp_in (nI (s * 8 + a)) 64 := vp_in_nI (by omega) (by omega)
  have et : (nI (s * 8 + a)).toNatClampNeg = s * 8 + a := nI_clamp (by omega)
  refine br_f (by decide) (br_f (by decide) (br_f (by decide) (br_f (by decide) (br_f (by decide) (br_f (by decide) (br_f (by decide) (br_f (by decide) (br_f (by decide) (br_f (by decide) (br_f (by decide) (br_f (by decide) (br_f (by decide) ?_))))))))))))
  exact h _ (fun r v q => br_f (by decide) (br_f (by decide) (br_f (by decide) (br_f (by decide) (br_f (by decide) (br_f (by decide) (q)))))))
theorem yo_14 {post : Int32 → SY → Prop} {s p a b : Nat} (hs : s < 8) (ha : a ≤ 7) (h : ∀ F : Int32 → SY → Prop, (∀ r v, post 0 v → F r v) → wpY_relate F (nI N, nI cap, nI Q, nI CS, nI now, nI cc, nI tc, nI kn, st, gn, lr, pc, wa, dy, tr, par, ce, ct, ca, kd, sg, mx, wd, rs, rg, mon, lk, mc, mk, mf, mv, ms, cel, trd, cnt) (nI 1) (gn s * 8 + nI s) (rg (s * 8 + a))) : wY_step_97 post (nI s) 14 (nI (s * 8 + a)) (ob p) (rg (s * 8 + a)) (rg (s * 8 + b)) (gn s * 8 + nI s) (nI N) (nI cap) (nI Q) (nI CS) (nI now) (nI cc) (nI tc) (nI kn) st gn lr pc wa dy tr par ce ct ca kd sg mx wd rs rg mon lk mc mk mf mv ms cel trd cnt := by
  have i1 : vp_in (nI s) 8 := vp_in_nI hs (by omega)
  have e1 : (nI s).toNatClampNeg = s := nI_clamp (by omega)
  have it : vp_in (nI (s * 8 + a)) 64 := vp_in_nI (by omega) (by omega)
  have et : (nI (s * 8 + a)).toNatClampNeg = s * 8 + a := nI_clamp (by omega)
  refine br_f (by decide) (br_f (by decide) (br_f (by decide) (br_f (by decide) (br_f (by decide) (br_f (by decide) (br_f (by decide) (br_f (by decide) (br_f (by decide) (br_f (by decide) (br_f (by decide) (br_f (by decide) (br_f (by decide) ?_))))))))))))
  exact h _ (fun r v q => br_f (by decide) (br_f (by decide) (br_f (by decide) (br_f (by decide) (br_f (by decide) (br_f (by decide) (q)))))))
theorem yo_15 {post : Int32 → SY → Prop} {s p a b : Nat} (hs : s < 8) (ha : a ≤ 7) (h : ∀ F : Int32 → SY → Prop, (∀ r v, post 0 v → F r v) → wpY_relate F (nI N, nI cap, nI Q, nI CS, nI now, nI cc, nI tc, nI kn, st, gn, lr, pc, wa, dy, tr, par, ce, ct, ca, kd, sg, mx, wd, rs, rg, mon, lk, mc, mk, mf, mv, ms, cel, trd, cnt) (nI 2) (gn s * 8 + nI s) (rg (s * 8 + a))) : wY_step_97 post (nI s) 15 (nI (s * 8 + a)) (ob p) (rg (s * 8 + a)) (rg (s * 8 + b)) (gn s * 8 + nI s) (nI N) (nI cap) (nI Q) (nI CS) (nI now) (nI cc) (nI tc) (nI kn) st gn lr pc wa dy tr par ce ct ca kd sg mx wd rs rg mon lk mc mk mf mv ms cel trd cnt := by
  have i1 : vp_in (nI s) 8 := vp_in_nI hs (by omega)
  have e1 : (nI s).toNatClampNeg = s := nI_clamp (by omega)
  have it : vp_in (nI (s * 8 + a)) 64 := vp_in_nI (by omega) (by omega)
  have et : (nI (s * 8 + a)).toNatClampNeg = s * 8 + a := nI_clamp (by omega)
  refine br_f (by decide) (br_f (by decide) (br_f (by decide) (br_f (by decide) (br_f (by decide) (br_f (by decide) (br_f (by decide) (br_f (by decide) (br_f (by decide) (br_f (by decide) (br_f (by decide) (br_f (by decide) (br_f (by decide) ?_))))))))))))
  exact h _ (fun r v q => br_f (by decide) (br_f (by decide) (br_f (by decide) (br_f (by decide) (br_f (by decide) (br_f (by decide) (q)))))))
theorem yo_16 {post : Int32 → SY → Prop} {s p a b : Nat} (hs : s < 8) (ha : a ≤ 7) (h : ∀ F : Int32 → SY → Prop, (∀ r v, post 0 v → F r v) → wpY_relate F (nI N, nI cap, nI Q, nI CS, nI now, nI cc, nI tc, nI kn, st, gn, lr, pc, wa, dy, tr, par, ce, ct, ca, kd, sg, mx, wd, rs, rg, mon, lk, mc, mk, mf, mv, ms, cel, trd, cnt) (nI 3) (gn s * 8 + nI s) (rg (s * 8 + a))) : wY_step_97 post (nI s) 16 (nI (s * 8 + a)) (ob p) (rg (s * 8 + a)) (rg (s * 8 + b)) (gn s * 8 + nI s) (nI N) (nI cap) (nI Q) (nI CS) (nI now) (nI cc) (nI tc) (nI kn) st gn lr pc wa dy tr par ce ct ca kd sg mx wd rs rg mon lk mc mk mf mv ms cel trd cnt := by
  have i1 : vp_in (nI s) 8 := vp_in_nI hs (by omega)
  have e1 : (nI s).toNatClampNeg = s := nI_clamp (by omega)
  have it : vp_in (nI (s * 8 + a)) 64 := vp_in_nI (by omega) (by omega)
  have et : (nI (s * 8 + a)).toNatClampNeg = s * 8 + a := nI_clamp (by omega)
  refine br_f (by decide) (br_f (by decide) (br_f (by decide) (br_f (by decide) (br_f (by decide) (br_f (by decide) (br_f (by decide) (br_f (by decide) (br_f (by decide) (br_f (by decide) (br_f (by decide) (br_f (by decide) (br_f (by decide) ?_))))))))))))
  exact h _ (fun r v q => br_f (by decide) (br_f (by decide) (br_f (by decide) (br_f (by decide) (br_f (by decide) (br_f (by decide) (q)))))))
theorem yo_17 {post : Int32 → SY → Prop} {s p a b : Nat} (hs : s < 8) (ha : a ≤ 7) (h1 : ob p = 1 → post 0 (nI N, nI cap, nI Q, nI CS, nI now, nI cc, nI tc, nI kn, st, gn, lr, pc, wa, dy, upd tr s 1, par, ce, ct, ca, kd, sg, mx, wd, rs, rg, mon, lk, mc, mk, mf, mv, ms, cel, trd, cnt)) (h0 : ¬ ob p = 1 → post 0 (nI N, nI cap, nI Q, nI CS, nI now, nI cc, nI tc, nI kn, st, gn, lr, pc, wa, dy, upd tr s 0, par, ce, ct, ca, kd, sg, mx, wd, rs, rg, mon, lk, mc, mk, mf, mv, ms, cel, trd, cnt)) : wY_step_97 post (nI s) 17 (nI (s * 8 + a)) (ob p) (rg (s * 8 + a)) (rg (s * 8 + b)) (gn s * 8 + nI s) (nI N) (nI cap) (nI Q) (nI CS) (nI now) (nI cc) (nI tc) (nI kn) st gn lr pc wa dy tr par ce ct ca kd sg mx wd rs rg mon lk mc mk mf mv ms cel trd cnt := by
  have i1 : vp_in (nI s) 8 := vp_in_nI hs (by omega)
  have e1 : (nI s).toNatClampNeg = s := nI_clamp (by omega)
  have it : vp_in (nI (s * 8 + a)) 64 := vp_in_nI (by omega) (by omega)
  have et : (nI (s * 8 + a)).toNatClampNeg = s * 8 + a := nI_clamp (by omega)
  exact br_f (by decide) (br_f (by decide) (br_f (by decide) (br_f (by decide) (br_f (by decide) (br_f (by decide) (br_f (by decide) (br_f (by decide) (br_f (by decide) (br_f (by decide) (br_f (by decide) (br_f (by decide) (br_t (by decide) (br_t rfl (br_c (fun q => ⟨i1, nm_r (e' := upd tr s 1) (by rw [e1, am_vb1]) (br_f (by decide) (br_f (by decide) (br_f (by decide) (br_f (by decide) (br_f (by decide) (h1 q))))))⟩) (fun q => ⟨i1, nm_r (e' := upd tr s 0) (by rw [e1, am_vb0]) (br_f (by decide) (br_f (by decide) (br_f (by decide) (br_f (by decide) (br_f (by decide) (h0 q))))))⟩)))))))))))))))
theorem yo_18 {post : Int32 → SY → Prop} {s p a b : Nat} (hs : s < 8) (ha : a ≤ 7) {v1 : SY} (hY : ∀ post : SY → Prop, post v1 → wpY_end post (nI N, nI cap, nI Q, nI CS, nI now, nI cc, nI tc, nI kn, st, gn, lr, pc, wa, dy, tr, par, ce, ct, ca, kd, sg, mx, wd, rs, rg, mon, lk, mc, mk, mf, mv, ms, cel, trd, cnt) (am_one s) (if rg (s * 8 + a) = 1 then 2 else rg (s * 8 + a))) (h : post 0 v1) : wY_step_97 post (nI s) 18 (nI (s * 8 + a)) (ob p) (rg (s * 8 + a)) (rg (s * 8 + b)) (gn s * 8 + nI s) (nI N) (nI cap) (nI Q) (nI CS) (nI now) (nI cc) (nI tc) (nI kn) st gn lr pc wa dy tr par ce ct ca kd sg mx wd rs rg mon lk mc mk mf mv ms cel trd cnt := by
  have i1 : vp_in (nI s) 8 := vp_in_nI hs (by omega)
  have e1 : (nI s).toNatClampNeg = s := nI_clamp (by omega)
  have it : vp_in (nI (s * 8 + a)) 64 := vp_in_nI (by omega) (by omega)
  have et : (nI (s * 8 + a)).toNatClampNeg = s * 8 + a := nI_clamp (by omega)
  refine br_f (by decide) (br_f (by decide) (br_f (by decide) (br_f (by decide) (br_f (by decide) (br_f (by decide) (br_f (by decide) (br_f (by decide) (br_f (by decide) (br_f (by decide) (br_f (by decide) (br_f (by decide) (br_t (by decide) (br_f (by decide) (br_t rfl ?_))))))))))))))
  by_cases q : rg (s * 8 + a) = 1
  · rw [if_pos q] at hY; exact br_t q (hY _ (br_f (by decide) (br_f (by decide) (br_f (by decide) (br_f (by decide) (h))))))
  · rw [if_neg q] at hY; exact br_f q (hY _ (br_f (by decide) (br_f (by decide) (br_f (by decide) (br_f (by decide) (h))))))
theorem yo_19 {post : Int32 → SY → Prop} {s p a b : Nat} (hs : s < 8) (ha : a ≤ 7) {r : Int32} {v1 : SY} (hY : ∀ post : Int32 → SY → Prop, post r v1 → wpY_signalTo post (nI N, nI cap, nI Q, nI CS, nI now, nI cc, nI tc, nI kn, st, gn, lr, pc, wa, dy, tr, par, ce, ct, ca, kd, sg, mx, wd, rs, rg, mon, lk, mc, mk, mf, mv, ms, cel, trd, cnt) (rg (s * 8 + a)) (gn s * 8 + nI s) (rg (s * 8 + b))) (h : post 0 v1) : wY_step_97 post (nI s) 19 (nI (s * 8 + a)) (ob p) (rg (s * 8 + a)) (rg (s * 8 + b)) (gn s * 8 + nI s) (nI N) (nI cap) (nI Q) (nI CS) (nI now) (nI cc) (nI tc) (nI kn) st gn lr pc wa dy tr par ce ct ca kd sg mx wd rs rg mon lk mc mk mf mv ms cel trd cnt := by
  have i1 : vp_in (nI s) 8 := vp_in_nI hs (by omega)
  have e1 : (nI s).toNatClampNeg = s := nI_clamp (by omega)
  have it : vp_in (nI (s * 8 + a)) 64 := vp_in_nI (by omega) (by omega)
  have et : (nI (s * 8 + a)).toNatClampNeg = s * 8 + a := nI_clamp (by omega)
  exact br_f (by decide) (br_f (by decide) (br_f (by decide) (br_f (by decide) (br_f (by decide) (br_f (by decide) (br_f (by decide) (br_f (by decide) (br_f (by decide) (br_f (by decide) (br_f (by decide) (br_f (by decide) (br_t (by decide) (br_f (by decide) (br_f (by decide) (br_t rfl (hY _ (br_f (by decide) (br_f (by decide) (br_f (by decide) (h))))))))))))))))))))
theorem yo_20 {post : Int32 → SY → Prop} {s p a b : Nat} (hs : s < 8) (ha : a ≤ 7) (h : post 1 (nI N, nI cap, nI Q, nI CS, nI now, nI cc, nI tc, nI kn, st, gn, lr, pc, wa, dy, tr, par, ce, ct, ca, kd, sg, mx, wd, rs, rg, mon, lk, mc, mk, mf, mv, ms, cel, trd, cnt)) : wY_step_97 post (nI s) 20 (nI (s * 8 + a)) (ob p) (rg (s * 8 + a)) (rg (s * 8 + b)) (gn s * 8 + nI s) (nI N) (nI cap) (nI Q) (nI CS) (nI now) (nI cc) (nI tc) (nI kn) st gn lr pc wa dy tr par ce ct ca kd sg mx wd rs rg mon lk mc mk mf mv ms cel trd cnt := by
  have i1 : vp_in (nI s) 8 := vp_in_nI hs (by omega)
  have e1 : (nI s).toNatClampNeg = s := nI_clamp (by omega)
  have it : vp_in (nI (s * 8 + a)) 64 := vp_in_nI (by omega) (by omega)
  have et : (nI (s * 8 + a)).toNatClampNeg = s * 8 + a := nI_clamp (by omega)
  exact br_f (by decide) (br_f (by decide) (br_f (by decide) (br_f (by decide) (br_f (by decide) (br_f (by decide) (br_f (by decide) (br_f (by decide) (br_f (by decide) (br_f (by decide) (br_f (by decide) (br_f (by decide) (br_t (by decide) (br_f (by decide) (br_f (by decide) (br_f (by decide) (br_f (by decide) (br_f (by decide) (br_t rfl (h)))))))))))))))))))
theorem yo_21 {post : Int32 → SY → Prop} {s p a b : Nat} (hs : s < 8) (ha : a ≤ 7) (ht : tc ≤ 64) (h1 : tc < 64 → post 0 (nI N, nI cap, nI Q, nI CS, nI now, nI cc, nI (tc + 1), nI kn, st, gn, lr, pc, wa, dy, tr, par, ce, ct, ca, kd, sg, mx, wd, rs, rg, mon, lk, mc, mk, mf, mv, ms, cel, upd (upd trd (tc * 2) (gn s * 8 + nI s)) (tc * 2 + 1) (rg (s * 8 + a)), cnt)) (h0 : ¬ tc < 64 → post 0 (nI N, nI cap, nI Q, nI CS, nI now, nI cc, nI tc, nI kn, st, gn, lr, pc, wa, dy, tr, par, ce, ct, ca, kd, sg, mx, wd, rs, rg, mon, lk, mc, mk, mf, mv, ms, cel, trd, vp_updL cnt 10 (cnt 10 + 1))) : wY_step_97 post (nI s) 21 (nI (s * 8 + a)) (ob p) (rg (s * 8 + a)) (rg (s * 8 + b)) (gn s * 8 + nI s) (nI N) (nI cap) (nI Q) (nI CS) (nI now) (nI cc) (nI tc) (nI kn) st gn lr pc wa dy tr par ce ct ca kd sg mx wd rs rg mon lk mc mk mf mv ms cel trd cnt := by
  have i1 : vp_in (nI s) 8 := vp_in_nI hs (by omega)
  have e1 : (nI s).toNatClampNeg = s := nI_clamp (by omega)
  have it : vp_in (nI (s * 8 + a)) 64 := vp_in_nI (by omega) (by omega)
  have et : (nI (s * 8 + a)).toNatClampNeg = s * 8 + a := nI_clamp (by omega)
  refine br_f (by decide) (br_f (by decide) (br_f (by decide) (br_f (by decide) (br_f (by decide) (br_f (by decide) (br_f (by decide) (br_f (by decide) (br_f (by decide) (br_f (by decide) (br_f (by decide) (br_f (by decide) (br_t (by decide) (br_f (by decide) (br_f (by decide) (br_f (by decide) (br_t rfl ?_))))))))))))))))
  by_cases q : tc < 64
  · have e2 : nI tc * 2 = nI (tc * 2) := am_m2 tc
    have e3 : nI tc * 2 + 1 = nI (tc * 2 + 1) := by rw [am_m2, nI_1]
    refine br_t (nI_lt (b := 64) q (by omega)) (br_t rfl ⟨pk_in (tc * 2) 128 (by omega) e2, nm_r (e' := upd trd (tc * 2) (gn s * 8 + nI s)) (by rw [e2, nI_clamp (by omega)]) ⟨pk_in (tc * 2 + 1) 128 (by omega) e3, nm_r (e' := upd (upd trd (tc * 2) (gn s * 8 + nI s)) (tc * 2 + 1) (rg (s * 8 + a))) (by rw [e3, nI_clamp (by omega)]) (nm_r (nI_1 tc) (br_f (by decide) (h1 q)))⟩⟩)
  · exact br_f (nI_nlt (b := 64) (by omega) (by omega)) (nm_e (br_f (by decide) (h0 q)))
end YO
end
section
/-! 32: the instructions on both sides (printed by genops2.py) -/
section OP
variable {N cap Q CS cc now tc kn : Nat} {fl : Int32} {op oa ob oc st gn lr rg pc tr wt dl mc mk mf mv lm mon par ce ct ca sg mx wd cn cl rc rk tp tv wa dy kd rs lk cel trd : Nat → Int32} {ms cnt : Nat → Int64}
theorem st_I {K : List Nat} {f : Nat} {en ar pa : Int32} (I : am_I K N cap Q CS cc now tc kn fl op oa ob oc st gn lr rg pc tr wt dl mc mk mf mv lm mon par ce ct ca sg mx wd cn cl rc rk tp tv wa dy kd rs lk cel trd ms cnt) (hf : f < N) (h0 : st f = 0) : am_I K N cap Q CS cc now tc kn fl op oa ob oc (upd st f 1) (upd gn f (am_nx (gn f))) lr (am_rg rg f ar pa) (upd pc f en) (upd tr f 0) (upd wt f 0) (upd dl f (-1)) (upd mc f 0) mk mf mv lm mon par ce ct ca sg mx wd cn cl rc rk tp tv (upd wa f 0) dy kd rs lk cel trd ms (vp_updL cnt 7 (cnt 7 + 1)) := by
  obtain ⟨h1, h2, h3, h4, h5, h6, h7, h8, h9, h10, h11, h12, h13⟩ := I
  have f8 : f < 8 := by have := h1.2.1; omega
  have fK : ¬ f ∈ K := fun z => by
    rcases (h11.1 f z).2.1 with e | e <;> rw [h0] at e <;> exact absurd e (by decide)
  have u1 : ∀ j, j < 8 → st j = 1 → upd st f 1 j = 1 := fun j _ z => by
    by_cases e : j = f
    · subst e; exact pk_us
    · rw [pk_un e]; exact z
  have u2 : ∀ j, j < 8 → (upd st f 1 j = 2 ↔ st j = 2) := fun j _ => by
    by_cases e : j = f
    · subst e; rw [pk_us, h0]; decide
    · rw [pk_un e]
  refine ⟨h1, h2, h3, fun j hj => ?_, fun j hj => ?_, fun j hj => ?_, fun j hj e => ?_, am_tL h8 u1, am_tMo h9 u1 (fun j hj z => (u2 j hj).mpr z), h10, ⟨fun x hx => ?_, fun j hj hn => ?_⟩, fun t ht e => h12 t ht ((u2 t ht).mp e), fun t ht e => h13 t ht ((u2 t ht).mp e)⟩
  · by_cases e : j = f
    · subst e; rw [pk_us]; exact ⟨Or.inr (Or.inl rfl), fun z => absurd z (by omega)⟩
    · rw [pk_un e]; exact h4 j hj
  · by_cases e : j = f
    · subst e
      obtain ⟨g, g1, g2⟩ := h5 j hj
      rw [pk_us, g2]
      obtain ⟨g', x1, x2, -⟩ := am_nx_le g1
      exact ⟨g', x1, x2⟩
    · rw [pk_un e]; exact h5 j hj
  · by_cases e : j = f
    · subst e; rw [pk_us]; exact ⟨0, by omega, rfl, fun _ => rfl⟩
    · rw [pk_un e, pk_un e]; exact h6 j hj
  · by_cases q : j = f
    · subst q; rw [pk_us, pk_us]; exact Or.inl ⟨rfl, rfl⟩
    · rw [pk_un q] at e
      rw [pk_un q, pk_un q, pk_un q]; exact h7 j hj e
  · have xf : x ≠ f := fun e => fK (e ▸ hx)
    obtain ⟨a1, a2, p, a3, a4, a5⟩ := h11.1 x hx
    rw [pk_un xf]
    exact ⟨a1, a2, p, a3, a4, (u2 p a3).mpr a5⟩
  · obtain ⟨a1, a2⟩ := h11.2 j hj hn
    refine ⟨a1, ?_⟩
    by_cases e : j = f
    · subst e; rw [pk_us]; decide
    · rw [pk_un e]; exact a2
theorem am_T_st {f : Nat} {u : SX} (h : (u.2.1 = nI N ∧ u.2.2.2.1 = nI Q ∧ u.2.2.2.2.2.2.1 = nI now)) (e : xSt u = upd st f 1) : am_T N Q now st u := ⟨h, fun i _ z => by
  rw [e] at z
  by_cases q : i = f
  · subst q; rw [pk_us] at z; exact absurd z (by decide)
  · rw [pk_un q] at z; exact z⟩
theorem tc_I {K : List Nat} {x y : Int32} (I : am_I K N cap Q CS cc now tc kn fl op oa ob oc st gn lr rg pc tr wt dl mc mk mf mv lm mon par ce ct ca sg mx wd cn cl rc rk tp tv wa dy kd rs lk cel trd ms cnt) (h : tc < 64) : am_I K N cap Q CS cc now (tc + 1) kn fl op oa ob oc st gn lr rg pc tr wt dl mc mk mf mv lm mon par ce ct ca sg mx wd cn cl rc rk (upd tp tc x) (upd tv tc y) wa dy kd rs lk cel (upd (upd trd (tc * 2) x) (tc * 2 + 1) y) ms cnt := by
  obtain ⟨h1, h2, h3, h4⟩ := I
  refine ⟨?_, h2, fun i hi => ?_, h4⟩
  · unfold iS at h1 ⊢; omega
  · by_cases e : i = tc
    · subst e
      rw [pk_un (by omega), pk_us, pk_us, pk_us, pk_us]; exact ⟨rfl, rfl⟩
    · obtain ⟨a, b⟩ := h3 i (by omega)
      refine ⟨?_, ?_⟩
      · rw [pk_un (by omega), pk_un (by omega), pk_un e]; exact a
      · rw [pk_un (by omega), pk_un (by omega), pk_un e]; exact b
theorem xo_d {post : Int32 → SX → Prop} {s p k : Nat} (hs : s < 8) (hp : pc s = nI p) (hc : p < cc) (h64 : cc ≤ 64) (ek : op p = nI k) (hk : k ≤ 21) (h12 : k ≠ 12) (hA : 8 < k → wpX_act (fun u => wX_step_91 post (nI k) u.1 u.2.1 u.2.2.1 u.2.2.2.1 u.2.2.2.2.1 u.2.2.2.2.2.1 u.2.2.2.2.2.2.1 u.2.2.2.2.2.2.2.1 u.2.2.2.2.2.2.2.2.1 u.2.2.2.2.2.2.2.2.2.1 u.2.2.2.2.2.2.2.2.2.2.1 u.2.2.2.2.2.2.2.2.2.2.2.1 u.2.2.2.2.2.2.2.2.2.2.2.2.1 u.2.2.2.2.2.2.2.2.2.2.2.2.2.1 u.2.2.2.2.2.2.2.2.2.2.2.2.2.2.1 u.2.2.2.2.2.2.2.2.2.2.2.2.2.2.2.1 u.2.2.2.2.2.2.2.2.2.2.2.2.2.2.2.2.1 u.2.2.2.2.2.2.2.2.2.2.2.2.2.2.2.2.2.1 u.2.2.2.2.2.2.2.2.2.2.2.2.2.2.2.2.2.2.1 u.2.2.2.2.2.2.2.2.2.2.2.2.2.2.2.2.2.2.2.1 u.2.2.2.2.2.2.2.2.2.2.2.2.2.2.2.2.2.2.2.2.1 u.2.2.2.2.2.2.2.2.2.2.2.2.2.2.2.2.2.2.2.2.2.1 u.2.2.2.2.2.2.2.2.2.2.2.2.2.2.2.2.2.2.2.2.2.2.1 u.2.2.2.2.2.2.2.2.2.2.2.2.2.2.2.2.2.2.2.2.2.2.2.1 u.2.2.2.2.2.2.2.2.2.2.2.2.2.2.2.2.2.2.2.2.2.2.2.2.1 u.2.2.2.2.2.2.2.2.2.2.2.2.2.2.2.2.2.2.2.2.2.2.2.2.2.1 u.2.2.2.2.2.2.2.2.2.2.2.2.2.2.2.2.2.2.2.2.2.2.2.2.2.2.1 u.2.2.2.2.2.2.2.2.2.2.2.2.2.2.2.2.2.2.2.2.2.2.2.2.2.2.2.1 u.2.2.2.2.2.2.2.2.2.2.2.2.2.2.2.2.2.2.2.2.2.2.2.2.2.2.2.2.1 u.2.2.2.2.2.2.2.2.2.2.2.2.2.2.2.2.2.2.2.2.2.2.2.2.2.2.2.2.2.1 u.2.2.2.2.2.2.2.2.2.2.2.2.2.2.2.2.2.2.2.2.2.2.2.2.2.2.2.2.2.2.1 u.2.2.2.2.2.2.2.2.2.2.2.2.2.2.2.2.2.2.2.2.2.2.2.2.2.2.2.2.2.2.2.1 u.2.2.2.2.2.2.2.2.2.2.2.2.2.2.2.2.2.2.2.2.2.2.2.2.2.2.2.2.2.2.2.2.1 u.2.2.2.2.2.2.2.2.2.2.2.2.2.2.2.2.2.2.2.2.2.2.2.2.2.2.2.2.2.2.2.2.2.1 u.2.2.2.2.2.2.2.2.2.2.2.2.2.2.2.2.2.2.2.2.2.2.2.2.2.2.2.2.2.2.2.2.2.2.1 u.2.2.2.2.2.2.2.2.2.2.2.2.2.2.2.2.2.2.2.2.2.2.2.2.2.2.2.2.2.2.2.2.2.2.2.1 u.2.2.2.2.2.2.2.2.2.2.2.2.2.2.2.2.2.2.2.2.2.2.2.2.2.2.2.2.2.2.2.2.2.2.2.2.1 u.2.2.2.2.2.2.2.2.2.2.2.2.2.2.2.2.2.2.2.2.2.2.2.2.2.2.2.2.2.2.2.2.2.2.2.2.2.1 u.2.2.2.2.2.2.2.2.2.2.2.2.2.2.2.2.2.2.2.2.2.2.2.2.2.2.2.2.2.2.2.2.2.2.2.2.2.2.1 u.2.2.2.2.2.2.2.2.2.2.2.2.2.2.2.2.2.2.2.2.2.2.2.2.2.2.2.2.2.2.2.2.2.2.2.2.2.2.2.1 u.2.2.2.2.2.2.2.2.2.2.2.2.2.2.2.2.2.2.2.2.2.2.2.2.2.2.2.2.2.2.2.2.2.2.2.2.2.2.2.2) (fl, nI N, nI cap, nI Q, nI CS, nI cc, nI now, nI tc, op, oa, ob, oc, st, gn, lr, rg, upd pc s (nI (p + 1)), tr, wt, dl, mc, mk, mf, mv, ms, lm, mon, par, ce, ct, ca, sg, mx, wd, cn, cl, rc, rk, tp, tv, cnt) (nI s) (nI p)) (hJ : 5 < k → k ≤ 8 → wpX_jump (fun u => wX_step_91 post (nI k) u.1 u.2.1 u.2.2.1 u.2.2.2.1 u.2.2.2.2.1 u.2.2.2.2.2.1 u.2.2.2.2.2.2.1 u.2.2.2.2.2.2.2.1 u.2.2.2.2.2.2.2.2.1 u.2.2.2.2.2.2.2.2.2.1 u.2.2.2.2.2.2.2.2.2.2.1 u.2.2.2.2.2.2.2.2.2.2.2.1 u.2.2.2.2.2.2.2.2.2.2.2.2.1 u.2.2.2.2.2.2.2.2.2.2.2.2.2.1 u.2.2.2.2.2.2.2.2.2.2.2.2.2.2.1 u.2.2.2.2.2.2.2.2.2.2.2.2.2.2.2.1 u.2.2.2.2.2.2.2.2.2.2.2.2.2.2.2.2.1 u.2.2.2.2.2.2.2.2.2.2.2.2.2.2.2.2.2.1 u.2.2.2.2.2.2.2.2.2.2.2.2.2.2.2.2.2.2.1 u.2.2.2.2.2.2.2.2.2.2.2.2.2.2.2.2.2.2.2.1 u.2.2.2.2.2.2.2.2.2.2.2.2.2.2.2.2.2.2.2.2.1 u.2.2.2.2.2.2.2.2.2.2.2.2.2.2.2.2.2.2.2.2.2.1 u.2.2.2.2.2.2.2.2.2.2.2.2.2.2.2.2.2.2.2.2.2.2.1 u.2.2.2.2.2.2.2.2.2.2.2.2.2.2.2.2.2.2.2.2.2.2.2.1 u.2.2.2.2.2.2.2.2.2.2.2.2.2.2.2.2.2.2.2.2.2.2.2.2.1 u.2.2.2.2.2.2.2.2.2.2.2.2.2.2.2.2.2.2.2.2.2.2.2.2.2.1 u.2.2.2.2.2.2.2.2.2.2.2.2.2.2.2.2.2.2.2.2.2.2.2.2.2.2.1 u.2.2.2.2.2.2.2.2.2.2.2.2.2.2.2.2.2.2.2.2.2.2.2.2.2.2.2.1 u.2.2.2.2.2.2.2.2.2.2.2.2.2.2.2.2.2.2.2.2.2.2.2.2.2.2.2.2.1 u.2.2.2.2.2.2.2.2.2.2.2.2.2.2.2.2.2.2.2.2.2.2.2.2.2.2.2.2.2.1 u.2.2.2.2.2.2.2.2.2.2.2.2.2.2.2.2.2.2.2.2.2.2.2.2.2.2.2.2.2.2.1 u.2.2.2.2.2.2.2.2.2.2.2.2.2.2.2.2.2.2.2.2.2.2.2.2.2.2.2.2.2.2.2.1 u.2.2.2.2.2.2.2.2.2.2.2.2.2.2.2.2.2.2.2.2.2.2.2.2.2.2.2.2.2.2.2.2.1 u.2.2.2.2.2.2.2.2.2.2.2.2.2.2.2.2.2.2.2.2.2.2.2.2.2.2.2.2.2.2.2.2.2.1 u.2.2.2.2.2.2.2.2.2.2.2.2.2.2.2.2.2.2.2.2.2.2.2.2.2.2.2.2.2.2.2.2.2.2.1 u.2.2.2.2.2.2.2.2.2.2.2.2.2.2.2.2.2.2.2.2.2.2.2.2.2.2.2.2.2.2.2.2.2.2.2.1 u.2.2.2.2.2.2.2.2.2.2.2.2.2.2.2.2.2.2.2.2.2.2.2.2.2.2.2.2.2.2.2.2.2.2.2.2.1 u.2.2.2.2.2.2.2.2.2.2.2.2.2.2.2.2.2.2.2.2.2.2.2.2.2.2.2.2.2.2.2.2.2.2.2.2.2.1 u.2.2.2.2.2.2.2.2.2.2.2.2.2.2.2.2.2.2.2.2.2.2.2.2.2.2.2.2.2.2.2.2.2.2.2.2.2.2.1 u.2.2.2.2.2.2.2.2.2.2.2.2.2.2.2.2.2.2.2.2.2.2.2.2.2.2.2.2.2.2.2.2.2.2.2.2.2.2.2.1 u.2.2.2.2.2.2.2.2.2.2.2.2.2.2.2.2.2.2.2.2.2.2.2.2.2.2.2.2.2.2.2.2.2.2.2.2.2.2.2.2) (fl, nI N, nI cap, nI Q, nI CS, nI cc, nI now, nI tc, op, oa, ob, oc, st, gn, lr, rg, upd pc s (nI (p + 1)), tr, wt, dl, mc, mk, mf, mv, ms, lm, mon, par, ce, ct, ca, sg, mx, wd, cn, cl, rc, rk, tp, tv, cnt) (nI s) (nI p)) (hC : k ≤ 5 → wpX_compute (fun u => wX_step_91 post (nI k) u.1 u.2.1 u.2.2.1 u.2.2.2.1 u.2.2.2.2.1 u.2.2.2.2.2.1 u.2.2.2.2.2.2.1 u.2.2.2.2.2.2.2.1 u.2.2.2.2.2.2.2.2.1 u.2.2.2.2.2.2.2.2.2.1 u.2.2.2.2.2.2.2.2.2.2.1 u.2.2.2.2.2.2.2.2.2.2.2.1 u.2.2.2.2.2.2.2.2.2.2.2.2.1 u.2.2.2.2.2.2.2.2.2.2.2.2.2.1 u.2.2.2.2.2.2.2.2.2.2.2.2.2.2.1 u.2.2.2.2.2.2.2.2.2.2.2.2.2.2.2.1 u.2.2.2.2.2.2.2.2.2.2.2.2.2.2.2.2.1 u.2.2.2.2.2.2.2.2.2.2.2.2.2.2.2.2.2.1 u.2.2.2.2.2.2.2.2.2.2.2.2.2.2.2.2.2.2.1 u.2.2.2.2.2.2.2.2.2.2.2.2.2.2.2.2.2.2.2.1 u.2.2.2.2.2.2.2.2.2.2.2.2.2.2.2.2.2.2.2.2.1 u.2.2.2.2.2.2.2.2.2.2.2.2.2.2.2.2.2.2.2.2.2.1 u.2.2.2.2.2.2.2.2.2.2.2.2.2.2.2.2.2.2.2.2.2.2.1 u.2.2.2.2.2.2.2.2.2.2.2.2.2.2.2.2.2.2.2.2.2.2.2.1 u.2.2.2.2.2.2.2.2.2.2.2.2.2.2.2.2.2.2.2.2.2.2.2.2.1 u.2.2.2.2.2.2.2.2.2.2.2.2.2.2.2.2.2.2.2.2.2.2.2.2.2.1 u.2.2.2.2.2.2.2.2.2.2.2.2.2.2.2.2.2.2.2.2.2.2.2.2.2.2.1 u.2.2.2.2.2.2.2.2.2.2.2.2.2.2.2.2.2.2.2.2.2.2.2.2.2.2.2.1 u.2.2.2.2.2.2.2.2.2.2.2.2.2.2.2.2.2.2.2.2.2.2.2.2.2.2.2.2.1 u.2.2.2.2.2.2.2.2.2.2.2.2.2.2.2.2.2.2.2.2.2.2.2.2.2.2.2.2.2.1 u.2.2.2.2.2.2.2.2.2.2.2.2.2.2.2.2.2.2.2.2.2.2.2.2.2.2.2.2.2.2.1 u.2.2.2.2.2.2.2.2.2.2.2.2.2.2.2.2.2.2.2.2.2.2.2.2.2.2.2.2.2.2.2.1 u.2.2.2.2.2.2.2.2.2.2.2.2.2.2.2.2.2.2.2.2.2.2.2.2.2.2.2.2.2.2.2.2.1 u.2.2.2.2.2.2.2.2.2.2.2.2.2.2.2.2.2.2.2.2.2.2.2.2.2.2.2.2.2.2.2.2.2.1 u.2.2.2.2.2.2.2.2.2.2.2.2.2.2.2.2.2.2.2.2.2.2.2.2.2.2.2.2.2.2.2.2.2.2.1 u.2.2.2.2.2.2.2.2.2.2.2.2.2.2.2.2.2.2.2.2.2.2.2.2.2.2.2.2.2.2.2.2.2.2.2.1 u.2.2.2.2.2.2.2.2.2.2.2.2.2.2.2.2.2.2.2.2.2.2.2.2.2.2.2.2.2.2.2.2.2.2.2.2.1 u.2.2.2.2.2.2.2.2.2.2.2.2.2.2.2.2.2.2.2.2.2.2.2.2.2.2.2.2.2.2.2.2.2.2.2.2.2.1 u.2.2.2.2.2.2.2.2.2.2.2.2.2.2.2.2.2.2.2.2.2.2.2.2.2.2.2.2.2.2.2.2.2.2.2.2.2.2.1 u.2.2.2.2.2.2.2.2.2.2.2.2.2.2.2.2.2.2.2.2.2.2.2.2.2.2.2.2.2.2.2.2.2.2.2.2.2.2.2.1 u.2.2.2.2.2.2.2.2.2.2.2.2.2.2.2.2.2.2.2.2.2.2.2.2.2.2.2.2.2.2.2.2.2.2.2.2.2.2.2.2) (fl, nI N, nI cap, nI Q, nI CS, nI cc, nI now, nI tc, op, oa, ob, oc, st, gn, lr, rg, upd pc s (nI (p + 1)), tr, wt, dl, mc, mk, mf, mv, ms, lm, mon, par, ce, ct, ca, sg, mx, wd, cn, cl, rc, rk, tp, tv, cnt) (nI s) (nI p)) : wpX_step post (fl, nI N, nI cap, nI Q, nI CS, nI cc, nI now, nI tc, op, oa, ob, oc, st, gn, lr, rg, pc, tr, wt, dl, mc, mk, mf, mv, ms, lm, mon, par, ce, ct, ca, sg, mx, wd, cn, cl, rc, rk, tp, tv, cnt) (nI s) := by
  have i1 : vp_in (nI s) 8 := vp_in_nI hs (by omega)
  have e1 : (nI s).toNatClampNeg = s := nI_clamp (by omega)
  have ip : vp_in (nI p) 64 := vp_in_nI (by omega) (by omega)
  have ep : (nI p).toNatClampNeg = p := nI_clamp (by omega)
  refine ⟨i1, nm_r (e' := nI p) (by rw [e1, hp]) (br_f (nI_pos (by omega)) (br_t (nI_lt hc (by omega)) ⟨ip, nm_r (e' := nI k) (by rw [ep, ek]) (br_f (fun z => h12 (am_im (b := 12) z (by omega) (by omega))) ⟨i1, nm_r (e' := upd pc s (nI (p + 1))) (by rw [e1, nI_1]) ?_⟩)⟩))⟩
  refine pk_lt 5 k (fun q => ?_) (fun q => hC q)
  exact pk_lt 8 k (fun q2 => hA q2) (fun q2 => hJ q q2)
theorem yo_d {post : Int32 → SY → Prop} {s p k a b : Nat} (hs : s < 8) (hp : pc s = nI p) (hc : p < 64) (ha : a ≤ 7) (hb : b < 8) (ea : oa p = nI a) (eb : ob p &&& 7 = nI b) (c0 : cel (p * 4) = op p) (c1 : cel (p * 4 + 1) = oa p) (c2 : cel (p * 4 + 2) = ob p) (ek : op p = nI k) (hk : k ≤ 21) (h0 : k = 0 → wY_step_97 post (nI s) 0 (nI (s * 8 + a)) (ob p) (rg (s * 8 + a)) (rg (s * 8 + b)) (gn s * 8 + nI s) (nI N) (nI cap) (nI Q) (nI CS) (nI now) (nI cc) (nI tc) (nI kn) st gn lr (upd pc s (nI (p + 1))) wa dy tr par ce ct ca kd sg mx wd rs (upd rg (s * 8 + a) (ob p)) mon lk mc mk mf mv ms cel trd cnt) (h : k ≠ 0 → wY_step_97 post (nI s) (nI k) (nI (s * 8 + a)) (ob p) (rg (s * 8 + a)) (rg (s * 8 + b)) (gn s * 8 + nI s) (nI N) (nI cap) (nI Q) (nI CS) (nI now) (nI cc) (nI tc) (nI kn) st gn lr (upd pc s (nI (p + 1))) wa dy tr par ce ct ca kd sg mx wd rs rg mon lk mc mk mf mv ms cel trd cnt) : wpY_step post (nI N, nI cap, nI Q, nI CS, nI now, nI cc, nI tc, nI kn, st, gn, lr, pc, wa, dy, tr, par, ce, ct, ca, kd, sg, mx, wd, rs, rg, mon, lk, mc, mk, mf, mv, ms, cel, trd, cnt) (nI s) := by
  have i1 : vp_in (nI s) 8 := vp_in_nI hs (by omega)
  have e1 : (nI s).toNatClampNeg = s := nI_clamp (by omega)
  have it : vp_in (nI (s * 8 + a)) 64 := vp_in_nI (by omega) (by omega)
  have et : (nI (s * 8 + a)).toNatClampNeg = s * 8 + a := nI_clamp (by omega)
  have ib : vp_in (nI s * 8 + (ob p &&& 7)) 64 := by rw [eb]; exact pk_in (s * 8 + b) 64 (by omega) (am_8 s b)
  have ebx : (nI s * 8 + (ob p &&& 7)).toNatClampNeg = s * 8 + b := by rw [eb, am_8, nI_clamp (by omega)]
  refine ⟨i1, nm_r (e' := nI (p * 4)) (by rw [e1, hp, am_m4]) ⟨vp_in_nI (by omega) (by omega), nm_r (e' := nI k) (by rw [nI_clamp (by omega), c0, ek]) ⟨pk_in (p * 4 + 1) 256 (by omega) (nI_1 _), nm_r (e' := nI (s * 8 + a)) (by rw [nI_1, nI_clamp (by omega), c1, ea, am_8]) ⟨pk_in (p * 4 + 2) 256 (by omega) (am_p2 _), nm_r (e' := ob p) (by rw [am_p2, nI_clamp (by omega), c2]) ⟨it, nm_r (e' := rg (s * 8 + a)) (by rw [et]) ⟨ib, nm_r (e' := rg (s * 8 + b)) (by rw [ebx]) ?_⟩⟩⟩⟩⟩⟩
  refine yv_pid hs ?_
  refine ⟨i1, i1, nm_r (e' := upd pc s (nI (p + 1))) (by rw [e1, hp, nI_1]) ?_⟩
  by_cases q : k = 0
  · subst q
    exact br_t rfl ⟨it, nm_r (e' := upd rg (s * 8 + a) (ob p)) (by rw [et]) (h0 rfl)⟩
  · exact br_f (fun z => q (am_im (b := 0) z (by omega) (by omega))) (h q)
theorem xo_e {post : Int32 → SX → Prop} {k : Nat} {u : SX} (hk : k ≤ 21) (h : post (am_b (decide (k ≠ 20))) u) : wX_step_91 post (nI k) u.1 u.2.1 u.2.2.1 u.2.2.2.1 u.2.2.2.2.1 u.2.2.2.2.2.1 u.2.2.2.2.2.2.1 u.2.2.2.2.2.2.2.1 u.2.2.2.2.2.2.2.2.1 u.2.2.2.2.2.2.2.2.2.1 u.2.2.2.2.2.2.2.2.2.2.1 u.2.2.2.2.2.2.2.2.2.2.2.1 u.2.2.2.2.2.2.2.2.2.2.2.2.1 u.2.2.2.2.2.2.2.2.2.2.2.2.2.1 u.2.2.2.2.2.2.2.2.2.2.2.2.2.2.1 u.2.2.2.2.2.2.2.2.2.2.2.2.2.2.2.1 u.2.2.2.2.2.2.2.2.2.2.2.2.2.2.2.2.1 u.2.2.2.2.2.2.2.2.2.2.2.2.2.2.2.2.2.1 u.2.2.2.2.2.2.2.2.2.2.2.2.2.2.2.2.2.2.1 u.2.2.2.2.2.2.2.2.2.2.2.2.2.2.2.2.2.2.2.1 u.2.2.2.2.2.2.2.2.2.2.2.2.2.2.2.2.2.2.2.2.1 u.2.2.2.2.2.2.2.2.2.2.2.2.2.2.2.2.2.2.2.2.2.1 u.2.2.2.2.2.2.2.2.2.2.2.2.2.2.2.2.2.2.2.2.2.2.1 u.2.2.2.2.2.2.2.2.2.2.2.2.2.2.2.2.2.2.2.2.2.2.2.1 u.2.2.2.2.2.2.2.2.2.2.2.2.2.2.2.2.2.2.2.2.2.2.2.2.1 u.2.2.2.2.2.2.2.2.2.2.2.2.2.2.2.2.2.2.2.2.2.2.2.2.2.1 u.2.2.2.2.2.2.2.2.2.2.2.2.2.2.2.2.2.2.2.2.2.2.2.2.2.2.1 u.2.2.2.2.2.2.2.2.2.2.2.2.2.2.2.2.2.2.2.2.2.2.2.2.2.2.2.1 u.2.2.2.2.2.2.2.2.2.2.2.2.2.2.2.2.2.2.2.2.2.2.2.2.2.2.2.2.1 u.2.2.2.2.2.2.2.2.2.2.2.2.2.2.2.2.2.2.2.2.2.2.2.2.2.2.2.2.2.1 u.2.2.2.2.2.2.2.2.2.2.2.2.2.2.2.2.2.2.2.2.2.2.2.2.2.2.2.2.2.2.1 u.2.2.2.2.2.2.2.2.2.2.2.2.2.2.2.2.2.2.2.2.2.2.2.2.2.2.2.2.2.2.2.1 u.2.2.2.2.2.2.2.2.2.2.2.2.2.2.2.2.2.2.2.2.2.2.2.2.2.2.2.2.2.2.2.2.1 u.2.2.2.2.2.2.2.2.2.2.2.2.2.2.2.2.2.2.2.2.2.2.2.2.2.2.2.2.2.2.2.2.2.1 u.2.2.2.2.2.2.2.2.2.2.2.2.2.2.2.2.2.2.2.2.2.2.2.2.2.2.2.2.2.2.2.2.2.2.1 u.2.2.2.2.2.2.2.2.2.2.2.2.2.2.2.2.2.2.2.2.2.2.2.2.2.2.2.2.2.2.2.2.2.2.2.1 u.2.2.2.2.2.2.2.2.2.2.2.2.2.2.2.2.2.2.2.2.2.2.2.2.2.2.2.2.2.2.2.2.2.2.2.2.1 u.2.2.2.2.2.2.2.2.2.2.2.2.2.2.2.2.2.2.2.2.2.2.2.2.2.2.2.2.2.2.2.2.2.2.2.2.2.1 u.2.2.2.2.2.2.2.2.2.2.2.2.2.2.2.2.2.2.2.2.2.2.2.2.2.2.2.2.2.2.2.2.2.2.2.2.2.2.1 u.2.2.2.2.2.2.2.2.2.2.2.2.2.2.2.2.2.2.2.2.2.2.2.2.2.2.2.2.2.2.2.2.2.2.2.2.2.2.2.1 u.2.2.2.2.2.2.2.2.2.2.2.2.2.2.2.2.2.2.2.2.2.2.2.2.2.2.2.2.2.2.2.2.2.2.2.2.2.2.2.2 := by
  by_cases q : k = 20
  · subst q
    exact br_t rfl h
  · rw [decide_eq_true (p := k ≠ 20) q] at h
    exact br_f (fun z => q (am_im (b := 20) z (by omega) (by omega))) h

theorem yo_0 {post : Int32 → SY → Prop} {s p : Nat} {x4 x5 x6 x7 x8 : Int32} (h : post 0 (nI N, nI cap, nI Q, nI CS, nI now, nI cc, nI tc, nI kn, st, gn, lr, pc, wa, dy, tr, par, ce, ct, ca, kd, sg, mx, wd, rs, rg, mon, lk, mc, mk, mf, mv, ms, cel, trd, cnt)) : wY_step_97 post (nI s) 0 x4 x5 x6 x7 x8 (nI N) (nI cap) (nI Q) (nI CS) (nI now) (nI cc) (nI tc) (nI kn) st gn lr pc wa dy tr par ce ct ca kd sg mx wd rs rg mon lk mc mk mf mv ms cel trd cnt :=
  br_f (by decide) (br_f (by decide) (br_f (by decide) (br_f (by decide) (br_f (by decide) (br_f (by decide) (br_f (by decide) (br_f (by decide) (br_f (by decide) (br_f (by decide) (br_f (by decide) (br_t (by decide) (br_f (by decide) (br_f (by decide) (br_f (by decide) (br_f (by decide) (br_f (by decide) (br_f (by decide) (h))))))))))))))))))
theorem op_0 {K : List Nat} {s p : Nat} (I : am_I K N cap Q CS cc now tc kn fl op oa ob oc st gn lr rg pc tr wt dl mc mk mf mv lm mon par ce ct ca sg mx wd cn cl rc rk tp tv wa dy kd rs lk cel trd ms cnt) (hs : s < N) (h1 : st s = 1) (hp : pc s = nI p) (hpc : p < cc) (ek : op p = 0) : ∃ (K1 : List Nat) (u1 : SX) (v1 : SY), am_R K1 u1 v1 ∧ am_T N Q now st u1 ∧ (∀ post : Int32 → SX → Prop, post (am_b (decide (0 ≠ 20))) u1 → wpX_step post (fl, nI N, nI cap, nI Q, nI CS, nI cc, nI now, nI tc, op, oa, ob, oc, st, gn, lr, rg, pc, tr, wt, dl, mc, mk, mf, mv, ms, lm, mon, par, ce, ct, ca, sg, mx, wd, cn, cl, rc, rk, tp, tv, cnt) (nI s)) ∧ (∀ post : Int32 → SY → Prop, post (am_b (!decide (0 ≠ 20))) v1 → wpY_step post (nI N, nI cap, nI Q, nI CS, nI now, nI cc, nI tc, nI kn, st, gn, lr, pc, wa, dy, tr, par, ce, ct, ca, kd, sg, mx, wd, rs, rg, mon, lk, mc, mk, mf, mv, ms, cel, trd, cnt) (nI s)) := by
  have hN : N ≤ 8 := I.1.2.1
  have hcc : cc ≤ 64 := by have := I.1; unfold iS at this; omega
  obtain ⟨-, ⟨a, a7, ea⟩, -, c0, c1, c2, -⟩ := I.2.1 p hpc
  obtain ⟨b, b8, eb⟩ : ∃ j, j < 8 ∧ ob p &&& 7 = nI j := pk_andE (ob p) 3 (by decide)
  have I' : am_I K N cap Q CS cc now tc kn fl op oa ob oc st gn lr (upd rg (s * 8 + a) (ob p)) (upd pc s (nI (p + 1))) tr wt dl mc mk mf mv lm mon par ce ct ca sg mx wd cn cl rc rk tp tv wa dy kd rs lk cel trd ms cnt := I
  refine ⟨K, _, _, am_Ri I', ⟨⟨rfl, rfl, rfl⟩, fun _ _ z => z⟩, fun post q => ?_, fun post q => ?_⟩
  · exact xo_d (k := 0) (by omega) hp hpc hcc ek (by omega) (by omega) (fun z => absurd z (by omega)) (fun z => absurd z (by omega)) (fun _ => xc_0 (by omega) (by omega) a7 b8 ea eb ek (xo_e (by omega) (q)))
  · exact yo_d (k := 0) (by omega) hp (by omega) a7 b8 ea eb c0 c1 c2 ek (by omega) (fun _ => yo_0 (p := p) q) (fun z => absurd rfl z)
theorem op_1 {K : List Nat} {s p : Nat} (I : am_I K N cap Q CS cc now tc kn fl op oa ob oc st gn lr rg pc tr wt dl mc mk mf mv lm mon par ce ct ca sg mx wd cn cl rc rk tp tv wa dy kd rs lk cel trd ms cnt) (hs : s < N) (h1 : st s = 1) (hp : pc s = nI p) (hpc : p < cc) (ek : op p = 1) : ∃ (K1 : List Nat) (u1 : SX) (v1 : SY), am_R K1 u1 v1 ∧ am_T N Q now st u1 ∧ (∀ post : Int32 → SX → Prop, post (am_b (decide (1 ≠ 20))) u1 → wpX_step post (fl, nI N, nI cap, nI Q, nI CS, nI cc, nI now, nI tc, op, oa, ob, oc, st, gn, lr, rg, pc, tr, wt, dl, mc, mk, mf, mv, ms, lm, mon, par, ce, ct, ca, sg, mx, wd, cn, cl, rc, rk, tp, tv, cnt) (nI s)) ∧ (∀ post : Int32 → SY → Prop, post (am_b (!decide (1 ≠ 20))) v1 → wpY_step post (nI N, nI cap, nI Q, nI CS, nI now, nI cc, nI tc, nI kn, st, gn, lr, pc, wa, dy, tr, par, ce, ct, ca, kd, sg, mx, wd, rs, rg, mon, lk, mc, mk, mf, mv, ms, cel, trd, cnt) (nI s)) := by
  have hN : N ≤ 8 := I.1.2.1
  have hcc : cc ≤ 64 := by have := I.1; unfold iS at this; omega
  obtain ⟨-, ⟨a, a7, ea⟩, -, c0, c1, c2, -⟩ := I.2.1 p hpc
  obtain ⟨b, b8, eb⟩ : ∃ j, j < 8 ∧ ob p &&& 7 = nI j := pk_andE (ob p) 3 (by decide)
  have I' : am_I K N cap Q CS cc now tc kn fl op oa ob oc st gn lr (upd rg (s * 8 + a) (rg (s * 8 + b))) (upd pc s (nI (p + 1))) tr wt dl mc mk mf mv lm mon par ce ct ca sg mx wd cn cl rc rk tp tv wa dy kd rs lk cel trd ms cnt := I
  refine ⟨K, _, _, am_Ri I', ⟨⟨rfl, rfl, rfl⟩, fun _ _ z => z⟩, fun post q => ?_, fun post q => ?_⟩
  · exact xo_d (k := 1) (by omega) hp hpc hcc ek (by omega) (by omega) (fun z => absurd z (by omega)) (fun z => absurd z (by omega)) (fun _ => xc_1 (by omega) (by omega) a7 b8 ea eb ek (xo_e (by omega) (q)))
  · exact yo_d (k := 1) (by omega) hp (by omega) a7 b8 ea eb c0 c1 c2 ek (by omega) (fun z => absurd z (by omega)) (fun _ => yo_1 (by omega) a7 q)
theorem op_2 {K : List Nat} {s p : Nat} (I : am_I K N cap Q CS cc now tc kn fl op oa ob oc st gn lr rg pc tr wt dl mc mk mf mv lm mon par ce ct ca sg mx wd cn cl rc rk tp tv wa dy kd rs lk cel trd ms cnt) (hs : s < N) (h1 : st s = 1) (hp : pc s = nI p) (hpc : p < cc) (ek : op p = 2) : ∃ (K1 : List Nat) (u1 : SX) (v1 : SY), am_R K1 u1 v1 ∧ am_T N Q now st u1 ∧ (∀ post : Int32 → SX → Prop, post (am_b (decide (2 ≠ 20))) u1 → wpX_step post (fl, nI N, nI cap, nI Q, nI CS, nI cc, nI now, nI tc, op, oa, ob, oc, st, gn, lr, rg, pc, tr, wt, dl, mc, mk, mf, mv, ms, lm, mon, par, ce, ct, ca, sg, mx, wd, cn, cl, rc, rk, tp, tv, cnt) (nI s)) ∧ (∀ post : Int32 → SY → Prop, post (am_b (!decide (2 ≠ 20))) v1 → wpY_step post (nI N, nI cap, nI Q, nI CS, nI now, nI cc, nI tc, nI kn, st, gn, lr, pc, wa, dy, tr, par, ce, ct, ca, kd, sg, mx, wd, rs, rg, mon, lk, mc, mk, mf, mv, ms, cel, trd, cnt) (nI s)) := by
  have hN : N ≤ 8 := I.1.2.1
  have hcc : cc ≤ 64 := by have := I.1; unfold iS at this; omega
  obtain ⟨-, ⟨a, a7, ea⟩, -, c0, c1, c2, -⟩ := I.2.1 p hpc
  obtain ⟨b, b8, eb⟩ : ∃ j, j < 8 ∧ ob p &&& 7 = nI j := pk_andE (ob p) 3 (by decide)
  have I' : am_I K N cap Q CS cc now tc kn fl op oa ob oc st gn lr (upd rg (s * 8 + a) (rg (s * 8 + a) + rg (s * 8 + b))) (upd pc s (nI (p + 1))) tr wt dl mc mk mf mv lm mon par ce ct ca sg mx wd cn cl rc rk tp tv wa dy kd rs lk cel trd ms cnt := I
  refine ⟨K, _, _, am_Ri I', ⟨⟨rfl, rfl, rfl⟩, fun _ _ z => z⟩, fun post q => ?_, fun post q => ?_⟩
  · exact xo_d (k := 2) (by omega) hp hpc hcc ek (by omega) (by omega) (fun z => absurd z (by omega)) (fun z => absurd z (by omega)) (fun _ => xc_2 (by omega) (by omega) a7 b8 ea eb ek (xo_e (by omega) (q)))
  · exact yo_d (k := 2) (by omega) hp (by omega) a7 b8 ea eb c0 c1 c2 ek (by omega) (fun z => absurd z (by omega)) (fun _ => yo_2 (by omega) a7 q)
theorem op_3 {K : List Nat} {s p : Nat} (I : am_I K N cap Q CS cc now tc kn fl op oa ob oc st gn lr rg pc tr wt dl mc mk mf mv lm mon par ce ct ca sg mx wd cn cl rc rk tp tv wa dy kd rs lk cel trd ms cnt) (hs : s < N) (h1 : st s = 1) (hp : pc s = nI p) (hpc : p < cc) (ek : op p = 3) : ∃ (K1 : List Nat) (u1 : SX) (v1 : SY), am_R K1 u1 v1 ∧ am_T N Q now st u1 ∧ (∀ post : Int32 → SX → Prop, post (am_b (decide (3 ≠ 20))) u1 → wpX_step post (fl, nI N, nI cap, nI Q, nI CS, nI cc, nI now, nI tc, op, oa, ob, oc, st, gn, lr, rg, pc, tr, wt, dl, mc, mk, mf, mv, ms, lm, mon, par, ce, ct, ca, sg, mx, wd, cn, cl, rc, rk, tp, tv, cnt) (nI s)) ∧ (∀ post : Int32 → SY → Prop, post (am_b (!decide (3 ≠ 20))) v1 → wpY_step post (nI N, nI cap, nI Q, nI CS, nI now, nI cc, nI tc, nI kn, st, gn, lr, pc, wa, dy, tr, par, ce, ct, ca, kd, sg, mx, wd, rs, rg, mon, lk, mc, mk, mf, mv, ms, cel, trd, cnt) (nI s)) := by
  have hN : N ≤ 8 := I.1.2.1
  have hcc : cc ≤ 64 := by have := I.1; unfold iS at this; omega
  obtain ⟨-, ⟨a, a7, ea⟩, -, c0, c1, c2, -⟩ := I.2.1 p hpc
  obtain ⟨b, b8, eb⟩ : ∃ j, j < 8 ∧ ob p &&& 7 = nI j := pk_andE (ob p) 3 (by decide)
  have I' : am_I K N cap Q CS cc now tc kn fl op oa ob oc st gn lr (upd rg (s * 8 + a) (rg (s * 8 + a) - rg (s * 8 + b))) (upd pc s (nI (p + 1))) tr wt dl mc mk mf mv lm mon par ce ct ca sg mx wd cn cl rc rk tp tv wa dy kd rs lk cel trd ms cnt := I
  refine ⟨K, _, _, am_Ri I', ⟨⟨rfl, rfl, rfl⟩, fun _ _ z => z⟩, fun post q => ?_, fun post q => ?_⟩
  · exact xo_d (k := 3) (by omega) hp hpc hcc ek (by omega) (by omega) (fun z => absurd z (by omega)) (fun z => absurd z (by omega)) (fun _ => xc_3 (by omega) (by omega) a7 b8 ea eb ek (xo_e (by omega) (q)))
  · exact yo_d (k := 3) (by omega) hp (by omega) a7 b8 ea eb c0 c1 c2 ek (by omega) (fun z => absurd z (by omega)) (fun _ => yo_3 (by omega) a7 q)
theorem op_4 {K : List Nat} {s p : Nat} (I : am_I K N cap Q CS cc now tc kn fl op oa ob oc st gn lr rg pc tr wt dl mc mk mf mv lm mon par ce ct ca sg mx wd cn cl rc rk tp tv wa dy kd rs lk cel trd ms cnt) (hs : s < N) (h1 : st s = 1) (hp : pc s = nI p) (hpc : p < cc) (ek : op p = 4) : ∃ (K1 : List Nat) (u1 : SX) (v1 : SY), am_R K1 u1 v1 ∧ am_T N Q now st u1 ∧ (∀ post : Int32 → SX → Prop, post (am_b (decide (4 ≠ 20))) u1 → wpX_step post (fl, nI N, nI cap, nI Q, nI CS, nI cc, nI now, nI tc, op, oa, ob, oc, st, gn, lr, rg, pc, tr, wt, dl, mc, mk, mf, mv, ms, lm, mon, par, ce, ct, ca, sg, mx, wd, cn, cl, rc, rk, tp, tv, cnt) (nI s)) ∧ (∀ post : Int32 → SY → Prop, post (am_b (!decide (4 ≠ 20))) v1 → wpY_step post (nI N, nI cap, nI Q, nI CS, nI now, nI cc, nI tc, nI kn, st, gn, lr, pc, wa, dy, tr, par, ce, ct, ca, kd, sg, mx, wd, rs, rg, mon, lk, mc, mk, mf, mv, ms, cel, trd, cnt) (nI s)) := by
  have hN : N ≤ 8 := I.1.2.1
  have hcc : cc ≤ 64 := by have := I.1; unfold iS at this; omega
  obtain ⟨-, ⟨a, a7, ea⟩, -, c0, c1, c2, -⟩ := I.2.1 p hpc
  obtain ⟨b, b8, eb⟩ : ∃ j, j < 8 ∧ ob p &&& 7 = nI j := pk_andE (ob p) 3 (by decide)
  have I' : am_I K N cap Q CS cc now tc kn fl op oa ob oc st gn lr (upd rg (s * 8 + a) (rg (s * 8 + a) * rg (s * 8 + b))) (upd pc s (nI (p + 1))) tr wt dl mc mk mf mv lm mon par ce ct ca sg mx wd cn cl rc rk tp tv wa dy kd rs lk cel trd ms cnt := I
  refine ⟨K, _, _, am_Ri I', ⟨⟨rfl, rfl, rfl⟩, fun _ _ z => z⟩, fun post q => ?_, fun post q => ?_⟩
  · exact xo_d (k := 4) (by omega) hp hpc hcc ek (by omega) (by omega) (fun z => absurd z (by omega)) (fun z => absurd z (by omega)) (fun _ => xc_4 (by omega) (by omega) a7 b8 ea eb ek (xo_e (by omega) (q)))
  · exact yo_d (k := 4) (by omega) hp (by omega) a7 b8 ea eb c0 c1 c2 ek (by omega) (fun z => absurd z (by omega)) (fun _ => yo_4 (by omega) a7 q)
theorem op_5 {K : List Nat} {s p : Nat} (I : am_I K N cap Q CS cc now tc kn fl op oa ob oc st gn lr rg pc tr wt dl mc mk mf mv lm mon par ce ct ca sg mx wd cn cl rc rk tp tv wa dy kd rs lk cel trd ms cnt) (hs : s < N) (h1 : st s = 1) (hp : pc s = nI p) (hpc : p < cc) (ek : op p = 5) : ∃ (K1 : List Nat) (u1 : SX) (v1 : SY), am_R K1 u1 v1 ∧ am_T N Q now st u1 ∧ (∀ post : Int32 → SX → Prop, post (am_b (decide (5 ≠ 20))) u1 → wpX_step post (fl, nI N, nI cap, nI Q, nI CS, nI cc, nI now, nI tc, op, oa, ob, oc, st, gn, lr, rg, pc, tr, wt, dl, mc, mk, mf, mv, ms, lm, mon, par, ce, ct, ca, sg, mx, wd, cn, cl, rc, rk, tp, tv, cnt) (nI s)) ∧ (∀ post : Int32 → SY → Prop, post (am_b (!decide (5 ≠ 20))) v1 → wpY_step post (nI N, nI cap, nI Q, nI CS, nI now, nI cc, nI tc, nI kn, st, gn, lr, pc, wa, dy, tr, par, ce, ct, ca, kd, sg, mx, wd, rs, rg, mon, lk, mc, mk, mf, mv, ms, cel, trd, cnt) (nI s)) := by
  have hN : N ≤ 8 := I.1.2.1
  have hcc : cc ≤ 64 := by have := I.1; unfold iS at this; omega
  obtain ⟨-, ⟨a, a7, ea⟩, -, c0, c1, c2, -⟩ := I.2.1 p hpc
  obtain ⟨b, b8, eb⟩ : ∃ j, j < 8 ∧ ob p &&& 7 = nI j := pk_andE (ob p) 3 (by decide)
  by_cases z : rg (s * 8 + b) = 0
  · have I' : am_I K N cap Q CS cc now tc kn fl op oa ob oc st gn lr rg (upd pc s (nI (p + 1))) tr wt dl mc mk mf mv lm mon par ce ct ca sg mx wd cn cl rc rk tp tv wa dy kd rs lk cel trd ms cnt := I
    obtain ⟨K1, u1, v1, R, -, t, -, aX, aY⟩ := ed_proc (j := s) (r := 5) I' (by omega) (Or.inl h1)
    refine ⟨K1, u1, v1, R, t, fun post q => ?_, fun post q => ?_⟩
    · exact xo_d (k := 5) (by omega) hp hpc hcc ek (by omega) (by omega) (fun z => absurd z (by omega)) (fun z => absurd z (by omega)) (fun _ => xc_5 (by omega) (by omega) a7 b8 ea eb ek (fun _ => aX) (fun _ => xo_e (by omega) (q)) (fun w => absurd z w))
    · exact yo_d (k := 5) (by omega) hp (by omega) a7 b8 ea eb c0 c1 c2 ek (by omega) (fun z => absurd z (by omega)) (fun _ => yo_5 (by omega) a7 (fun _ => aY) (fun _ => q) (fun w => absurd z w))
  · have I' : am_I K N cap Q CS cc now tc kn fl op oa ob oc st gn lr (upd rg (s * 8 + a) (rg (s * 8 + a) / rg (s * 8 + b))) (upd pc s (nI (p + 1))) tr wt dl mc mk mf mv lm mon par ce ct ca sg mx wd cn cl rc rk tp tv wa dy kd rs lk cel trd ms cnt := I
    refine ⟨K, _, _, am_Ri I', ⟨⟨rfl, rfl, rfl⟩, fun _ _ z => z⟩, fun post q => ?_, fun post q => ?_⟩
    · exact xo_d (k := 5) (by omega) hp hpc hcc ek (by omega) (by omega) (fun z => absurd z (by omega)) (fun z => absurd z (by omega)) (fun _ => xc_5 (u1 := (fl, nI N, nI cap, nI Q, nI CS, nI cc, nI now, nI tc, op, oa, ob, oc, st, gn, lr, rg, pc, tr, wt, dl, mc, mk, mf, mv, ms, lm, mon, par, ce, ct, ca, sg, mx, wd, cn, cl, rc, rk, tp, tv, cnt)) (by omega) (by omega) a7 b8 ea eb ek (fun w => absurd w z) (fun w => absurd w z) (fun _ => xo_e (by omega) (q)))
    · exact yo_d (k := 5) (by omega) hp (by omega) a7 b8 ea eb c0 c1 c2 ek (by omega) (fun z => absurd z (by omega)) (fun _ => yo_5 (v1 := (nI N, nI cap, nI Q, nI CS, nI now, nI cc, nI tc, nI kn, st, gn, lr, pc, wa, dy, tr, par, ce, ct, ca, kd, sg, mx, wd, rs, rg, mon, lk, mc, mk, mf, mv, ms, cel, trd, cnt)) (by omega) a7 (fun w => absurd w z) (fun w => absurd w z) (fun _ => q))
theorem op_6 {K : List Nat} {s p : Nat} (I : am_I K N cap Q CS cc now tc kn fl op oa ob oc st gn lr rg pc tr wt dl mc mk mf mv lm mon par ce ct ca sg mx wd cn cl rc rk tp tv wa dy kd rs lk cel trd ms cnt) (hs : s < N) (h1 : st s = 1) (hp : pc s = nI p) (hpc : p < cc) (ek : op p = 6) : ∃ (K1 : List Nat) (u1 : SX) (v1 : SY), am_R K1 u1 v1 ∧ am_T N Q now st u1 ∧ (∀ post : Int32 → SX → Prop, post (am_b (decide (6 ≠ 20))) u1 → wpX_step post (fl, nI N, nI cap, nI Q, nI CS, nI cc, nI now, nI tc, op, oa, ob, oc, st, gn, lr, rg, pc, tr, wt, dl, mc, mk, mf, mv, ms, lm, mon, par, ce, ct, ca, sg, mx, wd, cn, cl, rc, rk, tp, tv, cnt) (nI s)) ∧ (∀ post : Int32 → SY → Prop, post (am_b (!decide (6 ≠ 20))) v1 → wpY_step post (nI N, nI cap, nI Q, nI CS, nI now, nI cc, nI tc, nI kn, st, gn, lr, pc, wa, dy, tr, par, ce, ct, ca, kd, sg, mx, wd, rs, rg, mon, lk, mc, mk, mf, mv, ms, cel, trd, cnt) (nI s)) := by
  have hN : N ≤ 8 := I.1.2.1
  have hcc : cc ≤ 64 := by have := I.1; unfold iS at this; omega
  obtain ⟨-, ⟨a, a7, ea⟩, -, c0, c1, c2, -⟩ := I.2.1 p hpc
  obtain ⟨b, b8, eb⟩ : ∃ j, j < 8 ∧ ob p &&& 7 = nI j := pk_andE (ob p) 3 (by decide)
  have J1 : am_I K N cap Q CS cc now tc kn fl op oa ob oc st gn lr rg (upd (upd pc s (nI (p + 1))) s (ob p)) tr wt dl mc mk mf mv lm mon par ce ct ca sg mx wd cn cl rc rk tp tv wa dy kd rs lk cel trd ms cnt := I
  refine ⟨K, _, _, am_Ri J1, ⟨⟨rfl, rfl, rfl⟩, fun _ _ z => z⟩, fun post q => ?_, fun post q => ?_⟩
  · exact xo_d (k := 6) (by omega) hp hpc hcc ek (by omega) (by omega) (fun z => absurd z (by omega)) (fun _ _ => xj_6 (by omega) (by omega) a7 b8 ea eb ek (fun _ => xo_e (by omega) (q)) (fun w => absurd trivial w)) (fun z => absurd z (by omega))
  · exact yo_d (k := 6) (by omega) hp (by omega) a7 b8 ea eb c0 c1 c2 ek (by omega) (fun z => absurd z (by omega)) (fun _ => yo_6 (by omega) a7 q)
theorem op_7 {K : List Nat} {s p : Nat} (I : am_I K N cap Q CS cc now tc kn fl op oa ob oc st gn lr rg pc tr wt dl mc mk mf mv lm mon par ce ct ca sg mx wd cn cl rc rk tp tv wa dy kd rs lk cel trd ms cnt) (hs : s < N) (h1 : st s = 1) (hp : pc s = nI p) (hpc : p < cc) (ek : op p = 7) : ∃ (K1 : List Nat) (u1 : SX) (v1 : SY), am_R K1 u1 v1 ∧ am_T N Q now st u1 ∧ (∀ post : Int32 → SX → Prop, post (am_b (decide (7 ≠ 20))) u1 → wpX_step post (fl, nI N, nI cap, nI Q, nI CS, nI cc, nI now, nI tc, op, oa, ob, oc, st, gn, lr, rg, pc, tr, wt, dl, mc, mk, mf, mv, ms, lm, mon, par, ce, ct, ca, sg, mx, wd, cn, cl, rc, rk, tp, tv, cnt) (nI s)) ∧ (∀ post : Int32 → SY → Prop, post (am_b (!decide (7 ≠ 20))) v1 → wpY_step post (nI N, nI cap, nI Q, nI CS, nI now, nI cc, nI tc, nI kn, st, gn, lr, pc, wa, dy, tr, par, ce, ct, ca, kd, sg, mx, wd, rs, rg, mon, lk, mc, mk, mf, mv, ms, cel, trd, cnt) (nI s)) := by
  have hN : N ≤ 8 := I.1.2.1
  have hcc : cc ≤ 64 := by have := I.1; unfold iS at this; omega
  obtain ⟨-, ⟨a, a7, ea⟩, -, c0, c1, c2, -⟩ := I.2.1 p hpc
  obtain ⟨b, b8, eb⟩ : ∃ j, j < 8 ∧ ob p &&& 7 = nI j := pk_andE (ob p) 3 (by decide)
  have J1 : am_I K N cap Q CS cc now tc kn fl op oa ob oc st gn lr rg (upd (upd pc s (nI (p + 1))) s (ob p)) tr wt dl mc mk mf mv lm mon par ce ct ca sg mx wd cn cl rc rk tp tv wa dy kd rs lk cel trd ms cnt := I
  have J0 : am_I K N cap Q CS cc now tc kn fl op oa ob oc st gn lr rg (upd pc s (nI (p + 1))) tr wt dl mc mk mf mv lm mon par ce ct ca sg mx wd cn cl rc rk tp tv wa dy kd rs lk cel trd ms cnt := I
  by_cases z : rg (s * 8 + a) = 0
  · refine ⟨K, _, _, am_Ri J1, ⟨⟨rfl, rfl, rfl⟩, fun _ _ z => z⟩, fun post q => ?_, fun post q => ?_⟩
    · exact xo_d (k := 7) (by omega) hp hpc hcc ek (by omega) (by omega) (fun z => absurd z (by omega)) (fun _ _ => xj_7 (by omega) (by omega) a7 b8 ea eb ek (fun _ => xo_e (by omega) (q)) (fun w => absurd z w)) (fun z => absurd z (by omega))
    · exact yo_d (k := 7) (by omega) hp (by omega) a7 b8 ea eb c0 c1 c2 ek (by omega) (fun z => absurd z (by omega)) (fun _ => yo_7 (by omega) a7 (fun _ => q) (fun w => absurd z w))
  · refine ⟨K, _, _, am_Ri J0, ⟨⟨rfl, rfl, rfl⟩, fun _ _ z => z⟩, fun post q => ?_, fun post q => ?_⟩
    · exact xo_d (k := 7) (by omega) hp hpc hcc ek (by omega) (by omega) (fun z => absurd z (by omega)) (fun _ _ => xj_7 (by omega) (by omega) a7 b8 ea eb ek (fun w => absurd w z) (fun _ => xo_e (by omega) (q))) (fun z => absurd z (by omega))
    · exact yo_d (k := 7) (by omega) hp (by omega) a7 b8 ea eb c0 c1 c2 ek (by omega) (fun z => absurd z (by omega)) (fun _ => yo_7 (by omega) a7 (fun w => absurd w z) (fun _ => q))
theorem op_8 {K : List Nat} {s p : Nat} (I : am_I K N cap Q CS cc now tc kn fl op oa ob oc st gn lr rg pc tr wt dl mc mk mf mv lm mon par ce ct ca sg mx wd cn cl rc rk tp tv wa dy kd rs lk cel trd ms cnt) (hs : s < N) (h1 : st s = 1) (hp : pc s = nI p) (hpc : p < cc) (ek : op p = 8) : ∃ (K1 : List Nat) (u1 : SX) (v1 : SY), am_R K1 u1 v1 ∧ am_T N Q now st u1 ∧ (∀ post : Int32 → SX → Prop, post (am_b (decide (8 ≠ 20))) u1 → wpX_step post (fl, nI N, nI cap, nI Q, nI CS, nI cc, nI now, nI tc, op, oa, ob, oc, st, gn, lr, rg, pc, tr, wt, dl, mc, mk, mf, mv, ms, lm, mon, par, ce, ct, ca, sg, mx, wd, cn, cl, rc, rk, tp, tv, cnt) (nI s)) ∧ (∀ post : Int32 → SY → Prop, post (am_b (!decide (8 ≠ 20))) v1 → wpY_step post (nI N, nI cap, nI Q, nI CS, nI now, nI cc, nI tc, nI kn, st, gn, lr, pc, wa, dy, tr, par, ce, ct, ca, kd, sg, mx, wd, rs, rg, mon, lk, mc, mk, mf, mv, ms, cel, trd, cnt) (nI s)) := by
  have hN : N ≤ 8 := I.1.2.1
  have hcc : cc ≤ 64 := by have := I.1; unfold iS at this; omega
  obtain ⟨-, ⟨a, a7, ea⟩, -, c0, c1, c2, -⟩ := I.2.1 p hpc
  obtain ⟨b, b8, eb⟩ : ∃ j, j < 8 ∧ ob p &&& 7 = nI j := pk_andE (ob p) 3 (by decide)
  have J1 : am_I K N cap Q CS cc now tc kn fl op oa ob oc st gn lr rg (upd (upd pc s (nI (p + 1))) s (ob p)) tr wt dl mc mk mf mv lm mon par ce ct ca sg mx wd cn cl rc rk tp tv wa dy kd rs lk cel trd ms cnt := I
  have J0 : am_I K N cap Q CS cc now tc kn fl op oa ob oc st gn lr rg (upd pc s (nI (p + 1))) tr wt dl mc mk mf mv lm mon par ce ct ca sg mx wd cn cl rc rk tp tv wa dy kd rs lk cel trd ms cnt := I
  by_cases z : rg (s * 8 + a) < 0
  · refine ⟨K, _, _, am_Ri J1, ⟨⟨rfl, rfl, rfl⟩, fun _ _ z => z⟩, fun post q => ?_, fun post q => ?_⟩
    · exact xo_d (k := 8) (by omega) hp hpc hcc ek (by omega) (by omega) (fun z => absurd z (by omega)) (fun _ _ => xj_8 (by omega) (by omega) a7 b8 ea eb ek (fun _ => xo_e (by omega) (q)) (fun w => absurd z w)) (fun z => absurd z (by omega))
    · exact yo_d (k := 8) (by omega) hp (by omega) a7 b8 ea eb c0 c1 c2 ek (by omega) (fun z => absurd z (by omega)) (fun _ => yo_8 (by omega) a7 (fun _ => q) (fun w => absurd z w))
  · refine ⟨K, _, _, am_Ri J0, ⟨⟨rfl, rfl, rfl⟩, fun _ _ z => z⟩, fun post q => ?_, fun post q => ?_⟩
    · exact xo_d (k := 8) (by omega) hp hpc hcc ek (by omega) (by omega) (fun z => absurd z (by omega)) (fun _ _ => xj_8 (by omega) (by omega) a7 b8 ea eb ek (fun w => absurd w z) (fun _ => xo_e (by omega) (q))) (fun z => absurd z (by omega))
    · exact yo_d (k := 8) (by omega) hp (by omega) a7 b8 ea eb c0 c1 c2 ek (by omega) (fun z => absurd z (by omega)) (fun _ => yo_8 (by omega) a7 (fun w => absurd w z) (fun _ => q))
theorem op_9 {K : List Nat} {s p : Nat} (I : am_I K N cap Q CS cc now tc kn fl op oa ob oc st gn lr rg pc tr wt dl mc mk mf mv lm mon par ce ct ca sg mx wd cn cl rc rk tp tv wa dy kd rs lk cel trd ms cnt) (hs : s < N) (h1 : st s = 1) (hp : pc s = nI p) (hpc : p < cc) (ek : op p = 9) : ∃ (K1 : List Nat) (u1 : SX) (v1 : SY), am_R K1 u1 v1 ∧ am_T N Q now st u1 ∧ (∀ post : Int32 → SX → Prop, post (am_b (decide (9 ≠ 20))) u1 → wpX_step post (fl, nI N, nI cap, nI Q, nI CS, nI cc, nI now, nI tc, op, oa, ob, oc, st, gn, lr, rg, pc, tr, wt, dl, mc, mk, mf, mv, ms, lm, mon, par, ce, ct, ca, sg, mx, wd, cn, cl, rc, rk, tp, tv, cnt) (nI s)) ∧ (∀ post : Int32 → SY → Prop, post (am_b (!decide (9 ≠ 20))) v1 → wpY_step post (nI N, nI cap, nI Q, nI CS, nI now, nI cc, nI tc, nI kn, st, gn, lr, pc, wa, dy, tr, par, ce, ct, ca, kd, sg, mx, wd, rs, rg, mon, lk, mc, mk, mf, mv, ms, cel, trd, cnt) (nI s)) := by
  have hN : N ≤ 8 := I.1.2.1
  have hcc : cc ≤ 64 := by have := I.1; unfold iS at this; omega
  obtain ⟨-, ⟨a, a7, ea⟩, -, c0, c1, c2, -⟩ := I.2.1 p hpc
  obtain ⟨b, b8, eb⟩ : ∃ j, j < 8 ∧ ob p &&& 7 = nI j := pk_andE (ob p) 3 (by decide)
  have I' : am_I K N cap Q CS cc now tc kn fl op oa ob oc st gn lr (upd rg (s * 8 + a) (gn s * 8 + nI s)) (upd pc s (nI (p + 1))) tr wt dl mc mk mf mv lm mon par ce ct ca sg mx wd cn cl rc rk tp tv wa dy kd rs lk cel trd ms cnt := I
  refine ⟨K, _, _, am_Ri I', ⟨⟨rfl, rfl, rfl⟩, fun _ _ z => z⟩, fun post q => ?_, fun post q => ?_⟩
  · exact xo_d (k := 9) (by omega) hp hpc hcc ek (by omega) (by omega) (fun _ => xa_9 (by omega) (by omega) a7 b8 ea eb ek (xo_e (by omega) (q))) (fun _ z => absurd z (by omega)) (fun z => absurd z (by omega))
  · exact yo_d (k := 9) (by omega) hp (by omega) a7 b8 ea eb c0 c1 c2 ek (by omega) (fun z => absurd z (by omega)) (fun _ => yo_9 (by omega) a7 q)
theorem op_10 {K : List Nat} {s p : Nat} (I : am_I K N cap Q CS cc now tc kn fl op oa ob oc st gn lr rg pc tr wt dl mc mk mf mv lm mon par ce ct ca sg mx wd cn cl rc rk tp tv wa dy kd rs lk cel trd ms cnt) (hs : s < N) (h1 : st s = 1) (hp : pc s = nI p) (hpc : p < cc) (ek : op p = 10) : ∃ (K1 : List Nat) (u1 : SX) (v1 : SY), am_R K1 u1 v1 ∧ am_T N Q now st u1 ∧ (∀ post : Int32 → SX → Prop, post (am_b (decide (10 ≠ 20))) u1 → wpX_step post (fl, nI N, nI cap, nI Q, nI CS, nI cc, nI now, nI tc, op, oa, ob, oc, st, gn, lr, rg, pc, tr, wt, dl, mc, mk, mf, mv, ms, lm, mon, par, ce, ct, ca, sg, mx, wd, cn, cl, rc, rk, tp, tv, cnt) (nI s)) ∧ (∀ post : Int32 → SY → Prop, post (am_b (!decide (10 ≠ 20))) v1 → wpY_step post (nI N, nI cap, nI Q, nI CS, nI now, nI cc, nI tc, nI kn, st, gn, lr, pc, wa, dy, tr, par, ce, ct, ca, kd, sg, mx, wd, rs, rg, mon, lk, mc, mk, mf, mv, ms, cel, trd, cnt) (nI s)) := by
  have hN : N ≤ 8 := I.1.2.1
  have hcc : cc ≤ 64 := by have := I.1; unfold iS at this; omega
  obtain ⟨-, ⟨a, a7, ea⟩, -, c0, c1, c2, -⟩ := I.2.1 p hpc
  obtain ⟨b, b8, eb⟩ : ∃ j, j < 8 ∧ ob p &&& 7 = nI j := pk_andE (ob p) 3 (by decide)
  have hG := I.2.2.2.2.1
  cases e : am_fs st 0 N with
  | none =>
    have I' : am_I K N cap Q CS cc now tc kn fl op oa ob oc st gn lr (upd rg (s * 8 + a) 0) (upd pc s (nI (p + 1))) tr wt dl mc mk mf mv lm mon par ce ct ca sg mx wd cn cl rc rk tp tv wa dy kd rs lk cel trd ms cnt := I
    refine ⟨K, _, _, am_Ri I', ⟨⟨rfl, rfl, rfl⟩, fun _ _ z => z⟩, fun post q => ?_, fun post q => ?_⟩
    · exact xo_d (k := 10) (by omega) hp hpc hcc ek (by omega) (by omega) (fun _ => xa_10 (by omega) (by omega) a7 b8 ea eb ek hN (fun _ => xo_e (by omega) (q)) (fun f' w => by rw [e] at w; exact absurd w (by simp))) (fun _ z => absurd z (by omega)) (fun z => absurd z (by omega))
    · exact yo_d (k := 10) (by omega) hp (by omega) a7 b8 ea eb c0 c1 c2 ek (by omega) (fun z => absurd z (by omega)) (fun _ => yo_10 (by omega) a7 hN hG (fun _ => q) (fun f' w => by rw [e] at w; exact absurd w (by simp)))
  | some f =>
    have f8 := am_fs_some e
    have I' : am_I K N cap Q CS cc now tc kn fl op oa ob oc (upd st f 1) (upd gn f (am_nx (gn f))) lr (upd (am_rg rg f (rg (s * 8 + a)) (gn s * 8 + nI s)) (s * 8 + a) (am_nx (gn f) * 8 + nI f)) (upd (upd pc s (nI (p + 1))) f (ob p)) (upd tr f 0) (upd wt f 0) (upd dl f (-1)) (upd mc f 0) mk mf mv lm mon par ce ct ca sg mx wd cn cl rc rk tp tv (upd wa f 0) dy kd rs lk cel trd ms (vp_updL cnt 7 (cnt 7 + 1)) := st_I (en := ob p) (ar := rg (s * 8 + a)) (pa := (gn s * 8 + nI s)) I (by omega) f8.2
    refine ⟨K, _, _, am_Ri I', am_T_st (f := f) ⟨rfl, rfl, rfl⟩ rfl, fun post q => ?_, fun post q => ?_⟩
    · exact xo_d (k := 10) (by omega) hp hpc hcc ek (by omega) (by omega) (fun _ => xa_10 (by omega) (by omega) a7 b8 ea eb ek hN (fun w => by rw [e] at w; exact absurd w (by simp)) (fun f' w => by rw [e] at w; cases w; exact xo_e (by omega) (q))) (fun _ z => absurd z (by omega)) (fun z => absurd z (by omega))
    · exact yo_d (k := 10) (by omega) hp (by omega) a7 b8 ea eb c0 c1 c2 ek (by omega) (fun z => absurd z (by omega)) (fun _ => yo_10 (by omega) a7 hN hG (fun w => by rw [e] at w; exact absurd w (by simp)) (fun f' w => by rw [e] at w; cases w; exact q))
theorem op_11 {K : List Nat} {s p : Nat} (I : am_I K N cap Q CS cc now tc kn fl op oa ob oc st gn lr rg pc tr wt dl mc mk mf mv lm mon par ce ct ca sg mx wd cn cl rc rk tp tv wa dy kd rs lk cel trd ms cnt) (hs : s < N) (h1 : st s = 1) (hp : pc s = nI p) (hpc : p < cc) (ek : op p = 11) : ∃ (K1 : List Nat) (u1 : SX) (v1 : SY), am_R K1 u1 v1 ∧ am_T N Q now st u1 ∧ (∀ post : Int32 → SX → Prop, post (am_b (decide (11 ≠ 20))) u1 → wpX_step post (fl, nI N, nI cap, nI Q, nI CS, nI cc, nI now, nI tc, op, oa, ob, oc, st, gn, lr, rg, pc, tr, wt, dl, mc, mk, mf, mv, ms, lm, mon, par, ce, ct, ca, sg, mx, wd, cn, cl, rc, rk, tp, tv, cnt) (nI s)) ∧ (∀ post : Int32 → SY → Prop, post (am_b (!decide (11 ≠ 20))) v1 → wpY_step post (nI N, nI cap, nI Q, nI CS, nI now, nI cc, nI tc, nI kn, st, gn, lr, pc, wa, dy, tr, par, ce, ct, ca, kd, sg, mx, wd, rs, rg, mon, lk, mc, mk, mf, mv, ms, cel, trd, cnt) (nI s)) := by
  have hN : N ≤ 8 := I.1.2.1
  have hcc : cc ≤ 64 := by have := I.1; unfold iS at this; omega
  obtain ⟨-, ⟨a, a7, ea⟩, -, c0, c1, c2, -⟩ := I.2.1 p hpc
  obtain ⟨b, b8, eb⟩ : ∃ j, j < 8 ∧ ob p &&& 7 = nI j := pk_andE (ob p) 3 (by decide)
  have I' : am_I K N cap Q CS cc now tc kn fl op oa ob oc st gn lr rg (upd pc s (nI (p + 1))) tr wt dl mc mk mf mv lm mon par ce ct ca sg mx wd cn cl rc rk tp tv wa dy kd rs lk cel trd ms cnt := I
  obtain ⟨r, m, I2, aX, aY⟩ := sd_send (p := rg (s * 8 + a)) (fr := (gn s * 8 + nI s)) (w := rg (s * 8 + b)) I'
  refine ⟨K, _, _, am_Ri I2, ⟨⟨rfl, rfl, rfl⟩, fun _ _ z => z⟩, fun post q => ?_, fun post q => ?_⟩
  · exact xo_d (k := 11) (by omega) hp hpc hcc ek (by omega) (by omega) (fun _ => xa_11 (by omega) (by omega) a7 b8 ea eb ek aX (xo_e (by omega) (q))) (fun _ z => absurd z (by omega)) (fun z => absurd z (by omega))
  · exact yo_d (k := 11) (by omega) hp (by omega) a7 b8 ea eb c0 c1 c2 ek (by omega) (fun z => absurd z (by omega)) (fun _ => yo_11 (by omega) a7 aY q)
theorem op_17 {K : List Nat} {s p : Nat} (I : am_I K N cap Q CS cc now tc kn fl op oa ob oc st gn lr rg pc tr wt dl mc mk mf mv lm mon par ce ct ca sg mx wd cn cl rc rk tp tv wa dy kd rs lk cel trd ms cnt) (hs : s < N) (h1 : st s = 1) (hp : pc s = nI p) (hpc : p < cc) (ek : op p = 17) : ∃ (K1 : List Nat) (u1 : SX) (v1 : SY), am_R K1 u1 v1 ∧ am_T N Q now st u1 ∧ (∀ post : Int32 → SX → Prop, post (am_b (decide (17 ≠ 20))) u1 → wpX_step post (fl, nI N, nI cap, nI Q, nI CS, nI cc, nI now, nI tc, op, oa, ob, oc, st, gn, lr, rg, pc, tr, wt, dl, mc, mk, mf, mv, ms, lm, mon, par, ce, ct, ca, sg, mx, wd, cn, cl, rc, rk, tp, tv, cnt) (nI s)) ∧ (∀ post : Int32 → SY → Prop, post (am_b (!decide (17 ≠ 20))) v1 → wpY_step post (nI N, nI cap, nI Q, nI CS, nI now, nI cc, nI tc, nI kn, st, gn, lr, pc, wa, dy, tr, par, ce, ct, ca, kd, sg, mx, wd, rs, rg, mon, lk, mc, mk, mf, mv, ms, cel, trd, cnt) (nI s)) := by
  have hN : N ≤ 8 := I.1.2.1
  have hcc : cc ≤ 64 := by have := I.1; unfold iS at this; omega
  obtain ⟨-, ⟨a, a7, ea⟩, -, c0, c1, c2, -⟩ := I.2.1 p hpc
  obtain ⟨b, b8, eb⟩ : ∃ j, j < 8 ∧ ob p &&& 7 = nI j := pk_andE (ob p) 3 (by decide)
  have J1 : am_I K N cap Q CS cc now tc kn fl op oa ob oc st gn lr rg (upd pc s (nI (p + 1))) (upd tr s 1) wt dl mc mk mf mv lm mon par ce ct ca sg mx wd cn cl rc rk tp tv wa dy kd rs lk cel trd ms cnt := I
  have J0 : am_I K N cap Q CS cc now tc kn fl op oa ob oc st gn lr rg (upd pc s (nI (p + 1))) (upd tr s 0) wt dl mc mk mf mv lm mon par ce ct ca sg mx wd cn cl rc rk tp tv wa dy kd rs lk cel trd ms cnt := I
  by_cases z : ob p = 1
  · refine ⟨K, _, _, am_Ri J1, ⟨⟨rfl, rfl, rfl⟩, fun _ _ z => z⟩, fun post q => ?_, fun post q => ?_⟩
    · exact xo_d (k := 17) (by omega) hp hpc hcc ek (by omega) (by omega) (fun _ => xa_17 (by omega) (by omega) a7 b8 ea eb ek (fun _ => xo_e (by omega) (q)) (fun w => absurd z w)) (fun _ z => absurd z (by omega)) (fun z => absurd z (by omega))
    · exact yo_d (k := 17) (by omega) hp (by omega) a7 b8 ea eb c0 c1 c2 ek (by omega) (fun z => absurd z (by omega)) (fun _ => yo_17 (by omega) a7 (fun _ => q) (fun w => absurd z w))
  · refine ⟨K, _, _, am_Ri J0, ⟨⟨rfl, rfl, rfl⟩, fun _ _ z => z⟩, fun post q => ?_, fun post q => ?_⟩
    · exact xo_d (k := 17) (by omega) hp hpc hcc ek (by omega) (by omega) (fun _ => xa_17 (by omega) (by omega) a7 b8 ea eb ek (fun w => absurd w z) (fun _ => xo_e (by omega) (q))) (fun _ z => absurd z (by omega)) (fun z => absurd z (by omega))
    · exact yo_d (k := 17) (by omega) hp (by omega) a7 b8 ea eb c0 c1 c2 ek (by omega) (fun z => absurd z (by omega)) (fun _ => yo_17 (by omega) a7 (fun w => absurd w z) (fun _ => q))
theorem op_18 {K : List Nat} {s p : Nat} (I : am_I K N cap Q CS cc now tc kn fl op oa ob oc st gn lr rg pc tr wt dl mc mk mf mv lm mon par ce ct ca sg mx wd cn cl rc rk tp tv wa dy kd rs lk cel trd ms cnt) (hs : s < N) (h1 : st s = 1) (hp : pc s = nI p) (hpc : p < cc) (ek : op p = 18) : ∃ (K1 : List Nat) (u1 : SX) (v1 : SY), am_R K1 u1 v1 ∧ am_T N Q now st u1 ∧ (∀ post : Int32 → SX → Prop, post (am_b (decide (18 ≠ 20))) u1 → wpX_step post (fl, nI N, nI cap, nI Q, nI CS, nI cc, nI now, nI tc, op, oa, ob, oc, st, gn, lr, rg, pc, tr, wt, dl, mc, mk, mf, mv, ms, lm, mon, par, ce, ct, ca, sg, mx, wd, cn, cl, rc, rk, tp, tv, cnt) (nI s)) ∧ (∀ post : Int32 → SY → Prop, post (am_b (!decide (18 ≠ 20))) v1 → wpY_step post (nI N, nI cap, nI Q, nI CS, nI now, nI cc, nI tc, nI kn, st, gn, lr, pc, wa, dy, tr, par, ce, ct, ca, kd, sg, mx, wd, rs, rg, mon, lk, mc, mk, mf, mv, ms, cel, trd, cnt) (nI s)) := by
  have hN : N ≤ 8 := I.1.2.1
  have hcc : cc ≤ 64 := by have := I.1; unfold iS at this; omega
  obtain ⟨-, ⟨a, a7, ea⟩, -, c0, c1, c2, -⟩ := I.2.1 p hpc
  obtain ⟨b, b8, eb⟩ : ∃ j, j < 8 ∧ ob p &&& 7 = nI j := pk_andE (ob p) 3 (by decide)
  have I' : am_I K N cap Q CS cc now tc kn fl op oa ob oc st gn lr rg (upd pc s (nI (p + 1))) tr wt dl mc mk mf mv lm mon par ce ct ca sg mx wd cn cl rc rk tp tv wa dy kd rs lk cel trd ms cnt := I
  obtain ⟨K1, u1, v1, R, -, t, -, aX, aY⟩ := ed_proc (j := s) (r := if rg (s * 8 + a) = 1 then 2 else rg (s * 8 + a)) I' (by omega) (Or.inl h1)
  refine ⟨K1, u1, v1, R, t, fun post q => ?_, fun post q => ?_⟩
  · exact xo_d (k := 18) (by omega) hp hpc hcc ek (by omega) (by omega) (fun _ => xa_18 (by omega) (by omega) a7 b8 ea eb ek aX (xo_e (by omega) (q))) (fun _ z => absurd z (by omega)) (fun z => absurd z (by omega))
  · exact yo_d (k := 18) (by omega) hp (by omega) a7 b8 ea eb c0 c1 c2 ek (by omega) (fun z => absurd z (by omega)) (fun _ => yo_18 (by omega) a7 aY q)
theorem op_19 {K : List Nat} {s p : Nat} (I : am_I K N cap Q CS cc now tc kn fl op oa ob oc st gn lr rg pc tr wt dl mc mk mf mv lm mon par ce ct ca sg mx wd cn cl rc rk tp tv wa dy kd rs lk cel trd ms cnt) (hs : s < N) (h1 : st s = 1) (hp : pc s = nI p) (hpc : p < cc) (ek : op p = 19) : ∃ (K1 : List Nat) (u1 : SX) (v1 : SY), am_R K1 u1 v1 ∧ am_T N Q now st u1 ∧ (∀ post : Int32 → SX → Prop, post (am_b (decide (19 ≠ 20))) u1 → wpX_step post (fl, nI N, nI cap, nI Q, nI CS, nI cc, nI now, nI tc, op, oa, ob, oc, st, gn, lr, rg, pc, tr, wt, dl, mc, mk, mf, mv, ms, lm, mon, par, ce, ct, ca, sg, mx, wd, cn, cl, rc, rk, tp, tv, cnt) (nI s)) ∧ (∀ post : Int32 → SY → Prop, post (am_b (!decide (19 ≠ 20))) v1 → wpY_step post (nI N, nI cap, nI Q, nI CS, nI now, nI cc, nI tc, nI kn, st, gn, lr, pc, wa, dy, tr, par, ce, ct, ca, kd, sg, mx, wd, rs, rg, mon, lk, mc, mk, mf, mv, ms, cel, trd, cnt) (nI s)) := by
  have hN : N ≤ 8 := I.1.2.1
  have hcc : cc ≤ 64 := by have := I.1; unfold iS at this; omega
  obtain ⟨-, ⟨a, a7, ea⟩, -, c0, c1, c2, -⟩ := I.2.1 p hpc
  obtain ⟨b, b8, eb⟩ : ∃ j, j < 8 ∧ ob p &&& 7 = nI j := pk_andE (ob p) 3 (by decide)
  have I' : am_I K N cap Q CS cc now tc kn fl op oa ob oc st gn lr rg (upd pc s (nI (p + 1))) tr wt dl mc mk mf mv lm mon par ce ct ca sg mx wd cn cl rc rk tp tv wa dy kd rs lk cel trd ms cnt := I
  obtain ⟨r, K1, u1, v1, R, t, aX, aY⟩ := ds_sig (p := rg (s * 8 + a)) (fr := (gn s * 8 + nI s)) (r := rg (s * 8 + b)) I'
  refine ⟨K1, u1, v1, R, t, fun post q => ?_, fun post q => ?_⟩
  · exact xo_d (k := 19) (by omega) hp hpc hcc ek (by omega) (by omega) (fun _ => xa_19 (by omega) (by omega) a7 b8 ea eb ek aX (xo_e (by omega) (q))) (fun _ z => absurd z (by omega)) (fun z => absurd z (by omega))
  · exact yo_d (k := 19) (by omega) hp (by omega) a7 b8 ea eb c0 c1 c2 ek (by omega) (fun z => absurd z (by omega)) (fun _ => yo_19 (by omega) a7 aY q)
theorem op_20 {K : List Nat} {s p : Nat} (I : am_I K N cap Q CS cc now tc kn fl op oa ob oc st gn lr rg pc tr wt dl mc mk mf mv lm mon par ce ct ca sg mx wd cn cl rc rk tp tv wa dy kd rs lk cel trd ms cnt) (hs : s < N) (h1 : st s = 1) (hp : pc s = nI p) (hpc : p < cc) (ek : op p = 20) : ∃ (K1 : List Nat) (u1 : SX) (v1 : SY), am_R K1 u1 v1 ∧ am_T N Q now st u1 ∧ (∀ post : Int32 → SX → Prop, post (am_b (decide (20 ≠ 20))) u1 → wpX_step post (fl, nI N, nI cap, nI Q, nI CS, nI cc, nI now, nI tc, op, oa, ob, oc, st, gn, lr, rg, pc, tr, wt, dl, mc, mk, mf, mv, ms, lm, mon, par, ce, ct, ca, sg, mx, wd, cn, cl, rc, rk, tp, tv, cnt) (nI s)) ∧ (∀ post : Int32 → SY → Prop, post (am_b (!decide (20 ≠ 20))) v1 → wpY_step post (nI N, nI cap, nI Q, nI CS, nI now, nI cc, nI tc, nI kn, st, gn, lr, pc, wa, dy, tr, par, ce, ct, ca, kd, sg, mx, wd, rs, rg, mon, lk, mc, mk, mf, mv, ms, cel, trd, cnt) (nI s)) := by
  have hN : N ≤ 8 := I.1.2.1
  have hcc : cc ≤ 64 := by have := I.1; unfold iS at this; omega
  obtain ⟨-, ⟨a, a7, ea⟩, -, c0, c1, c2, -⟩ := I.2.1 p hpc
  obtain ⟨b, b8, eb⟩ : ∃ j, j < 8 ∧ ob p &&& 7 = nI j := pk_andE (ob p) 3 (by decide)
  have I' : am_I K N cap Q CS cc now tc kn fl op oa ob oc st gn lr rg (upd pc s (nI (p + 1))) tr wt dl mc mk mf mv lm mon par ce ct ca sg mx wd cn cl rc rk tp tv wa dy kd rs lk cel trd ms cnt := I
  refine ⟨K, _, _, am_Ri I', ⟨⟨rfl, rfl, rfl⟩, fun _ _ z => z⟩, fun post q => ?_, fun post q => ?_⟩
  · exact xo_d (k := 20) (by omega) hp hpc hcc ek (by omega) (by omega) (fun _ => xa_20 (by omega) (by omega) a7 b8 ea eb ek (xo_e (by omega) (q))) (fun _ z => absurd z (by omega)) (fun z => absurd z (by omega))
  · exact yo_d (k := 20) (by omega) hp (by omega) a7 b8 ea eb c0 c1 c2 ek (by omega) (fun z => absurd z (by omega)) (fun _ => yo_20 (by omega) a7 q)
theorem op_21 {K : List Nat} {s p : Nat} (I : am_I K N cap Q CS cc now tc kn fl op oa ob oc st gn lr rg pc tr wt dl mc mk mf mv lm mon par ce ct ca sg mx wd cn cl rc rk tp tv wa dy kd rs lk cel trd ms cnt) (hs : s < N) (h1 : st s = 1) (hp : pc s = nI p) (hpc : p < cc) (ek : op p = 21) : ∃ (K1 : List Nat) (u1 : SX) (v1 : SY), am_R K1 u1 v1 ∧ am_T N Q now st u1 ∧ (∀ post : Int32 → SX → Prop, post (am_b (decide (21 ≠ 20))) u1 → wpX_step post (fl, nI N, nI cap, nI Q, nI CS, nI cc, nI now, nI tc, op, oa, ob, oc, st, gn, lr, rg, pc, tr, wt, dl, mc, mk, mf, mv, ms, lm, mon, par, ce, ct, ca, sg, mx, wd, cn, cl, rc, rk, tp, tv, cnt) (nI s)) ∧ (∀ post : Int32 → SY → Prop, post (am_b (!decide (21 ≠ 20))) v1 → wpY_step post (nI N, nI cap, nI Q, nI CS, nI now, nI cc, nI tc, nI kn, st, gn, lr, pc, wa, dy, tr, par, ce, ct, ca, kd, sg, mx, wd, rs, rg, mon, lk, mc, mk, mf, mv, ms, cel, trd, cnt) (nI s)) := by
  have hN : N ≤ 8 := I.1.2.1
  have hcc : cc ≤ 64 := by have := I.1; unfold iS at this; omega
  obtain ⟨-, ⟨a, a7, ea⟩, -, c0, c1, c2, -⟩ := I.2.1 p hpc
  obtain ⟨b, b8, eb⟩ : ∃ j, j < 8 ∧ ob p &&& 7 = nI j := pk_andE (ob p) 3 (by decide)
  have ht : tc ≤ 64 := by have := I.1; unfold iS at this; omega
  by_cases z : tc < 64
  · have I' : am_I K N cap Q CS cc now (tc + 1) kn fl op oa ob oc st gn lr rg (upd pc s (nI (p + 1))) tr wt dl mc mk mf mv lm mon par ce ct ca sg mx wd cn cl rc rk (upd tp tc (gn s * 8 + nI s)) (upd tv tc (rg (s * 8 + a))) wa dy kd rs lk cel (upd (upd trd (tc * 2) (gn s * 8 + nI s)) (tc * 2 + 1) (rg (s * 8 + a))) ms cnt := tc_I I z
    refine ⟨K, _, _, am_Ri I', ⟨⟨rfl, rfl, rfl⟩, fun _ _ z => z⟩, fun post q => ?_, fun post q => ?_⟩
    · exact xo_d (k := 21) (by omega) hp hpc hcc ek (by omega) (by omega) (fun _ => xa_21 (by omega) (by omega) a7 b8 ea eb ek ht (fun _ => xo_e (by omega) (q)) (fun w => absurd z w)) (fun _ z => absurd z (by omega)) (fun z => absurd z (by omega))
    · exact yo_d (k := 21) (by omega) hp (by omega) a7 b8 ea eb c0 c1 c2 ek (by omega) (fun z => absurd z (by omega)) (fun _ => yo_21 (by omega) a7 ht (fun _ => q) (fun w => absurd z w))
  · have I' : am_I K N cap Q CS cc now tc kn fl op oa ob oc st gn lr rg (upd pc s (nI (p + 1))) tr wt dl mc mk mf mv lm mon par ce ct ca sg mx wd cn cl rc rk tp tv wa dy kd rs lk cel trd ms (vp_updL cnt 10 (cnt 10 + 1)) := I
    refine ⟨K, _, _, am_Ri I', ⟨⟨rfl, rfl, rfl⟩, fun _ _ z => z⟩, fun post q => ?_, fun post q => ?_⟩
    · exact xo_d (k := 21) (by omega) hp hpc hcc ek (by omega) (by omega) (fun _ => xa_21 (by omega) (by omega) a7 b8 ea eb ek ht (fun w => absurd w z) (fun _ => xo_e (by omega) (q))) (fun _ z => absurd z (by omega)) (fun z => absurd z (by omega))
    · exact yo_d (k := 21) (by omega) hp (by omega) a7 b8 ea eb c0 c1 c2 ek (by omega) (fun z => absurd z (by omega)) (fun _ => yo_21 (by omega) a7 ht (fun w => absurd w z) (fun _ => q))
theorem op_13 {K : List Nat} {s p : Nat} (I : am_I K N cap Q CS cc now tc kn fl op oa ob oc st gn lr rg pc tr wt dl mc mk mf mv lm mon par ce ct ca sg mx wd cn cl rc rk tp tv wa dy kd rs lk cel trd ms cnt) (hs : s < N) (h1 : st s = 1) (hp : pc s = nI p) (hpc : p < cc) (ek : op p = 13) : ∃ (K1 : List Nat) (u1 : SX) (v1 : SY), am_R K1 u1 v1 ∧ am_T N Q now st u1 ∧ (∀ post : Int32 → SX → Prop, post 1 u1 → wpX_step post (fl, nI N, nI cap, nI Q, nI CS, nI cc, nI now, nI tc, op, oa, ob, oc, st, gn, lr, rg, pc, tr, wt, dl, mc, mk, mf, mv, ms, lm, mon, par, ce, ct, ca, sg, mx, wd, cn, cl, rc, rk, tp, tv, cnt) (nI s)) ∧ ((xSt u1 = st ∧ ∀ post : Int32 → SY → Prop, post 0 v1 → wpY_step post (nI N, nI cap, nI Q, nI CS, nI now, nI cc, nI tc, nI kn, st, gn, lr, pc, wa, dy, tr, par, ce, ct, ca, kd, sg, mx, wd, rs, rg, mon, lk, mc, mk, mf, mv, ms, cel, trd, cnt) (nI s)) ∨ (∀ (v2 : SY), (∀ post : SY → Prop, post v2 → wpY_settle post v1) → ∀ post : Int32 → SY → Prop, post 0 v2 → wpY_step post (nI N, nI cap, nI Q, nI CS, nI now, nI cc, nI tc, nI kn, st, gn, lr, pc, wa, dy, tr, par, ce, ct, ca, kd, sg, mx, wd, rs, rg, mon, lk, mc, mk, mf, mv, ms, cel, trd, cnt) (nI s))) := by
  have hN : N ≤ 8 := I.1.2.1
  have hcc : cc ≤ 64 := by have := I.1; unfold iS at this; omega
  obtain ⟨-, ⟨a, a7, ea⟩, -, c0, c1, c2, -⟩ := I.2.1 p hpc
  obtain ⟨b, b8, eb⟩ : ∃ j, j < 8 ∧ ob p &&& 7 = nI j := pk_andE (ob p) 3 (by decide)
  have I' : am_I K N cap Q CS cc now tc kn fl op oa ob oc st gn lr rg (upd pc s (nI (p + 1))) tr wt dl mc mk mf mv lm mon par ce ct ca sg mx wd cn cl rc rk tp tv wa dy kd rs lk cel trd ms cnt := I
  obtain ⟨r, K1, u1, v1, R, t, aX, aY⟩ := rl_from (a := s) (w := 0) (pB := rg (s * 8 + a)) I' hs h1 (by omega)
  refine ⟨K1, u1, v1, R, t, fun post q => ?_, ?_⟩
  · exact xo_d (k := 13) (by omega) hp hpc hcc ek (by omega) (by omega) (fun _ => xa_13 (by omega) (by omega) a7 b8 ea eb ek aX (xo_e (by omega) (q))) (fun _ z => absurd z (by omega)) (fun z => absurd z (by omega))
  · rcases aY with ⟨e, aY⟩ | aY
    · refine Or.inl ⟨e, fun post q => ?_⟩
      exact yo_d (k := 13) (by omega) hp (by omega) a7 b8 ea eb c0 c1 c2 ek (by omega) (fun z => absurd z (by omega)) (fun _ => yo_13 (by omega) a7 (fun F hF => aY F (hF r v1 q)))
    · refine Or.inr fun v2 h2 post q => ?_
      exact yo_d (k := 13) (by omega) hp (by omega) a7 b8 ea eb c0 c1 c2 ek (by omega) (fun z => absurd z (by omega)) (fun _ => yo_13 (by omega) a7 (fun F hF => aY F (h2 _ (hF r v2 q))))
theorem op_14 {K : List Nat} {s p : Nat} (I : am_I K N cap Q CS cc now tc kn fl op oa ob oc st gn lr rg pc tr wt dl mc mk mf mv lm mon par ce ct ca sg mx wd cn cl rc rk tp tv wa dy kd rs lk cel trd ms cnt) (hs : s < N) (h1 : st s = 1) (hp : pc s = nI p) (hpc : p < cc) (ek : op p = 14) : ∃ (K1 : List Nat) (u1 : SX) (v1 : SY), am_R K1 u1 v1 ∧ am_T N Q now st u1 ∧ (∀ post : Int32 → SX → Prop, post 1 u1 → wpX_step post (fl, nI N, nI cap, nI Q, nI CS, nI cc, nI now, nI tc, op, oa, ob, oc, st, gn, lr, rg, pc, tr, wt, dl, mc, mk, mf, mv, ms, lm, mon, par, ce, ct, ca, sg, mx, wd, cn, cl, rc, rk, tp, tv, cnt) (nI s)) ∧ ((xSt u1 = st ∧ ∀ post : Int32 → SY → Prop, post 0 v1 → wpY_step post (nI N, nI cap, nI Q, nI CS, nI now, nI cc, nI tc, nI kn, st, gn, lr, pc, wa, dy, tr, par, ce, ct, ca, kd, sg, mx, wd, rs, rg, mon, lk, mc, mk, mf, mv, ms, cel, trd, cnt) (nI s)) ∨ (∀ (v2 : SY), (∀ post : SY → Prop, post v2 → wpY_settle post v1) → ∀ post : Int32 → SY → Prop, post 0 v2 → wpY_step post (nI N, nI cap, nI Q, nI CS, nI now, nI cc, nI tc, nI kn, st, gn, lr, pc, wa, dy, tr, par, ce, ct, ca, kd, sg, mx, wd, rs, rg, mon, lk, mc, mk, mf, mv, ms, cel, trd, cnt) (nI s))) := by
  have hN : N ≤ 8 := I.1.2.1
  have hcc : cc ≤ 64 := by have := I.1; unfold iS at this; omega
  obtain ⟨-, ⟨a, a7, ea⟩, -, c0, c1, c2, -⟩ := I.2.1 p hpc
  obtain ⟨b, b8, eb⟩ : ∃ j, j < 8 ∧ ob p &&& 7 = nI j := pk_andE (ob p) 3 (by decide)
  have I' : am_I K N cap Q CS cc now tc kn fl op oa ob oc st gn lr rg (upd pc s (nI (p + 1))) tr wt dl mc mk mf mv lm mon par ce ct ca sg mx wd cn cl rc rk tp tv wa dy kd rs lk cel trd ms cnt := I
  obtain ⟨r, K1, u1, v1, R, t, aX, aY⟩ := rl_from (a := s) (w := 1) (pB := rg (s * 8 + a)) I' hs h1 (by omega)
  refine ⟨K1, u1, v1, R, t, fun post q => ?_, ?_⟩
  · exact xo_d (k := 14) (by omega) hp hpc hcc ek (by omega) (by omega) (fun _ => xa_14 (by omega) (by omega) a7 b8 ea eb ek aX (xo_e (by omega) (q))) (fun _ z => absurd z (by omega)) (fun z => absurd z (by omega))
  · rcases aY with ⟨e, aY⟩ | aY
    · refine Or.inl ⟨e, fun post q => ?_⟩
      exact yo_d (k := 14) (by omega) hp (by omega) a7 b8 ea eb c0 c1 c2 ek (by omega) (fun z => absurd z (by omega)) (fun _ => yo_14 (by omega) a7 (fun F hF => aY F (hF r v1 q)))
    · refine Or.inr fun v2 h2 post q => ?_
      exact yo_d (k := 14) (by omega) hp (by omega) a7 b8 ea eb c0 c1 c2 ek (by omega) (fun z => absurd z (by omega)) (fun _ => yo_14 (by omega) a7 (fun F hF => aY F (h2 _ (hF r v2 q))))
theorem op_15 {K : List Nat} {s p : Nat} (I : am_I K N cap Q CS cc now tc kn fl op oa ob oc st gn lr rg pc tr wt dl mc mk mf mv lm mon par ce ct ca sg mx wd cn cl rc rk tp tv wa dy kd rs lk cel trd ms cnt) (hs : s < N) (h1 : st s = 1) (hp : pc s = nI p) (hpc : p < cc) (ek : op p = 15) : ∃ (K1 : List Nat) (u1 : SX) (v1 : SY), am_R K1 u1 v1 ∧ am_T N Q now st u1 ∧ (∀ post : Int32 → SX → Prop, post 1 u1 → wpX_step post (fl, nI N, nI cap, nI Q, nI CS, nI cc, nI now, nI tc, op, oa, ob, oc, st, gn, lr, rg, pc, tr, wt, dl, mc, mk, mf, mv, ms, lm, mon, par, ce, ct, ca, sg, mx, wd, cn, cl, rc, rk, tp, tv, cnt) (nI s)) ∧ ((xSt u1 = st ∧ ∀ post : Int32 → SY → Prop, post 0 v1 → wpY_step post (nI N, nI cap, nI Q, nI CS, nI now, nI cc, nI tc, nI kn, st, gn, lr, pc, wa, dy, tr, par, ce, ct, ca, kd, sg, mx, wd, rs, rg, mon, lk, mc, mk, mf, mv, ms, cel, trd, cnt) (nI s)) ∨ (∀ (v2 : SY), (∀ post : SY → Prop, post v2 → wpY_settle post v1) → ∀ post : Int32 → SY → Prop, post 0 v2 → wpY_step post (nI N, nI cap, nI Q, nI CS, nI now, nI cc, nI tc, nI kn, st, gn, lr, pc, wa, dy, tr, par, ce, ct, ca, kd, sg, mx, wd, rs, rg, mon, lk, mc, mk, mf, mv, ms, cel, trd, cnt) (nI s))) := by
  have hN : N ≤ 8 := I.1.2.1
  have hcc : cc ≤ 64 := by have := I.1; unfold iS at this; omega
  obtain ⟨-, ⟨a, a7, ea⟩, -, c0, c1, c2, -⟩ := I.2.1 p hpc
  obtain ⟨b, b8, eb⟩ : ∃ j, j < 8 ∧ ob p &&& 7 = nI j := pk_andE (ob p) 3 (by decide)
  have I' : am_I K N cap Q CS cc now tc kn fl op oa ob oc st gn lr rg (upd pc s (nI (p + 1))) tr wt dl mc mk mf mv lm mon par ce ct ca sg mx wd cn cl rc rk tp tv wa dy kd rs lk cel trd ms cnt := I
  obtain ⟨r, K1, u1, v1, R, t, aX, aY⟩ := rl_from (a := s) (w := 2) (pB := rg (s * 8 + a)) I' hs h1 (by omega)
  refine ⟨K1, u1, v1, R, t, fun post q => ?_, ?_⟩
  · exact xo_d (k := 15) (by omega) hp hpc hcc ek (by omega) (by omega) (fun _ => xa_15 (by omega) (by omega) a7 b8 ea eb ek aX (xo_e (by omega) (q))) (fun _ z => absurd z (by omega)) (fun z => absurd z (by omega))
  · rcases aY with ⟨e, aY⟩ | aY
    · refine Or.inl ⟨e, fun post q => ?_⟩
      exact yo_d (k := 15) (by omega) hp (by omega) a7 b8 ea eb c0 c1 c2 ek (by omega) (fun z => absurd z (by omega)) (fun _ => yo_15 (by omega) a7 (fun F hF => aY F (hF r v1 q)))
    · refine Or.inr fun v2 h2 post q => ?_
      exact yo_d (k := 15) (by omega) hp (by omega) a7 b8 ea eb c0 c1 c2 ek (by omega) (fun z => absurd z (by omega)) (fun _ => yo_15 (by omega) a7 (fun F hF => aY F (h2 _ (hF r v2 q))))
theorem op_16 {K : List Nat} {s p : Nat} (I : am_I K N cap Q CS cc now tc kn fl op oa ob oc st gn lr rg pc tr wt dl mc mk mf mv lm mon par ce ct ca sg mx wd cn cl rc rk tp tv wa dy kd rs lk cel trd ms cnt) (hs : s < N) (h1 : st s = 1) (hp : pc s = nI p) (hpc : p < cc) (ek : op p = 16) : ∃ (K1 : List Nat) (u1 : SX) (v1 : SY), am_R K1 u1 v1 ∧ am_T N Q now st u1 ∧ (∀ post : Int32 → SX → Prop, post 1 u1 → wpX_step post (fl, nI N, nI cap, nI Q, nI CS, nI cc, nI now, nI tc, op, oa, ob, oc, st, gn, lr, rg, pc, tr, wt, dl, mc, mk, mf, mv, ms, lm, mon, par, ce, ct, ca, sg, mx, wd, cn, cl, rc, rk, tp, tv, cnt) (nI s)) ∧ ((xSt u1 = st ∧ ∀ post : Int32 → SY → Prop, post 0 v1 → wpY_step post (nI N, nI cap, nI Q, nI CS, nI now, nI cc, nI tc, nI kn, st, gn, lr, pc, wa, dy, tr, par, ce, ct, ca, kd, sg, mx, wd, rs, rg, mon, lk, mc, mk, mf, mv, ms, cel, trd, cnt) (nI s)) ∨ (∀ (v2 : SY), (∀ post : SY → Prop, post v2 → wpY_settle post v1) → ∀ post : Int32 → SY → Prop, post 0 v2 → wpY_step post (nI N, nI cap, nI Q, nI CS, nI now, nI cc, nI tc, nI kn, st, gn, lr, pc, wa, dy, tr, par, ce, ct, ca, kd, sg, mx, wd, rs, rg, mon, lk, mc, mk, mf, mv, ms, cel, trd, cnt) (nI s))) := by
  have hN : N ≤ 8 := I.1.2.1
  have hcc : cc ≤ 64 := by have := I.1; unfold iS at this; omega
  obtain ⟨-, ⟨a, a7, ea⟩, -, c0, c1, c2, -⟩ := I.2.1 p hpc
  obtain ⟨b, b8, eb⟩ : ∃ j, j < 8 ∧ ob p &&& 7 = nI j := pk_andE (ob p) 3 (by decide)
  have I' : am_I K N cap Q CS cc now tc kn fl op oa ob oc st gn lr rg (upd pc s (nI (p + 1))) tr wt dl mc mk mf mv lm mon par ce ct ca sg mx wd cn cl rc rk tp tv wa dy kd rs lk cel trd ms cnt := I
  obtain ⟨r, K1, u1, v1, R, t, aX, aY⟩ := rl_from (a := s) (w := 3) (pB := rg (s * 8 + a)) I' hs h1 (by omega)
  refine ⟨K1, u1, v1, R, t, fun post q => ?_, ?_⟩
  · exact xo_d (k := 16) (by omega) hp hpc hcc ek (by omega) (by omega) (fun _ => xa_16 (by omega) (by omega) a7 b8 ea eb ek aX (xo_e (by omega) (q))) (fun _ z => absurd z (by omega)) (fun z => absurd z (by omega))
  · rcases aY with ⟨e, aY⟩ | aY
    · refine Or.inl ⟨e, fun post q => ?_⟩
      exact yo_d (k := 16) (by omega) hp (by omega) a7 b8 ea eb c0 c1 c2 ek (by omega) (fun z => absurd z (by omega)) (fun _ => yo_16 (by omega) a7 (fun F hF => aY F (hF r v1 q)))
    · refine Or.inr fun v2 h2 post q => ?_
      exact yo_d (k := 16) (by omega) hp (by omega) a7 b8 ea eb c0 c1 c2 ek (by omega) (fun z => absurd z (by omega)) (fun _ => yo_16 (by omega) a7 (fun F hF => aY F (h2 _ (hF r v2 q))))
end OP
end
section
/-! 33: one step and what it brings; a turn -/
theorem sp_join {K : List Nat} {u : SX} {v : SY} (R : am_R K u v) : ∃ K2 u2 v2, am_R K2 u2 v2 ∧ (∀ j, j < 8 → ¬ xSt u2 j = 3) ∧ am_TU u u2 ∧ (∀ j, j < 8 → ∀ g0, g0 ≤ 1000000 → xGn u j = nI g0 → am_tr 900 g0 (xSt u j) (xGn u2 j) (xSt u2 j)) ∧ (∀ post : SX → Prop, post u2 → wpX_settle post u) ∧ (∀ post : SY → Prop, post v2 → wpY_settle post v) := by
  apply R
  intro N cap Q CS cc now tc kn fl op oa ob oc st gn lr rg pc tr wt dl mc mk mf mv lm mon par ce ct ca sg mx wd cn cl rc rk tp tv wa dy kd rs lk cel trd ms cnt I
  exact st_all I
theorem sp_nf {K : List Nat} {u : SX} {v : SY} (R : am_R K u v) : (∀ j, j < 8 → ¬ xSt u j = 3) → (∀ post : SX → Prop, post u → wpX_settle post u) ∧ (∀ post : SY → Prop, post v → wpY_settle post v) := by
  apply R
  intro N cap Q CS cc now tc kn fl op oa ob oc st gn lr rg pc tr wt dl mc mk mf mv lm mon par ce ct ca sg mx wd cn cl rc rk tp tv wa dy kd rs lk cel trd ms cnt I nf
  exact st_nf I nf
theorem yv_findR {K : List Nat} {u : SX} {v : SY} (R : am_R K u v) {n : Nat} {F : Int32 → Prop} {p : Int32} : u.2.1 = nI n → n ≤ 8 → F (am_o (am_fd n (xSt u) (xGn u) p)) → wpY_find F v p := by
  apply R
  intro N cap Q CS cc now tc kn fl op oa ob oc st gn lr rg pc tr wt dl mc mk mf mv lm mon par ce ct ca sg mx wd cn cl rc rk tp tv wa dy kd rs lk cel trd ms cnt I e h8 h
  have : N = n := am_im e (by have := I.1.2.1; omega) (by omega)
  subst this
  exact yv_live h8 h
theorem xv_pidU {F : Int32 → Prop} {u : SX} {s : Nat} (hs : s < 8) (h : F (xGn u s * 8 + nI s)) : wpX_pidOf F u (nI s) := by
  unfold wpX_pidOf
  refine ⟨vp_in_nI hs (by omega), ?_⟩
  rw [nI_clamp (by omega)]
  exact h
theorem iG_R {K : List Nat} {u : SX} {v : SY} (R : am_R K u v) : iG (xGn u) := by
  apply R
  intro N cap Q CS cc now tc kn fl op oa ob oc st gn lr rg pc tr wt dl mc mk mf mv lm mon par ce ct ca sg mx wd cn cl rc rk tp tv wa dy kd rs lk cel trd ms cnt I
  exact I.2.2.2.2.1
section TN
variable {N cap Q CS cc now tc kn : Nat} {fl : Int32} {op oa ob oc st gn lr rg pc tr wt dl mc mk mf mv lm mon par ce ct ca sg mx wd cn cl rc rk tp tv wa dy kd rs lk cel trd : Nat → Int32} {ms cnt : Nat → Int64}
theorem sp_step {K : List Nat} {s : Nat} (I : am_I K N cap Q CS cc now tc kn fl op oa ob oc st gn lr rg pc tr wt dl mc mk mf mv lm mon par ce ct ca sg mx wd cn cl rc rk tp tv wa dy kd rs lk cel trd ms cnt) (sN : s < N) (h1 : st s = 1) : ∃ (K2 : List Nat) (u2 : SX) (v2 : SY) (g o : Bool), am_R K2 u2 v2 ∧ (∀ j, j < 8 → ¬ xSt u2 j = 3) ∧ am_T N Q now st u2 ∧ (xSt u2 s = 1 → xGn u2 s = gn s → o = !g) ∧ (∀ post : Int32 → SX → Prop, post (am_b g) u2 → wpX_step (fun r u => wpX_settle (post r) u) (fl, nI N, nI cap, nI Q, nI CS, nI cc, nI now, nI tc, op, oa, ob, oc, st, gn, lr, rg, pc, tr, wt, dl, mc, mk, mf, mv, ms, lm, mon, par, ce, ct, ca, sg, mx, wd, cn, cl, rc, rk, tp, tv, cnt) (nI s)) ∧ (∀ (post : SY → Prop) n i (x2 : Int32), i < Q → wpY_find (fun r => (r = nI s → ∀ y, y = nI i + 1 → wY_turn_11 post (nI s) x2 n (am_b o) y v2.1 v2.2.1 v2.2.2.1 v2.2.2.2.1 v2.2.2.2.2.1 v2.2.2.2.2.2.1 v2.2.2.2.2.2.2.1 v2.2.2.2.2.2.2.2.1 v2.2.2.2.2.2.2.2.2.1 v2.2.2.2.2.2.2.2.2.2.1 v2.2.2.2.2.2.2.2.2.2.2.1 v2.2.2.2.2.2.2.2.2.2.2.2.1 v2.2.2.2.2.2.2.2.2.2.2.2.2.1 v2.2.2.2.2.2.2.2.2.2.2.2.2.2.1 v2.2.2.2.2.2.2.2.2.2.2.2.2.2.2.1 v2.2.2.2.2.2.2.2.2.2.2.2.2.2.2.2.1 v2.2.2.2.2.2.2.2.2.2.2.2.2.2.2.2.2.1 v2.2.2.2.2.2.2.2.2.2.2.2.2.2.2.2.2.2.1 v2.2.2.2.2.2.2.2.2.2.2.2.2.2.2.2.2.2.2.1 v2.2.2.2.2.2.2.2.2.2.2.2.2.2.2.2.2.2.2.2.1 v2.2.2.2.2.2.2.2.2.2.2.2.2.2.2.2.2.2.2.2.2.1 v2.2.2.2.2.2.2.2.2.2.2.2.2.2.2.2.2.2.2.2.2.2.1 v2.2.2.2.2.2.2.2.2.2.2.2.2.2.2.2.2.2.2.2.2.2.2.1 v2.2.2.2.2.2.2.2.2.2.2.2.2.2.2.2.2.2.2.2.2.2.2.2.1 v2.2.2.2.2.2.2.2.2.2.2.2.2.2.2.2.2.2.2.2.2.2.2.2.2.1 v2.2.2.2.2.2.2.2.2.2.2.2.2.2.2.2.2.2.2.2.2.2.2.2.2.2.1 v2.2.2.2.2.2.2.2.2.2.2.2.2.2.2.2.2.2.2.2.2.2.2.2.2.2.2.1 v2.2.2.2.2.2.2.2.2.2.2.2.2.2.2.2.2.2.2.2.2.2.2.2.2.2.2.2.1 v2.2.2.2.2.2.2.2.2.2.2.2.2.2.2.2.2.2.2.2.2.2.2.2.2.2.2.2.2.1 v2.2.2.2.2.2.2.2.2.2.2.2.2.2.2.2.2.2.2.2.2.2.2.2.2.2.2.2.2.2.1 v2.2.2.2.2.2.2.2.2.2.2.2.2.2.2.2.2.2.2.2.2.2.2.2.2.2.2.2.2.2.2.1 v2.2.2.2.2.2.2.2.2.2.2.2.2.2.2.2.2.2.2.2.2.2.2.2.2.2.2.2.2.2.2.2.1 v2.2.2.2.2.2.2.2.2.2.2.2.2.2.2.2.2.2.2.2.2.2.2.2.2.2.2.2.2.2.2.2.2.1 v2.2.2.2.2.2.2.2.2.2.2.2.2.2.2.2.2.2.2.2.2.2.2.2.2.2.2.2.2.2.2.2.2.2.1 v2.2.2.2.2.2.2.2.2.2.2.2.2.2.2.2.2.2.2.2.2.2.2.2.2.2.2.2.2.2.2.2.2.2.2) ∧ (¬ r = nI s → ∀ y, y = nI i + 1 → wY_turn_11 post (nI s) x2 n 1 y v2.1 v2.2.1 v2.2.2.1 v2.2.2.2.1 v2.2.2.2.2.1 v2.2.2.2.2.2.1 v2.2.2.2.2.2.2.1 v2.2.2.2.2.2.2.2.1 v2.2.2.2.2.2.2.2.2.1 v2.2.2.2.2.2.2.2.2.2.1 v2.2.2.2.2.2.2.2.2.2.2.1 v2.2.2.2.2.2.2.2.2.2.2.2.1 v2.2.2.2.2.2.2.2.2.2.2.2.2.1 v2.2.2.2.2.2.2.2.2.2.2.2.2.2.1 v2.2.2.2.2.2.2.2.2.2.2.2.2.2.2.1 v2.2.2.2.2.2.2.2.2.2.2.2.2.2.2.2.1 v2.2.2.2.2.2.2.2.2.2.2.2.2.2.2.2.2.1 v2.2.2.2.2.2.2.2.2.2.2.2.2.2.2.2.2.2.1 v2.2.2.2.2.2.2.2.2.2.2.2.2.2.2.2.2.2.2.1 v2.2.2.2.2.2.2.2.2.2.2.2.2.2.2.2.2.2.2.2.1 v2.2.2.2.2.2.2.2.2.2.2.2.2.2.2.2.2.2.2.2.2.1 v2.2.2.2.2.2.2.2.2.2.2.2.2.2.2.2.2.2.2.2.2.2.1 v2.2.2.2.2.2.2.2.2.2.2.2.2.2.2.2.2.2.2.2.2.2.2.1 v2.2.2.2.2.2.2.2.2.2.2.2.2.2.2.2.2.2.2.2.2.2.2.2.1 v2.2.2.2.2.2.2.2.2.2.2.2.2.2.2.2.2.2.2.2.2.2.2.2.2.1 v2.2.2.2.2.2.2.2.2.2.2.2.2.2.2.2.2.2.2.2.2.2.2.2.2.2.1 v2.2.2.2.2.2.2.2.2.2.2.2.2.2.2.2.2.2.2.2.2.2.2.2.2.2.2.1 v2.2.2.2.2.2.2.2.2.2.2.2.2.2.2.2.2.2.2.2.2.2.2.2.2.2.2.2.1 v2.2.2.2.2.2.2.2.2.2.2.2.2.2.2.2.2.2.2.2.2.2.2.2.2.2.2.2.2.1 v2.2.2.2.2.2.2.2.2.2.2.2.2.2.2.2.2.2.2.2.2.2.2.2.2.2.2.2.2.2.1 v2.2.2.2.2.2.2.2.2.2.2.2.2.2.2.2.2.2.2.2.2.2.2.2.2.2.2.2.2.2.2.1 v2.2.2.2.2.2.2.2.2.2.2.2.2.2.2.2.2.2.2.2.2.2.2.2.2.2.2.2.2.2.2.2.1 v2.2.2.2.2.2.2.2.2.2.2.2.2.2.2.2.2.2.2.2.2.2.2.2.2.2.2.2.2.2.2.2.2.1 v2.2.2.2.2.2.2.2.2.2.2.2.2.2.2.2.2.2.2.2.2.2.2.2.2.2.2.2.2.2.2.2.2.2.1 v2.2.2.2.2.2.2.2.2.2.2.2.2.2.2.2.2.2.2.2.2.2.2.2.2.2.2.2.2.2.2.2.2.2.2)) v2 x2 → wY_turn_11 post (nI s) x2 (n + 1) 0 (nI i) (nI N) (nI cap) (nI Q) (nI CS) (nI now) (nI cc) (nI tc) (nI kn) st gn lr pc wa dy tr par ce ct ca kd sg mx wd rs rg mon lk mc mk mf mv ms cel trd cnt) := by
  have hN : N ≤ 8 := I.1.2.1
  have hQ : Q ≤ 8 := I.1.2.2.2.2.2.1
  have hcc : cc ≤ 64 := by have := I.1; unfold iS at this; omega
  have s8 : s < 8 := by omega
  have i1 : vp_in (nI s) 8 := vp_in_nI s8 (by omega)
  have e1 : (nI s).toNatClampNeg = s := nI_clamp (by omega)
  by_cases out : pc s < 0 ∨ nI cc ≤ pc s
  · obtain ⟨K1, u1, v1, R1, a0, a1, a2, aX, aY⟩ := ed_proc (j := s) (r := 0) I s8 (Or.inl h1)
    obtain ⟨K2, u2, v2, R2, b1, b2, b3, bX, bY⟩ := sp_join R1
    obtain ⟨g0, g1, g2⟩ := I.2.2.2.2.1 s s8
    have tr0 := b3 s s8 g0 g1 (by rw [a0]; exact g2)
    refine ⟨K2, u2, v2, false, false, R2, b1, ⟨⟨b2.1.1.trans a1.1.1, b2.1.2.1.trans a1.1.2.1, b2.1.2.2.trans a1.1.2.2⟩, fun i hi z => a1.2 i hi (b2.2 i hi z)⟩, fun x y => ?_, fun post p => ?_, fun post n i x2 hi p => ?_⟩
    · refine absurd (y.trans g2) (am_tr_ne (by omega) g1 tr0 a2.1 x)
    · refine ⟨i1, nm_r (e' := pc s) (by rw [e1]) ?_⟩
      have E : wX_step_19 (fun r u => wpX_settle (post r) u) (nI s) fl (nI N) (nI cap) (nI Q) (nI CS) (nI cc) (nI now) (nI tc) op oa ob oc st gn lr rg pc tr wt dl mc mk mf mv ms lm mon par ce ct ca sg mx wd cn cl rc rk tp tv cnt := aX _ (bX (post 0) p)
      by_cases q : pc s < 0
      · exact br_t q E
      · exact br_f q (br_f (Int32.not_lt.mpr (out.elim (fun z => absurd z q) id)) E)
    · have E : wY_turn_46 post (wY_turn_11 post (nI s) x2 n) (nI s) x2 0 (nI i) (nI N) (nI cap) (nI Q) (nI CS) (nI now) (nI cc) (nI tc) (nI kn) st gn lr pc wa dy tr par ce ct ca kd sg mx wd rs rg mon lk mc mk mf mv ms cel trd cnt := aY _ (bY _ p)
      refine br_f (nI_ge (by omega) (by omega)) (br_t rfl ⟨i1, ?_⟩)
      rw [e1]
      by_cases q : pc s < 0
      · exact br_t q E
      · exact br_f q ⟨i1, br_f (Int32.not_lt.mpr (out.elim (fun z => absurd z q) id)) E⟩
  · obtain ⟨p, hpc, hp⟩ : ∃ p, p < cc ∧ pc s = nI p := by
      rcases pk_ix (pc s) (n := cc) (by omega) with z | z | z
      · exact absurd (Or.inl z) out
      · exact absurd (Or.inr z) out
      · exact z
    have ip : vp_in (nI p) 64 := vp_in_nI (by omega) (by omega)
    have ep : (nI p).toNatClampNeg = p := nI_clamp (by omega)
    obtain ⟨⟨k, k21, ek⟩, -, -, c0, -⟩ := I.2.1 p hpc
    have Yin : ∀ (post : SY → Prop) n i (x2 : Int32), i < Q → (op p = 12 → wpY_receive (fun r v => wY_turn_90 post (wY_turn_11 post (nI s) x2 n) (nI s) x2 r (nI i) v.1 v.2.1 v.2.2.1 v.2.2.2.1 v.2.2.2.2.1 v.2.2.2.2.2.1 v.2.2.2.2.2.2.1 v.2.2.2.2.2.2.2.1 v.2.2.2.2.2.2.2.2.1 v.2.2.2.2.2.2.2.2.2.1 v.2.2.2.2.2.2.2.2.2.2.1 v.2.2.2.2.2.2.2.2.2.2.2.1 v.2.2.2.2.2.2.2.2.2.2.2.2.1 v.2.2.2.2.2.2.2.2.2.2.2.2.2.1 v.2.2.2.2.2.2.2.2.2.2.2.2.2.2.1 v.2.2.2.2.2.2.2.2.2.2.2.2.2.2.2.1 v.2.2.2.2.2.2.2.2.2.2.2.2.2.2.2.2.1 v.2.2.2.2.2.2.2.2.2.2.2.2.2.2.2.2.2.1 v.2.2.2.2.2.2.2.2.2.2.2.2.2.2.2.2.2.2.1 v.2.2.2.2.2.2.2.2.2.2.2.2.2.2.2.2.2.2.2.1 v.2.2.2.2.2.2.2.2.2.2.2.2.2.2.2.2.2.2.2.2.1 v.2.2.2.2.2.2.2.2.2.2.2.2.2.2.2.2.2.2.2.2.2.1 v.2.2.2.2.2.2.2.2.2.2.2.2.2.2.2.2.2.2.2.2.2.2.1 v.2.2.2.2.2.2.2.2.2.2.2.2.2.2.2.2.2.2.2.2.2.2.2.1 v.2.2.2.2.2.2.2.2.2.2.2.2.2.2.2.2.2.2.2.2.2.2.2.2.1 v.2.2.2.2.2.2.2.2.2.2.2.2.2.2.2.2.2.2.2.2.2.2.2.2.2.1 v.2.2.2.2.2.2.2.2.2.2.2.2.2.2.2.2.2.2.2.2.2.2.2.2.2.2.1 v.2.2.2.2.2.2.2.2.2.2.2.2.2.2.2.2.2.2.2.2.2.2.2.2.2.2.2.1 v.2.2.2.2.2.2.2.2.2.2.2.2.2.2.2.2.2.2.2.2.2.2.2.2.2.2.2.2.1 v.2.2.2.2.2.2.2.2.2.2.2.2.2.2.2.2.2.2.2.2.2.2.2.2.2.2.2.2.2.1 v.2.2.2.2.2.2.2.2.2.2.2.2.2.2.2.2.2.2.2.2.2.2.2.2.2.2.2.2.2.2.1 v.2.2.2.2.2.2.2.2.2.2.2.2.2.2.2.2.2.2.2.2.2.2.2.2.2.2.2.2.2.2.2.1 v.2.2.2.2.2.2.2.2.2.2.2.2.2.2.2.2.2.2.2.2.2.2.2.2.2.2.2.2.2.2.2.2.1 v.2.2.2.2.2.2.2.2.2.2.2.2.2.2.2.2.2.2.2.2.2.2.2.2.2.2.2.2.2.2.2.2.2.1 v.2.2.2.2.2.2.2.2.2.2.2.2.2.2.2.2.2.2.2.2.2.2.2.2.2.2.2.2.2.2.2.2.2.2) (nI N, nI cap, nI Q, nI CS, nI now, nI cc, nI tc, nI kn, st, gn, lr, pc, wa, dy, tr, par, ce, ct, ca, kd, sg, mx, wd, rs, rg, mon, lk, mc, mk, mf, mv, ms, cel, trd, cnt) (nI s)) → (¬ op p = 12 → wpY_step (fun r v => wY_turn_90 post (wY_turn_11 post (nI s) x2 n) (nI s) x2 r (nI i) v.1 v.2.1 v.2.2.1 v.2.2.2.1 v.2.2.2.2.1 v.2.2.2.2.2.1 v.2.2.2.2.2.2.1 v.2.2.2.2.2.2.2.1 v.2.2.2.2.2.2.2.2.1 v.2.2.2.2.2.2.2.2.2.1 v.2.2.2.2.2.2.2.2.2.2.1 v.2.2.2.2.2.2.2.2.2.2.2.1 v.2.2.2.2.2.2.2.2.2.2.2.2.1 v.2.2.2.2.2.2.2.2.2.2.2.2.2.1 v.2.2.2.2.2.2.2.2.2.2.2.2.2.2.1 v.2.2.2.2.2.2.2.2.2.2.2.2.2.2.2.1 v.2.2.2.2.2.2.2.2.2.2.2.2.2.2.2.2.1 v.2.2.2.2.2.2.2.2.2.2.2.2.2.2.2.2.2.1 v.2.2.2.2.2.2.2.2.2.2.2.2.2.2.2.2.2.2.1 v.2.2.2.2.2.2.2.2.2.2.2.2.2.2.2.2.2.2.2.1 v.2.2.2.2.2.2.2.2.2.2.2.2.2.2.2.2.2.2.2.2.1 v.2.2.2.2.2.2.2.2.2.2.2.2.2.2.2.2.2.2.2.2.2.1 v.2.2.2.2.2.2.2.2.2.2.2.2.2.2.2.2.2.2.2.2.2.2.1 v.2.2.2.2.2.2.2.2.2.2.2.2.2.2.2.2.2.2.2.2.2.2.2.1 v.2.2.2.2.2.2.2.2.2.2.2.2.2.2.2.2.2.2.2.2.2.2.2.2.1 v.2.2.2.2.2.2.2.2.2.2.2.2.2.2.2.2.2.2.2.2.2.2.2.2.2.1 v.2.2.2.2.2.2.2.2.2.2.2.2.2.2.2.2.2.2.2.2.2.2.2.2.2.2.1 v.2.2.2.2.2.2.2.2.2.2.2.2.2.2.2.2.2.2.2.2.2.2.2.2.2.2.2.1 v.2.2.2.2.2.2.2.2.2.2.2.2.2.2.2.2.2.2.2.2.2.2.2.2.2.2.2.2.1 v.2.2.2.2.2.2.2.2.2.2.2.2.2.2.2.2.2.2.2.2.2.2.2.2.2.2.2.2.2.1 v.2.2.2.2.2.2.2.2.2.2.2.2.2.2.2.2.2.2.2.2.2.2.2.2.2.2.2.2.2.2.1 v.2.2.2.2.2.2.2.2.2.2.2.2.2.2.2.2.2.2.2.2.2.2.2.2.2.2.2.2.2.2.2.1 v.2.2.2.2.2.2.2.2.2.2.2.2.2.2.2.2.2.2.2.2.2.2.2.2.2.2.2.2.2.2.2.2.1 v.2.2.2.2.2.2.2.2.2.2.2.2.2.2.2.2.2.2.2.2.2.2.2.2.2.2.2.2.2.2.2.2.2.1 v.2.2.2.2.2.2.2.2.2.2.2.2.2.2.2.2.2.2.2.2.2.2.2.2.2.2.2.2.2.2.2.2.2.2) (nI N, nI cap, nI Q, nI CS, nI now, nI cc, nI tc, nI kn, st, gn, lr, pc, wa, dy, tr, par, ce, ct, ca, kd, sg, mx, wd, rs, rg, mon, lk, mc, mk, mf, mv, ms, cel, trd, cnt) (nI s)) → wY_turn_11 post (nI s) x2 (n + 1) 0 (nI i) (nI N) (nI cap) (nI Q) (nI CS) (nI now) (nI cc) (nI tc) (nI kn) st gn lr pc wa dy tr par ce ct ca kd sg mx wd rs rg mon lk mc mk mf mv ms cel trd cnt := fun post n i x2 hi q1 q2 => by
      refine br_f (nI_ge (by omega) (by omega)) (br_t rfl ⟨i1, ?_⟩)
      rw [e1, hp]
      refine br_f (nI_pos (by omega)) ⟨i1, br_t (nI_lt hpc (by omega)) ⟨i1, pk_in (p * 4) 256 (by omega) (am_m4 p), ?_⟩⟩
      rw [am_m4, nI_clamp (by omega), c0]
      exact br_c q1 q2
    -- a step that leaves both sides related, then settled
    have Gen : (¬ op p = 12) → ∀ (K1 : List Nat) (u1 : SX) (v1 : SY) (m : Bool), am_R K1 u1 v1 → am_T N Q now st u1 → (∀ post : Int32 → SX → Prop, post (am_b m) u1 → wpX_step post (fl, nI N, nI cap, nI Q, nI CS, nI cc, nI now, nI tc, op, oa, ob, oc, st, gn, lr, rg, pc, tr, wt, dl, mc, mk, mf, mv, ms, lm, mon, par, ce, ct, ca, sg, mx, wd, cn, cl, rc, rk, tp, tv, cnt) (nI s)) → (∀ post : Int32 → SY → Prop, post (am_b (!m)) v1 → wpY_step post (nI N, nI cap, nI Q, nI CS, nI now, nI cc, nI tc, nI kn, st, gn, lr, pc, wa, dy, tr, par, ce, ct, ca, kd, sg, mx, wd, rs, rg, mon, lk, mc, mk, mf, mv, ms, cel, trd, cnt) (nI s)) → ∃ (K2 : List Nat) (u2 : SX) (v2 : SY) (g o : Bool), am_R K2 u2 v2 ∧ (∀ j, j < 8 → ¬ xSt u2 j = 3) ∧ am_T N Q now st u2 ∧ (xSt u2 s = 1 → xGn u2 s = gn s → o = !g) ∧ (∀ post : Int32 → SX → Prop, post (am_b g) u2 → wpX_step (fun r u => wpX_settle (post r) u) (fl, nI N, nI cap, nI Q, nI CS, nI cc, nI now, nI tc, op, oa, ob, oc, st, gn, lr, rg, pc, tr, wt, dl, mc, mk, mf, mv, ms, lm, mon, par, ce, ct, ca, sg, mx, wd, cn, cl, rc, rk, tp, tv, cnt) (nI s)) ∧ (∀ (post : SY → Prop) n i (x2 : Int32), i < Q → wpY_find (fun r => (r = nI s → ∀ y, y = nI i + 1 → wY_turn_11 post (nI s) x2 n (am_b o) y v2.1 v2.2.1 v2.2.2.1 v2.2.2.2.1 v2.2.2.2.2.1 v2.2.2.2.2.2.1 v2.2.2.2.2.2.2.1 v2.2.2.2.2.2.2.2.1 v2.2.2.2.2.2.2.2.2.1 v2.2.2.2.2.2.2.2.2.2.1 v2.2.2.2.2.2.2.2.2.2.2.1 v2.2.2.2.2.2.2.2.2.2.2.2.1 v2.2.2.2.2.2.2.2.2.2.2.2.2.1 v2.2.2.2.2.2.2.2.2.2.2.2.2.2.1 v2.2.2.2.2.2.2.2.2.2.2.2.2.2.2.1 v2.2.2.2.2.2.2.2.2.2.2.2.2.2.2.2.1 v2.2.2.2.2.2.2.2.2.2.2.2.2.2.2.2.2.1 v2.2.2.2.2.2.2.2.2.2.2.2.2.2.2.2.2.2.1 v2.2.2.2.2.2.2.2.2.2.2.2.2.2.2.2.2.2.2.1 v2.2.2.2.2.2.2.2.2.2.2.2.2.2.2.2.2.2.2.2.1 v2.2.2.2.2.2.2.2.2.2.2.2.2.2.2.2.2.2.2.2.2.1 v2.2.2.2.2.2.2.2.2.2.2.2.2.2.2.2.2.2.2.2.2.2.1 v2.2.2.2.2.2.2.2.2.2.2.2.2.2.2.2.2.2.2.2.2.2.2.1 v2.2.2.2.2.2.2.2.2.2.2.2.2.2.2.2.2.2.2.2.2.2.2.2.1 v2.2.2.2.2.2.2.2.2.2.2.2.2.2.2.2.2.2.2.2.2.2.2.2.2.1 v2.2.2.2.2.2.2.2.2.2.2.2.2.2.2.2.2.2.2.2.2.2.2.2.2.2.1 v2.2.2.2.2.2.2.2.2.2.2.2.2.2.2.2.2.2.2.2.2.2.2.2.2.2.2.1 v2.2.2.2.2.2.2.2.2.2.2.2.2.2.2.2.2.2.2.2.2.2.2.2.2.2.2.2.1 v2.2.2.2.2.2.2.2.2.2.2.2.2.2.2.2.2.2.2.2.2.2.2.2.2.2.2.2.2.1 v2.2.2.2.2.2.2.2.2.2.2.2.2.2.2.2.2.2.2.2.2.2.2.2.2.2.2.2.2.2.1 v2.2.2.2.2.2.2.2.2.2.2.2.2.2.2.2.2.2.2.2.2.2.2.2.2.2.2.2.2.2.2.1 v2.2.2.2.2.2.2.2.2.2.2.2.2.2.2.2.2.2.2.2.2.2.2.2.2.2.2.2.2.2.2.2.1 v2.2.2.2.2.2.2.2.2.2.2.2.2.2.2.2.2.2.2.2.2.2.2.2.2.2.2.2.2.2.2.2.2.1 v2.2.2.2.2.2.2.2.2.2.2.2.2.2.2.2.2.2.2.2.2.2.2.2.2.2.2.2.2.2.2.2.2.2.1 v2.2.2.2.2.2.2.2.2.2.2.2.2.2.2.2.2.2.2.2.2.2.2.2.2.2.2.2.2.2.2.2.2.2.2) ∧ (¬ r = nI s → ∀ y, y = nI i + 1 → wY_turn_11 post (nI s) x2 n 1 y v2.1 v2.2.1 v2.2.2.1 v2.2.2.2.1 v2.2.2.2.2.1 v2.2.2.2.2.2.1 v2.2.2.2.2.2.2.1 v2.2.2.2.2.2.2.2.1 v2.2.2.2.2.2.2.2.2.1 v2.2.2.2.2.2.2.2.2.2.1 v2.2.2.2.2.2.2.2.2.2.2.1 v2.2.2.2.2.2.2.2.2.2.2.2.1 v2.2.2.2.2.2.2.2.2.2.2.2.2.1 v2.2.2.2.2.2.2.2.2.2.2.2.2.2.1 v2.2.2.2.2.2.2.2.2.2.2.2.2.2.2.1 v2.2.2.2.2.2.2.2.2.2.2.2.2.2.2.2.1 v2.2.2.2.2.2.2.2.2.2.2.2.2.2.2.2.2.1 v2.2.2.2.2.2.2.2.2.2.2.2.2.2.2.2.2.2.1 v2.2.2.2.2.2.2.2.2.2.2.2.2.2.2.2.2.2.2.1 v2.2.2.2.2.2.2.2.2.2.2.2.2.2.2.2.2.2.2.2.1 v2.2.2.2.2.2.2.2.2.2.2.2.2.2.2.2.2.2.2.2.2.1 v2.2.2.2.2.2.2.2.2.2.2.2.2.2.2.2.2.2.2.2.2.2.1 v2.2.2.2.2.2.2.2.2.2.2.2.2.2.2.2.2.2.2.2.2.2.2.1 v2.2.2.2.2.2.2.2.2.2.2.2.2.2.2.2.2.2.2.2.2.2.2.2.1 v2.2.2.2.2.2.2.2.2.2.2.2.2.2.2.2.2.2.2.2.2.2.2.2.2.1 v2.2.2.2.2.2.2.2.2.2.2.2.2.2.2.2.2.2.2.2.2.2.2.2.2.2.1 v2.2.2.2.2.2.2.2.2.2.2.2.2.2.2.2.2.2.2.2.2.2.2.2.2.2.2.1 v2.2.2.2.2.2.2.2.2.2.2.2.2.2.2.2.2.2.2.2.2.2.2.2.2.2.2.2.1 v2.2.2.2.2.2.2.2.2.2.2.2.2.2.2.2.2.2.2.2.2.2.2.2.2.2.2.2.2.1 v2.2.2.2.2.2.2.2.2.2.2.2.2.2.2.2.2.2.2.2.2.2.2.2.2.2.2.2.2.2.1 v2.2.2.2.2.2.2.2.2.2.2.2.2.2.2.2.2.2.2.2.2.2.2.2.2.2.2.2.2.2.2.1 v2.2.2.2.2.2.2.2.2.2.2.2.2.2.2.2.2.2.2.2.2.2.2.2.2.2.2.2.2.2.2.2.1 v2.2.2.2.2.2.2.2.2.2.2.2.2.2.2.2.2.2.2.2.2.2.2.2.2.2.2.2.2.2.2.2.2.1 v2.2.2.2.2.2.2.2.2.2.2.2.2.2.2.2.2.2.2.2.2.2.2.2.2.2.2.2.2.2.2.2.2.2.1 v2.2.2.2.2.2.2.2.2.2.2.2.2.2.2.2.2.2.2.2.2.2.2.2.2.2.2.2.2.2.2.2.2.2.2)) v2 x2 → wY_turn_11 post (nI s) x2 (n + 1) 0 (nI i) (nI N) (nI cap) (nI Q) (nI CS) (nI now) (nI cc) (nI tc) (nI kn) st gn lr pc wa dy tr par ce ct ca kd sg mx wd rs rg mon lk mc mk mf mv ms cel trd cnt) := fun n12 K1 u1 v1 m R1 a1 aX aY => by
      obtain ⟨K2, u2, v2, R2, b1, b2, b3, bX, bY⟩ := sp_join R1
      refine ⟨K2, u2, v2, m, !m, R2, b1, ⟨⟨b2.1.1.trans a1.1.1, b2.1.2.1.trans a1.1.2.1, b2.1.2.2.trans a1.1.2.2⟩, fun i hi z => a1.2 i hi (b2.2 i hi z)⟩, fun _ _ => rfl, fun post q => aX _ (bX (post (am_b m)) q), fun post n i x2 hi q => Yin post n i x2 hi (fun z => absurd z n12) (fun _ => aY _ (bY _ q))⟩
    have Rel : (¬ op p = 12) → (∃ (K1 : List Nat) (u1 : SX) (v1 : SY), am_R K1 u1 v1 ∧ am_T N Q now st u1 ∧ (∀ post : Int32 → SX → Prop, post 1 u1 → wpX_step post (fl, nI N, nI cap, nI Q, nI CS, nI cc, nI now, nI tc, op, oa, ob, oc, st, gn, lr, rg, pc, tr, wt, dl, mc, mk, mf, mv, ms, lm, mon, par, ce, ct, ca, sg, mx, wd, cn, cl, rc, rk, tp, tv, cnt) (nI s)) ∧ ((xSt u1 = st ∧ ∀ post : Int32 → SY → Prop, post 0 v1 → wpY_step post (nI N, nI cap, nI Q, nI CS, nI now, nI cc, nI tc, nI kn, st, gn, lr, pc, wa, dy, tr, par, ce, ct, ca, kd, sg, mx, wd, rs, rg, mon, lk, mc, mk, mf, mv, ms, cel, trd, cnt) (nI s)) ∨ (∀ (v2 : SY), (∀ post : SY → Prop, post v2 → wpY_settle post v1) → ∀ post : Int32 → SY → Prop, post 0 v2 → wpY_step post (nI N, nI cap, nI Q, nI CS, nI now, nI cc, nI tc, nI kn, st, gn, lr, pc, wa, dy, tr, par, ce, ct, ca, kd, sg, mx, wd, rs, rg, mon, lk, mc, mk, mf, mv, ms, cel, trd, cnt) (nI s)))) → ∃ (K2 : List Nat) (u2 : SX) (v2 : SY) (g o : Bool), am_R K2 u2 v2 ∧ (∀ j, j < 8 → ¬ xSt u2 j = 3) ∧ am_T N Q now st u2 ∧ (xSt u2 s = 1 → xGn u2 s = gn s → o = !g) ∧ (∀ post : Int32 → SX → Prop, post (am_b g) u2 → wpX_step (fun r u => wpX_settle (post r) u) (fl, nI N, nI cap, nI Q, nI CS, nI cc, nI now, nI tc, op, oa, ob, oc, st, gn, lr, rg, pc, tr, wt, dl, mc, mk, mf, mv, ms, lm, mon, par, ce, ct, ca, sg, mx, wd, cn, cl, rc, rk, tp, tv, cnt) (nI s)) ∧ (∀ (post : SY → Prop) n i (x2 : Int32), i < Q → wpY_find (fun r => (r = nI s → ∀ y, y = nI i + 1 → wY_turn_11 post (nI s) x2 n (am_b o) y v2.1 v2.2.1 v2.2.2.1 v2.2.2.2.1 v2.2.2.2.2.1 v2.2.2.2.2.2.1 v2.2.2.2.2.2.2.1 v2.2.2.2.2.2.2.2.1 v2.2.2.2.2.2.2.2.2.1 v2.2.2.2.2.2.2.2.2.2.1 v2.2.2.2.2.2.2.2.2.2.2.1 v2.2.2.2.2.2.2.2.2.2.2.2.1 v2.2.2.2.2.2.2.2.2.2.2.2.2.1 v2.2.2.2.2.2.2.2.2.2.2.2.2.2.1 v2.2.2.2.2.2.2.2.2.2.2.2.2.2.2.1 v2.2.2.2.2.2.2.2.2.2.2.2.2.2.2.2.1 v2.2.2.2.2.2.2.2.2.2.2.2.2.2.2.2.2.1 v2.2.2.2.2.2.2.2.2.2.2.2.2.2.2.2.2.2.1 v2.2.2.2.2.2.2.2.2.2.2.2.2.2.2.2.2.2.2.1 v2.2.2.2.2.2.2.2.2.2.2.2.2.2.2.2.2.2.2.2.1 v2.2.2.2.2.2.2.2.2.2.2.2.2.2.2.2.2.2.2.2.2.1 v2.2.2.2.2.2.2.2.2.2.2.2.2.2.2.2.2.2.2.2.2.2.1 v2.2.2.2.2.2.2.2.2.2.2.2.2.2.2.2.2.2.2.2.2.2.2.1 v2.2.2.2.2.2.2.2.2.2.2.2.2.2.2.2.2.2.2.2.2.2.2.2.1 v2.2.2.2.2.2.2.2.2.2.2.2.2.2.2.2.2.2.2.2.2.2.2.2.2.1 v2.2.2.2.2.2.2.2.2.2.2.2.2.2.2.2.2.2.2.2.2.2.2.2.2.2.1 v2.2.2.2.2.2.2.2.2.2.2.2.2.2.2.2.2.2.2.2.2.2.2.2.2.2.2.1 v2.2.2.2.2.2.2.2.2.2.2.2.2.2.2.2.2.2.2.2.2.2.2.2.2.2.2.2.1 v2.2.2.2.2.2.2.2.2.2.2.2.2.2.2.2.2.2.2.2.2.2.2.2.2.2.2.2.2.1 v2.2.2.2.2.2.2.2.2.2.2.2.2.2.2.2.2.2.2.2.2.2.2.2.2.2.2.2.2.2.1 v2.2.2.2.2.2.2.2.2.2.2.2.2.2.2.2.2.2.2.2.2.2.2.2.2.2.2.2.2.2.2.1 v2.2.2.2.2.2.2.2.2.2.2.2.2.2.2.2.2.2.2.2.2.2.2.2.2.2.2.2.2.2.2.2.1 v2.2.2.2.2.2.2.2.2.2.2.2.2.2.2.2.2.2.2.2.2.2.2.2.2.2.2.2.2.2.2.2.2.1 v2.2.2.2.2.2.2.2.2.2.2.2.2.2.2.2.2.2.2.2.2.2.2.2.2.2.2.2.2.2.2.2.2.2.1 v2.2.2.2.2.2.2.2.2.2.2.2.2.2.2.2.2.2.2.2.2.2.2.2.2.2.2.2.2.2.2.2.2.2.2) ∧ (¬ r = nI s → ∀ y, y = nI i + 1 → wY_turn_11 post (nI s) x2 n 1 y v2.1 v2.2.1 v2.2.2.1 v2.2.2.2.1 v2.2.2.2.2.1 v2.2.2.2.2.2.1 v2.2.2.2.2.2.2.1 v2.2.2.2.2.2.2.2.1 v2.2.2.2.2.2.2.2.2.1 v2.2.2.2.2.2.2.2.2.2.1 v2.2.2.2.2.2.2.2.2.2.2.1 v2.2.2.2.2.2.2.2.2.2.2.2.1 v2.2.2.2.2.2.2.2.2.2.2.2.2.1 v2.2.2.2.2.2.2.2.2.2.2.2.2.2.1 v2.2.2.2.2.2.2.2.2.2.2.2.2.2.2.1 v2.2.2.2.2.2.2.2.2.2.2.2.2.2.2.2.1 v2.2.2.2.2.2.2.2.2.2.2.2.2.2.2.2.2.1 v2.2.2.2.2.2.2.2.2.2.2.2.2.2.2.2.2.2.1 v2.2.2.2.2.2.2.2.2.2.2.2.2.2.2.2.2.2.2.1 v2.2.2.2.2.2.2.2.2.2.2.2.2.2.2.2.2.2.2.2.1 v2.2.2.2.2.2.2.2.2.2.2.2.2.2.2.2.2.2.2.2.2.1 v2.2.2.2.2.2.2.2.2.2.2.2.2.2.2.2.2.2.2.2.2.2.1 v2.2.2.2.2.2.2.2.2.2.2.2.2.2.2.2.2.2.2.2.2.2.2.1 v2.2.2.2.2.2.2.2.2.2.2.2.2.2.2.2.2.2.2.2.2.2.2.2.1 v2.2.2.2.2.2.2.2.2.2.2.2.2.2.2.2.2.2.2.2.2.2.2.2.2.1 v2.2.2.2.2.2.2.2.2.2.2.2.2.2.2.2.2.2.2.2.2.2.2.2.2.2.1 v2.2.2.2.2.2.2.2.2.2.2.2.2.2.2.2.2.2.2.2.2.2.2.2.2.2.2.1 v2.2.2.2.2.2.2.2.2.2.2.2.2.2.2.2.2.2.2.2.2.2.2.2.2.2.2.2.1 v2.2.2.2.2.2.2.2.2.2.2.2.2.2.2.2.2.2.2.2.2.2.2.2.2.2.2.2.2.1 v2.2.2.2.2.2.2.2.2.2.2.2.2.2.2.2.2.2.2.2.2.2.2.2.2.2.2.2.2.2.1 v2.2.2.2.2.2.2.2.2.2.2.2.2.2.2.2.2.2.2.2.2.2.2.2.2.2.2.2.2.2.2.1 v2.2.2.2.2.2.2.2.2.2.2.2.2.2.2.2.2.2.2.2.2.2.2.2.2.2.2.2.2.2.2.2.1 v2.2.2.2.2.2.2.2.2.2.2.2.2.2.2.2.2.2.2.2.2.2.2.2.2.2.2.2.2.2.2.2.2.1 v2.2.2.2.2.2.2.2.2.2.2.2.2.2.2.2.2.2.2.2.2.2.2.2.2.2.2.2.2.2.2.2.2.2.1 v2.2.2.2.2.2.2.2.2.2.2.2.2.2.2.2.2.2.2.2.2.2.2.2.2.2.2.2.2.2.2.2.2.2.2)) v2 x2 → wY_turn_11 post (nI s) x2 (n + 1) 0 (nI i) (nI N) (nI cap) (nI Q) (nI CS) (nI now) (nI cc) (nI tc) (nI kn) st gn lr pc wa dy tr par ce ct ca kd sg mx wd rs rg mon lk mc mk mf mv ms cel trd cnt) := fun n12 h => by
      obtain ⟨K1, u1, v1, R1, a1, aX, aY⟩ := h
      rcases aY with ⟨-, aY⟩ | aY
      · exact Gen n12 K1 u1 v1 true R1 a1 aX aY
      · obtain ⟨K2, u2, v2, R2, b1, b2, b3, bX, bY⟩ := sp_join R1
        have nf2 := sp_nf R2 b1
        refine ⟨K2, u2, v2, true, false, R2, b1, ⟨⟨b2.1.1.trans a1.1.1, b2.1.2.1.trans a1.1.2.1, b2.1.2.2.trans a1.1.2.2⟩, fun i hi z => a1.2 i hi (b2.2 i hi z)⟩, fun _ _ => rfl, fun post q => aX _ (bX (post 1) q), fun post n i x2 hi q => Yin post n i x2 hi (fun z => absurd z n12) (fun _ => aY v2 bY _ (nf2.2 _ q))⟩
    by_cases q12 : op p = 12
    · obtain ⟨m, u1, v1, R1, a1, aX, aY⟩ := rv_recv I s8 h1 hp hpc q12
      obtain ⟨K2, u2, v2, R2, b1, b2, b3, bX, bY⟩ := sp_join R1
      refine ⟨K2, u2, v2, m, !m, R2, b1, ⟨⟨b2.1.1.trans a1.1.1, b2.1.2.1.trans a1.1.2.1, b2.1.2.2.trans a1.1.2.2⟩, fun i hi z => a1.2 i hi (b2.2 i hi z)⟩, fun _ _ => rfl, fun post q => ?_, fun post n i x2 hi q => Yin post n i x2 hi (fun _ => aY _ (bY _ q)) (fun z => absurd q12 z)⟩
      refine ⟨i1, nm_r (e' := nI p) (by rw [e1, hp]) (br_f (nI_pos (by omega)) (br_t (nI_lt hpc (by omega)) ⟨ip, nm_r (e' := 12) (by rw [ep, q12]) (br_t rfl (aX _ ⟨?_, bX (post (am_b m)) q⟩))⟩))⟩
      cases m
      · exact narrow_b0
      · exact narrow_b1
    · have k12 : k ≠ 12 := fun e => q12 (by rw [ek, e]; rfl)
      rcases (by omega : k = 0 ∨ k = 1 ∨ k = 2 ∨ k = 3 ∨ k = 4 ∨ k = 5 ∨ k = 6 ∨ k = 7 ∨ k = 8 ∨ k = 9 ∨ k = 10 ∨ k = 11 ∨ k = 13 ∨ k = 14 ∨ k = 15 ∨ k = 16 ∨ k = 17 ∨ k = 18 ∨ k = 19 ∨ k = 20 ∨ k = 21) with e | e | e | e | e | e | e | e | e | e | e | e | e | e | e | e | e | e | e | e | e <;> subst e
      · obtain ⟨K1, u1, v1, R1, a1, aX, aY⟩ := op_0 I sN h1 hp hpc ek; exact Gen q12 K1 u1 v1 _ R1 a1 aX aY
      · obtain ⟨K1, u1, v1, R1, a1, aX, aY⟩ := op_1 I sN h1 hp hpc ek; exact Gen q12 K1 u1 v1 _ R1 a1 aX aY
      · obtain ⟨K1, u1, v1, R1, a1, aX, aY⟩ := op_2 I sN h1 hp hpc ek; exact Gen q12 K1 u1 v1 _ R1 a1 aX aY
      · obtain ⟨K1, u1, v1, R1, a1, aX, aY⟩ := op_3 I sN h1 hp hpc ek; exact Gen q12 K1 u1 v1 _ R1 a1 aX aY
      · obtain ⟨K1, u1, v1, R1, a1, aX, aY⟩ := op_4 I sN h1 hp hpc ek; exact Gen q12 K1 u1 v1 _ R1 a1 aX aY
      · obtain ⟨K1, u1, v1, R1, a1, aX, aY⟩ := op_5 I sN h1 hp hpc ek; exact Gen q12 K1 u1 v1 _ R1 a1 aX aY
      · obtain ⟨K1, u1, v1, R1, a1, aX, aY⟩ := op_6 I sN h1 hp hpc ek; exact Gen q12 K1 u1 v1 _ R1 a1 aX aY
      · obtain ⟨K1, u1, v1, R1, a1, aX, aY⟩ := op_7 I sN h1 hp hpc ek; exact Gen q12 K1 u1 v1 _ R1 a1 aX aY
      · obtain ⟨K1, u1, v1, R1, a1, aX, aY⟩ := op_8 I sN h1 hp hpc ek; exact Gen q12 K1 u1 v1 _ R1 a1 aX aY
      · obtain ⟨K1, u1, v1, R1, a1, aX, aY⟩ := op_9 I sN h1 hp hpc ek; exact Gen q12 K1 u1 v1 _ R1 a1 aX aY
      · obtain ⟨K1, u1, v1, R1, a1, aX, aY⟩ := op_10 I sN h1 hp hpc ek; exact Gen q12 K1 u1 v1 _ R1 a1 aX aY
      · obtain ⟨K1, u1, v1, R1, a1, aX, aY⟩ := op_11 I sN h1 hp hpc ek; exact Gen q12 K1 u1 v1 _ R1 a1 aX aY
      · exact Rel q12 (op_13 I sN h1 hp hpc ek)
      · exact Rel q12 (op_14 I sN h1 hp hpc ek)
      · exact Rel q12 (op_15 I sN h1 hp hpc ek)
      · exact Rel q12 (op_16 I sN h1 hp hpc ek)
      · obtain ⟨K1, u1, v1, R1, a1, aX, aY⟩ := op_17 I sN h1 hp hpc ek; exact Gen q12 K1 u1 v1 _ R1 a1 aX aY
      · obtain ⟨K1, u1, v1, R1, a1, aX, aY⟩ := op_18 I sN h1 hp hpc ek; exact Gen q12 K1 u1 v1 _ R1 a1 aX aY
      · obtain ⟨K1, u1, v1, R1, a1, aX, aY⟩ := op_19 I sN h1 hp hpc ek; exact Gen q12 K1 u1 v1 _ R1 a1 aX aY
      · obtain ⟨K1, u1, v1, R1, a1, aX, aY⟩ := op_20 I sN h1 hp hpc ek; exact Gen q12 K1 u1 v1 _ R1 a1 aX aY
      · obtain ⟨K1, u1, v1, R1, a1, aX, aY⟩ := op_21 I sN h1 hp hpc ek; exact Gen q12 K1 u1 v1 _ R1 a1 aX aY
end TN
theorem tn_loop {s n0 q : Nat} {self : Int32} (s8 : s < n0) (n8 : n0 ≤ 8) (q8 : q ≤ 8) : ∀ (d : Nat) (K : List Nat) (u : SX) (v : SY) (i : Nat) (b : Bool), am_R K u v → (∀ j, j < 8 → ¬ xSt u j = 3) → u.2.1 = nI n0 → u.2.2.2.1 = nI q → i + d = q → (b = true → xSt u s = 1 ∧ xGn u s * 8 + nI s = self) → ∃ K' u' v', am_R K' u' v' ∧ (∀ j, j < 8 → ¬ xSt u' j = 3) ∧ am_TU u u' ∧ (∀ (post : SX → Prop) n, d < n → post u' → wX_takeTurn_11 post (nI s) self n (am_b b) (nI i) u.1 u.2.1 u.2.2.1 u.2.2.2.1 u.2.2.2.2.1 u.2.2.2.2.2.1 u.2.2.2.2.2.2.1 u.2.2.2.2.2.2.2.1 u.2.2.2.2.2.2.2.2.1 u.2.2.2.2.2.2.2.2.2.1 u.2.2.2.2.2.2.2.2.2.2.1 u.2.2.2.2.2.2.2.2.2.2.2.1 u.2.2.2.2.2.2.2.2.2.2.2.2.1 u.2.2.2.2.2.2.2.2.2.2.2.2.2.1 u.2.2.2.2.2.2.2.2.2.2.2.2.2.2.1 u.2.2.2.2.2.2.2.2.2.2.2.2.2.2.2.1 u.2.2.2.2.2.2.2.2.2.2.2.2.2.2.2.2.1 u.2.2.2.2.2.2.2.2.2.2.2.2.2.2.2.2.2.1 u.2.2.2.2.2.2.2.2.2.2.2.2.2.2.2.2.2.2.1 u.2.2.2.2.2.2.2.2.2.2.2.2.2.2.2.2.2.2.2.1 u.2.2.2.2.2.2.2.2.2.2.2.2.2.2.2.2.2.2.2.2.1 u.2.2.2.2.2.2.2.2.2.2.2.2.2.2.2.2.2.2.2.2.2.1 u.2.2.2.2.2.2.2.2.2.2.2.2.2.2.2.2.2.2.2.2.2.2.1 u.2.2.2.2.2.2.2.2.2.2.2.2.2.2.2.2.2.2.2.2.2.2.2.1 u.2.2.2.2.2.2.2.2.2.2.2.2.2.2.2.2.2.2.2.2.2.2.2.2.1 u.2.2.2.2.2.2.2.2.2.2.2.2.2.2.2.2.2.2.2.2.2.2.2.2.2.1 u.2.2.2.2.2.2.2.2.2.2.2.2.2.2.2.2.2.2.2.2.2.2.2.2.2.2.1 u.2.2.2.2.2.2.2.2.2.2.2.2.2.2.2.2.2.2.2.2.2.2.2.2.2.2.2.1 u.2.2.2.2.2.2.2.2.2.2.2.2.2.2.2.2.2.2.2.2.2.2.2.2.2.2.2.2.1 u.2.2.2.2.2.2.2.2.2.2.2.2.2.2.2.2.2.2.2.2.2.2.2.2.2.2.2.2.2.1 u.2.2.2.2.2.2.2.2.2.2.2.2.2.2.2.2.2.2.2.2.2.2.2.2.2.2.2.2.2.2.1 u.2.2.2.2.2.2.2.2.2.2.2.2.2.2.2.2.2.2.2.2.2.2.2.2.2.2.2.2.2.2.2.1 u.2.2.2.2.2.2.2.2.2.2.2.2.2.2.2.2.2.2.2.2.2.2.2.2.2.2.2.2.2.2.2.2.1 u.2.2.2.2.2.2.2.2.2.2.2.2.2.2.2.2.2.2.2.2.2.2.2.2.2.2.2.2.2.2.2.2.2.1 u.2.2.2.2.2.2.2.2.2.2.2.2.2.2.2.2.2.2.2.2.2.2.2.2.2.2.2.2.2.2.2.2.2.2.1 u.2.2.2.2.2.2.2.2.2.2.2.2.2.2.2.2.2.2.2.2.2.2.2.2.2.2.2.2.2.2.2.2.2.2.2.1 u.2.2.2.2.2.2.2.2.2.2.2.2.2.2.2.2.2.2.2.2.2.2.2.2.2.2.2.2.2.2.2.2.2.2.2.2.1 u.2.2.2.2.2.2.2.2.2.2.2.2.2.2.2.2.2.2.2.2.2.2.2.2.2.2.2.2.2.2.2.2.2.2.2.2.2.1 u.2.2.2.2.2.2.2.2.2.2.2.2.2.2.2.2.2.2.2.2.2.2.2.2.2.2.2.2.2.2.2.2.2.2.2.2.2.2.1 u.2.2.2.2.2.2.2.2.2.2.2.2.2.2.2.2.2.2.2.2.2.2.2.2.2.2.2.2.2.2.2.2.2.2.2.2.2.2.2.1 u.2.2.2.2.2.2.2.2.2.2.2.2.2.2.2.2.2.2.2.2.2.2.2.2.2.2.2.2.2.2.2.2.2.2.2.2.2.2.2.2) ∧ (∀ (post : SY → Prop) n, d < n → post v' → wY_turn_11 post (nI s) self n (am_b (!b)) (nI i) v.1 v.2.1 v.2.2.1 v.2.2.2.1 v.2.2.2.2.1 v.2.2.2.2.2.1 v.2.2.2.2.2.2.1 v.2.2.2.2.2.2.2.1 v.2.2.2.2.2.2.2.2.1 v.2.2.2.2.2.2.2.2.2.1 v.2.2.2.2.2.2.2.2.2.2.1 v.2.2.2.2.2.2.2.2.2.2.2.1 v.2.2.2.2.2.2.2.2.2.2.2.2.1 v.2.2.2.2.2.2.2.2.2.2.2.2.2.1 v.2.2.2.2.2.2.2.2.2.2.2.2.2.2.1 v.2.2.2.2.2.2.2.2.2.2.2.2.2.2.2.1 v.2.2.2.2.2.2.2.2.2.2.2.2.2.2.2.2.1 v.2.2.2.2.2.2.2.2.2.2.2.2.2.2.2.2.2.1 v.2.2.2.2.2.2.2.2.2.2.2.2.2.2.2.2.2.2.1 v.2.2.2.2.2.2.2.2.2.2.2.2.2.2.2.2.2.2.2.1 v.2.2.2.2.2.2.2.2.2.2.2.2.2.2.2.2.2.2.2.2.1 v.2.2.2.2.2.2.2.2.2.2.2.2.2.2.2.2.2.2.2.2.2.1 v.2.2.2.2.2.2.2.2.2.2.2.2.2.2.2.2.2.2.2.2.2.2.1 v.2.2.2.2.2.2.2.2.2.2.2.2.2.2.2.2.2.2.2.2.2.2.2.1 v.2.2.2.2.2.2.2.2.2.2.2.2.2.2.2.2.2.2.2.2.2.2.2.2.1 v.2.2.2.2.2.2.2.2.2.2.2.2.2.2.2.2.2.2.2.2.2.2.2.2.2.1 v.2.2.2.2.2.2.2.2.2.2.2.2.2.2.2.2.2.2.2.2.2.2.2.2.2.2.1 v.2.2.2.2.2.2.2.2.2.2.2.2.2.2.2.2.2.2.2.2.2.2.2.2.2.2.2.1 v.2.2.2.2.2.2.2.2.2.2.2.2.2.2.2.2.2.2.2.2.2.2.2.2.2.2.2.2.1 v.2.2.2.2.2.2.2.2.2.2.2.2.2.2.2.2.2.2.2.2.2.2.2.2.2.2.2.2.2.1 v.2.2.2.2.2.2.2.2.2.2.2.2.2.2.2.2.2.2.2.2.2.2.2.2.2.2.2.2.2.2.1 v.2.2.2.2.2.2.2.2.2.2.2.2.2.2.2.2.2.2.2.2.2.2.2.2.2.2.2.2.2.2.2.1 v.2.2.2.2.2.2.2.2.2.2.2.2.2.2.2.2.2.2.2.2.2.2.2.2.2.2.2.2.2.2.2.2.1 v.2.2.2.2.2.2.2.2.2.2.2.2.2.2.2.2.2.2.2.2.2.2.2.2.2.2.2.2.2.2.2.2.2.1 v.2.2.2.2.2.2.2.2.2.2.2.2.2.2.2.2.2.2.2.2.2.2.2.2.2.2.2.2.2.2.2.2.2.2) := by
  intro d
  induction d with
  | zero =>
    intro K u v i b R
    apply R
    intro N cap Q CS cc now tc kn fl op oa ob oc st gn lr rg pc tr wt dl mc mk mf mv lm mon par ce ct ca sg mx wd cn cl rc rk tp tv wa dy kd rs lk cel trd ms cnt I nf eN eQ hi _
    have : Q = q := am_im eQ (by have := I.1.2.2.2.2.2.1; omega) (by omega)
    subst this
    obtain rfl : i = Q := hi
    refine ⟨K, _, _, am_Ri I, nf, ⟨⟨rfl, rfl, rfl⟩, fun _ _ z => z⟩, fun post n hn p => ?_, fun post n hn p => ?_⟩
    · obtain ⟨m, rfl⟩ : ∃ m, n = m + 1 := ⟨n - 1, by omega⟩
      exact br_t (Int32.le_refl _) p
    · obtain ⟨m, rfl⟩ : ∃ m, n = m + 1 := ⟨n - 1, by omega⟩
      exact br_t (Int32.le_refl _) p
  | succ d ih =>
    intro K u v i b R
    apply R
    intro N cap Q CS cc now tc kn fl op oa ob oc st gn lr rg pc tr wt dl mc mk mf mv lm mon par ce ct ca sg mx wd cn cl rc rk tp tv wa dy kd rs lk cel trd ms cnt I nf eN eQ hi hb
    have : Q = q := am_im eQ (by have := I.1.2.2.2.2.2.1; omega) (by omega)
    subst this
    have : N = n0 := am_im eN (by have := I.1.2.1; omega) (by omega)
    subst this
    cases b with
    | false =>
      refine ⟨K, _, _, am_Ri I, nf, ⟨⟨rfl, rfl, rfl⟩, fun _ _ z => z⟩, fun post n hn p => ?_, fun post n hn p => ?_⟩
      · obtain ⟨m, rfl⟩ : ∃ m, n = m + 1 := ⟨n - 1, by omega⟩
        exact br_f (nI_ge (by omega) (by omega)) (br_t rfl p)
      · obtain ⟨m, rfl⟩ : ∃ m, n = m + 1 := ⟨n - 1, by omega⟩
        exact br_f (nI_ge (by omega) (by omega)) (br_f (by decide) p)
    | true =>
      obtain ⟨st1, self1⟩ := hb rfl
      have st1' : st s = 1 := st1
      have self' : gn s * 8 + nI s = self := self1
      obtain ⟨K2, u2, v2, g, o, R2, b1, b2, b3, bX, bY⟩ := sp_step I s8 st1'
      have hG2 := iG_R R2
      obtain ⟨g2, gl2, ge2⟩ := hG2 s (by omega)
      obtain ⟨g1, gl1, ge1⟩ := I.2.2.2.2.1 s (by omega)
      have pe : xGn u2 s * 8 + nI s = self → xGn u2 s = gn s := fun z => by
        rw [← self', ge2, ge1, am_8, am_8] at z
        have := am_im z (by omega) (by omega)
        rw [ge2, ge1]
        exact congrArg nI (by omega)
      have Cfd : (xSt u2 s = 1 ∧ xGn u2 s * 8 + nI s = self) → am_fd N (xSt u2) (xGn u2) self = some s := fun z => by
        rw [← z.2]
        exact am_fd_of s8 (by omega) (Or.inl z.1) ge2 gl2
      have Cnf : ¬ (xSt u2 s = 1 ∧ xGn u2 s * 8 + nI s = self) → ¬ am_o (am_fd N (xSt u2) (xGn u2) self) = nI s := fun z w => by
        cases e : am_fd N (xSt u2) (xGn u2) self with
        | none => rw [e] at w; exact am_nm1 (by omega) w
        | some y =>
          rw [e] at w
          obtain ⟨y1, y2, y3, y4⟩ := am_fd_some e
          have ey : y = s := am_im w (by omega) (by omega)
          subst ey
          rcases y3 with y3 | y3
          · exact z ⟨y3, y4⟩
          · have := b2.2 y (by omega) y3
            rw [st1'] at this
            exact absurd this (by decide)
      obtain ⟨K', u', v', R', c1, c2, cX, cY⟩ := ih K2 u2 v2 (i + 1) (g && decide (xSt u2 s = 1 ∧ xGn u2 s * 8 + nI s = self)) R2 b1 b2.1.1 b2.1.2.1 (by omega) (fun z => by
        rw [Bool.and_eq_true] at z
        exact of_decide_eq_true z.2)
      refine ⟨K', u', v', R', c1, ⟨⟨c2.1.1.trans b2.1.1, c2.1.2.1.trans b2.1.2.1, c2.1.2.2.trans b2.1.2.2⟩, fun j hj z => b2.2 j hj (c2.2 j hj z)⟩, fun post n hn p => ?_, fun post n hn p => ?_⟩
      · obtain ⟨m, rfl⟩ : ∃ m, n = m + 1 := ⟨n - 1, by omega⟩
        have z := cX post m (by omega) p
        refine br_f (nI_ge (by omega) (by omega)) (br_f (by decide) (bX _ ?_))
        refine am_br (fun hg => ?_) (fun hg => ⟨vp_in_nI (by omega) (by omega), ?_⟩)
        · rw [hg, Bool.false_and] at z
          exact nm_r (nI_1 i) z
        · rw [hg, Bool.true_and] at z
          rw [nI_clamp (by omega)]
          by_cases q1 : xSt u2 s = 1
          · refine br_t q1 (xv_pidU (by omega) ?_)
            by_cases q2 : xGn u2 s * 8 + nI s = self
            · rw [decide_eq_true ⟨q1, q2⟩] at z
              exact br_t q2 (nm_r (nI_1 i) z)
            · rw [decide_eq_false fun w => q2 w.2] at z
              exact br_f q2 (nm_r (nI_1 i) z)
          · rw [decide_eq_false fun w => q1 w.1] at z
            exact br_f q1 (nm_r (nI_1 i) z)
      · obtain ⟨m, rfl⟩ : ∃ m, n = m + 1 := ⟨n - 1, by omega⟩
        have z := cY post m (by omega) p
        refine bY post m i self (by omega) (yv_findR R2 b2.1.1 n8 ?_)
        by_cases C : xSt u2 s = 1 ∧ xGn u2 s * 8 + nI s = self
        · rw [decide_eq_true C, Bool.and_true, ← b3 C.1 (pe C.2)] at z
          rw [Cfd C]
          exact br_t rfl (nm_r (nI_1 i) z)
        · rw [decide_eq_false C, Bool.and_false] at z
          exact br_f (Cnf C) (nm_r (nI_1 i) z)
section T2
variable {N cap Q CS cc now tc kn : Nat} {fl : Int32} {op oa ob oc st gn lr rg pc tr wt dl mc mk mf mv lm mon par ce ct ca sg mx wd cn cl rc rk tp tv wa dy kd rs lk cel trd : Nat → Int32} {ms cnt : Nat → Int64}
theorem tn_turn {K : List Nat} {s : Nat} (I : am_I K N cap Q CS cc now tc kn fl op oa ob oc st gn lr rg pc tr wt dl mc mk mf mv lm mon par ce ct ca sg mx wd cn cl rc rk tp tv wa dy kd rs lk cel trd ms cnt) (sN : s < N) (h1 : st s = 1) (nf : ∀ j, j < 8 → ¬ st j = 3) : ∃ K' u' v', am_R K' u' v' ∧ (∀ j, j < 8 → ¬ xSt u' j = 3) ∧ am_T N Q now st u' ∧ (∀ post : SX → Prop, post u' → wpX_takeTurn post (fl, nI N, nI cap, nI Q, nI CS, nI cc, nI now, nI tc, op, oa, ob, oc, st, gn, lr, rg, pc, tr, wt, dl, mc, mk, mf, mv, ms, lm, mon, par, ce, ct, ca, sg, mx, wd, cn, cl, rc, rk, tp, tv, cnt) (nI s)) ∧ (∀ post : SY → Prop, post v' → wpY_turn post (nI N, nI cap, nI Q, nI CS, nI now, nI cc, nI tc, nI kn, st, gn, lr, pc, wa, dy, tr, par, ce, ct, ca, kd, sg, mx, wd, rs, rg, mon, lk, mc, mk, mf, mv, ms, cel, trd, cnt) (nI s)) := by
  have hN : N ≤ 8 := I.1.2.1
  have hQ : Q ≤ 8 := I.1.2.2.2.2.2.1
  obtain ⟨K', u', v', R', c1, c2, cX, cY⟩ := tn_loop (self := gn s * 8 + nI s) sN hN hQ Q K _ _ 0 true (am_Ri I) nf rfl rfl (by omega) (fun _ => ⟨h1, rfl⟩)
  refine ⟨K', u', v', R', c1, c2, fun post p => ?_, fun post p => ?_⟩
  · unfold wpX_takeTurn
    refine xv_pid (by omega) ?_
    exact ⟨Q + 1, cX post (Q + 1) (by omega) p⟩
  · unfold wpY_turn
    refine yv_pid (by omega) ?_
    exact ⟨Q + 1, cY post (Q + 1) (by omega) p⟩
end T2
end
section
/-! 34: run -/
section RU
variable {N cap Q CS cc now tc kn : Nat} {fl : Int32} {op oa ob oc st gn lr rg pc tr wt dl mc mk mf mv lm mon par ce ct ca sg mx wd cn cl rc rk tp tv wa dy kd rs lk cel trd : Nat → Int32} {ms cnt : Nat → Int64}
theorem nw_I {K : List Nat} (I : am_I K N cap Q CS cc now tc kn fl op oa ob oc st gn lr rg pc tr wt dl mc mk mf mv lm mon par ce ct ca sg mx wd cn cl rc rk tp tv wa dy kd rs lk cel trd ms cnt) (h : now + 1 ≤ 1000) : am_I K N cap Q CS cc (now + 1) tc kn fl op oa ob oc st gn lr rg pc tr wt dl mc mk mf mv lm mon par ce ct ca sg mx wd cn cl rc rk tp tv wa dy kd rs lk cel trd ms cnt := by
  obtain ⟨h1, h2, h3, h4, h5, h6, h7, h8, h9, h10, h11, h12, h13⟩ := I
  refine ⟨?_, h2, h3, h4, h5, h6, h7, h8, h9, h10, h11, h12, fun s hs e => ?_⟩
  · unfold iS at h1 ⊢; omega
  · obtain ⟨x1, x2, w, c, f, y1, y2, y3, y4, y5, y6, y7, y8⟩ := h13 s hs e
    exact ⟨x1, x2, w, c, f, y1, y2, y3, y4, y5, fun i hi => ⟨(y6 i hi).1, by have := (y6 i hi).2; omega⟩, y7, fun t ht hw => y8 t ht (by omega)⟩
theorem xu_98 {post : Int32 → SX → Prop} (hN : N ≤ 8) (h : post (nI (am_cn (fun s => decide (st s = 1 ∧ wt s = 0)) N)) (fl, nI N, nI cap, nI Q, nI CS, nI cc, nI now, nI tc, op, oa, ob, oc, st, gn, lr, rg, pc, tr, wt, dl, mc, mk, mf, mv, ms, lm, mon, par, ce, ct, ca, sg, mx, wd, cn, cl, rc, rk, tp, tv, cnt)) : ∀ d s n, s + d = N → d < n → wX_run_98 post fl (nI N) (nI cap) (nI Q) (nI CS) (nI cc) (nI now) (nI tc) op oa ob oc st gn lr rg pc tr wt dl mc mk mf mv ms lm mon par ce ct ca sg mx wd cn cl rc rk tp tv cnt n (nI (am_cn (fun s => decide (st s = 1 ∧ wt s = 0)) s)) (nI s) := by
  intro d
  induction d with
  | zero =>
    intro s n hs hn
    obtain ⟨m, rfl⟩ : ∃ m, n = m + 1 := ⟨n - 1, by omega⟩
    obtain rfl : s = N := hs
    exact br_t (Int32.le_refl _) h
  | succ d ih =>
    intro s n hs hn
    obtain ⟨m, rfl⟩ : ∃ m, n = m + 1 := ⟨n - 1, by omega⟩
    have i1 : vp_in (nI s) 8 := vp_in_nI (by omega) (by omega)
    have e1 : (nI s).toNatClampNeg = s := nI_clamp (by omega)
    have z := ih (s + 1) m (by omega) (by omega)
    unfold am_cn at z
    refine br_f (nI_ge (by omega) (by omega)) ⟨i1, ?_⟩
    rw [e1]
    by_cases c : st s = 1
    · refine br_t c ⟨i1, ?_⟩
      by_cases c2 : wt s = 0
      · rw [if_pos (decide_eq_true ⟨c, c2⟩)] at z
        exact br_t c2 (nm_r (nI_1 _) (nm_r (nI_1 s) z))
      · rw [if_neg (by rw [decide_eq_false fun w => c2 w.2]; decide)] at z
        exact br_f c2 (nm_r (nI_1 s) z)
    · rw [if_neg (by rw [decide_eq_false fun w => c w.1]; decide)] at z
      exact br_f c (nm_r (nI_1 s) z)
theorem yu_100 {post : Int32 → SY → Prop} (hN : N ≤ 8) (h : post (nI (am_cn (fun s => decide (st s = 1 ∧ wa s = 0)) N)) (nI N, nI cap, nI Q, nI CS, nI now, nI cc, nI tc, nI kn, st, gn, lr, pc, wa, dy, tr, par, ce, ct, ca, kd, sg, mx, wd, rs, rg, mon, lk, mc, mk, mf, mv, ms, cel, trd, cnt)) : ∀ d s n, s + d = N → d < n → wY_run_100 post (nI N) (nI cap) (nI Q) (nI CS) (nI now) (nI cc) (nI tc) (nI kn) st gn lr pc wa dy tr par ce ct ca kd sg mx wd rs rg mon lk mc mk mf mv ms cel trd cnt n (nI (am_cn (fun s => decide (st s = 1 ∧ wa s = 0)) s)) (nI s) := by
  intro d
  induction d with
  | zero =>
    intro s n hs hn
    obtain ⟨m, rfl⟩ : ∃ m, n = m + 1 := ⟨n - 1, by omega⟩
    obtain rfl : s = N := hs
    exact br_t (Int32.le_refl _) h
  | succ d ih =>
    intro s n hs hn
    obtain ⟨m, rfl⟩ : ∃ m, n = m + 1 := ⟨n - 1, by omega⟩
    have i1 : vp_in (nI s) 8 := vp_in_nI (by omega) (by omega)
    have e1 : (nI s).toNatClampNeg = s := nI_clamp (by omega)
    have z := ih (s + 1) m (by omega) (by omega)
    unfold am_cn at z
    refine br_f (nI_ge (by omega) (by omega)) ⟨i1, ?_⟩
    rw [e1]
    by_cases c : st s = 1
    · refine br_t c ⟨i1, ?_⟩
      by_cases c2 : wa s = 0
      · rw [if_pos (decide_eq_true ⟨c, c2⟩)] at z
        exact br_t c2 (nm_r (nI_1 _) (nm_r (nI_1 s) z))
      · rw [if_neg (by rw [decide_eq_false fun w => c2 w.2]; decide)] at z
        exact br_f c2 (nm_r (nI_1 s) z)
    · rw [if_neg (by rw [decide_eq_false fun w => c w.1]; decide)] at z
      exact br_f c (nm_r (nI_1 s) z)
end RU
theorem rn_slots {n0 : Nat} (n8 : n0 ≤ 8) : ∀ (d : Nat) (K : List Nat) (u : SX) (v : SY) (s : Nat), am_R K u v → (∀ j, j < 8 → ¬ xSt u j = 3) → u.2.1 = nI n0 → s + d = n0 → ∃ K' u' v', am_R K' u' v' ∧ (∀ j, j < 8 → ¬ xSt u' j = 3) ∧ am_TU u u' ∧ (∀ (post : Int32 → SX → Prop) J (x2 x3 : Int32) n, d < n → (∀ y, y = x3 + 1 → J y u'.1 u'.2.1 u'.2.2.1 u'.2.2.2.1 u'.2.2.2.2.1 u'.2.2.2.2.2.1 u'.2.2.2.2.2.2.1 u'.2.2.2.2.2.2.2.1 u'.2.2.2.2.2.2.2.2.1 u'.2.2.2.2.2.2.2.2.2.1 u'.2.2.2.2.2.2.2.2.2.2.1 u'.2.2.2.2.2.2.2.2.2.2.2.1 u'.2.2.2.2.2.2.2.2.2.2.2.2.1 u'.2.2.2.2.2.2.2.2.2.2.2.2.2.1 u'.2.2.2.2.2.2.2.2.2.2.2.2.2.2.1 u'.2.2.2.2.2.2.2.2.2.2.2.2.2.2.2.1 u'.2.2.2.2.2.2.2.2.2.2.2.2.2.2.2.2.1 u'.2.2.2.2.2.2.2.2.2.2.2.2.2.2.2.2.2.1 u'.2.2.2.2.2.2.2.2.2.2.2.2.2.2.2.2.2.2.1 u'.2.2.2.2.2.2.2.2.2.2.2.2.2.2.2.2.2.2.2.1 u'.2.2.2.2.2.2.2.2.2.2.2.2.2.2.2.2.2.2.2.2.1 u'.2.2.2.2.2.2.2.2.2.2.2.2.2.2.2.2.2.2.2.2.2.1 u'.2.2.2.2.2.2.2.2.2.2.2.2.2.2.2.2.2.2.2.2.2.2.1 u'.2.2.2.2.2.2.2.2.2.2.2.2.2.2.2.2.2.2.2.2.2.2.2.1 u'.2.2.2.2.2.2.2.2.2.2.2.2.2.2.2.2.2.2.2.2.2.2.2.2.1 u'.2.2.2.2.2.2.2.2.2.2.2.2.2.2.2.2.2.2.2.2.2.2.2.2.2.1 u'.2.2.2.2.2.2.2.2.2.2.2.2.2.2.2.2.2.2.2.2.2.2.2.2.2.2.1 u'.2.2.2.2.2.2.2.2.2.2.2.2.2.2.2.2.2.2.2.2.2.2.2.2.2.2.2.1 u'.2.2.2.2.2.2.2.2.2.2.2.2.2.2.2.2.2.2.2.2.2.2.2.2.2.2.2.2.1 u'.2.2.2.2.2.2.2.2.2.2.2.2.2.2.2.2.2.2.2.2.2.2.2.2.2.2.2.2.2.1 u'.2.2.2.2.2.2.2.2.2.2.2.2.2.2.2.2.2.2.2.2.2.2.2.2.2.2.2.2.2.2.1 u'.2.2.2.2.2.2.2.2.2.2.2.2.2.2.2.2.2.2.2.2.2.2.2.2.2.2.2.2.2.2.2.1 u'.2.2.2.2.2.2.2.2.2.2.2.2.2.2.2.2.2.2.2.2.2.2.2.2.2.2.2.2.2.2.2.2.1 u'.2.2.2.2.2.2.2.2.2.2.2.2.2.2.2.2.2.2.2.2.2.2.2.2.2.2.2.2.2.2.2.2.2.1 u'.2.2.2.2.2.2.2.2.2.2.2.2.2.2.2.2.2.2.2.2.2.2.2.2.2.2.2.2.2.2.2.2.2.2.1 u'.2.2.2.2.2.2.2.2.2.2.2.2.2.2.2.2.2.2.2.2.2.2.2.2.2.2.2.2.2.2.2.2.2.2.2.1 u'.2.2.2.2.2.2.2.2.2.2.2.2.2.2.2.2.2.2.2.2.2.2.2.2.2.2.2.2.2.2.2.2.2.2.2.2.1 u'.2.2.2.2.2.2.2.2.2.2.2.2.2.2.2.2.2.2.2.2.2.2.2.2.2.2.2.2.2.2.2.2.2.2.2.2.2.1 u'.2.2.2.2.2.2.2.2.2.2.2.2.2.2.2.2.2.2.2.2.2.2.2.2.2.2.2.2.2.2.2.2.2.2.2.2.2.2.1 u'.2.2.2.2.2.2.2.2.2.2.2.2.2.2.2.2.2.2.2.2.2.2.2.2.2.2.2.2.2.2.2.2.2.2.2.2.2.2.2.1 u'.2.2.2.2.2.2.2.2.2.2.2.2.2.2.2.2.2.2.2.2.2.2.2.2.2.2.2.2.2.2.2.2.2.2.2.2.2.2.2.2) → wX_run_55 post J x2 x3 n (nI s) u.1 u.2.1 u.2.2.1 u.2.2.2.1 u.2.2.2.2.1 u.2.2.2.2.2.1 u.2.2.2.2.2.2.1 u.2.2.2.2.2.2.2.1 u.2.2.2.2.2.2.2.2.1 u.2.2.2.2.2.2.2.2.2.1 u.2.2.2.2.2.2.2.2.2.2.1 u.2.2.2.2.2.2.2.2.2.2.2.1 u.2.2.2.2.2.2.2.2.2.2.2.2.1 u.2.2.2.2.2.2.2.2.2.2.2.2.2.1 u.2.2.2.2.2.2.2.2.2.2.2.2.2.2.1 u.2.2.2.2.2.2.2.2.2.2.2.2.2.2.2.1 u.2.2.2.2.2.2.2.2.2.2.2.2.2.2.2.2.1 u.2.2.2.2.2.2.2.2.2.2.2.2.2.2.2.2.2.1 u.2.2.2.2.2.2.2.2.2.2.2.2.2.2.2.2.2.2.1 u.2.2.2.2.2.2.2.2.2.2.2.2.2.2.2.2.2.2.2.1 u.2.2.2.2.2.2.2.2.2.2.2.2.2.2.2.2.2.2.2.2.1 u.2.2.2.2.2.2.2.2.2.2.2.2.2.2.2.2.2.2.2.2.2.1 u.2.2.2.2.2.2.2.2.2.2.2.2.2.2.2.2.2.2.2.2.2.2.1 u.2.2.2.2.2.2.2.2.2.2.2.2.2.2.2.2.2.2.2.2.2.2.2.1 u.2.2.2.2.2.2.2.2.2.2.2.2.2.2.2.2.2.2.2.2.2.2.2.2.1 u.2.2.2.2.2.2.2.2.2.2.2.2.2.2.2.2.2.2.2.2.2.2.2.2.2.1 u.2.2.2.2.2.2.2.2.2.2.2.2.2.2.2.2.2.2.2.2.2.2.2.2.2.2.1 u.2.2.2.2.2.2.2.2.2.2.2.2.2.2.2.2.2.2.2.2.2.2.2.2.2.2.2.1 u.2.2.2.2.2.2.2.2.2.2.2.2.2.2.2.2.2.2.2.2.2.2.2.2.2.2.2.2.1 u.2.2.2.2.2.2.2.2.2.2.2.2.2.2.2.2.2.2.2.2.2.2.2.2.2.2.2.2.2.1 u.2.2.2.2.2.2.2.2.2.2.2.2.2.2.2.2.2.2.2.2.2.2.2.2.2.2.2.2.2.2.1 u.2.2.2.2.2.2.2.2.2.2.2.2.2.2.2.2.2.2.2.2.2.2.2.2.2.2.2.2.2.2.2.1 u.2.2.2.2.2.2.2.2.2.2.2.2.2.2.2.2.2.2.2.2.2.2.2.2.2.2.2.2.2.2.2.2.1 u.2.2.2.2.2.2.2.2.2.2.2.2.2.2.2.2.2.2.2.2.2.2.2.2.2.2.2.2.2.2.2.2.2.1 u.2.2.2.2.2.2.2.2.2.2.2.2.2.2.2.2.2.2.2.2.2.2.2.2.2.2.2.2.2.2.2.2.2.2.1 u.2.2.2.2.2.2.2.2.2.2.2.2.2.2.2.2.2.2.2.2.2.2.2.2.2.2.2.2.2.2.2.2.2.2.2.1 u.2.2.2.2.2.2.2.2.2.2.2.2.2.2.2.2.2.2.2.2.2.2.2.2.2.2.2.2.2.2.2.2.2.2.2.2.1 u.2.2.2.2.2.2.2.2.2.2.2.2.2.2.2.2.2.2.2.2.2.2.2.2.2.2.2.2.2.2.2.2.2.2.2.2.2.1 u.2.2.2.2.2.2.2.2.2.2.2.2.2.2.2.2.2.2.2.2.2.2.2.2.2.2.2.2.2.2.2.2.2.2.2.2.2.2.1 u.2.2.2.2.2.2.2.2.2.2.2.2.2.2.2.2.2.2.2.2.2.2.2.2.2.2.2.2.2.2.2.2.2.2.2.2.2.2.2.1 u.2.2.2.2.2.2.2.2.2.2.2.2.2.2.2.2.2.2.2.2.2.2.2.2.2.2.2.2.2.2.2.2.2.2.2.2.2.2.2.2) ∧ (∀ (post : Int32 → SY → Prop) J (x2 x3 x4 : Int32) n, d < n → (∀ y, y = x4 + 1 → J y v'.1 v'.2.1 v'.2.2.1 v'.2.2.2.1 v'.2.2.2.2.1 v'.2.2.2.2.2.1 v'.2.2.2.2.2.2.1 v'.2.2.2.2.2.2.2.1 v'.2.2.2.2.2.2.2.2.1 v'.2.2.2.2.2.2.2.2.2.1 v'.2.2.2.2.2.2.2.2.2.2.1 v'.2.2.2.2.2.2.2.2.2.2.2.1 v'.2.2.2.2.2.2.2.2.2.2.2.2.1 v'.2.2.2.2.2.2.2.2.2.2.2.2.2.1 v'.2.2.2.2.2.2.2.2.2.2.2.2.2.2.1 v'.2.2.2.2.2.2.2.2.2.2.2.2.2.2.2.1 v'.2.2.2.2.2.2.2.2.2.2.2.2.2.2.2.2.1 v'.2.2.2.2.2.2.2.2.2.2.2.2.2.2.2.2.2.1 v'.2.2.2.2.2.2.2.2.2.2.2.2.2.2.2.2.2.2.1 v'.2.2.2.2.2.2.2.2.2.2.2.2.2.2.2.2.2.2.2.1 v'.2.2.2.2.2.2.2.2.2.2.2.2.2.2.2.2.2.2.2.2.1 v'.2.2.2.2.2.2.2.2.2.2.2.2.2.2.2.2.2.2.2.2.2.1 v'.2.2.2.2.2.2.2.2.2.2.2.2.2.2.2.2.2.2.2.2.2.2.1 v'.2.2.2.2.2.2.2.2.2.2.2.2.2.2.2.2.2.2.2.2.2.2.2.1 v'.2.2.2.2.2.2.2.2.2.2.2.2.2.2.2.2.2.2.2.2.2.2.2.2.1 v'.2.2.2.2.2.2.2.2.2.2.2.2.2.2.2.2.2.2.2.2.2.2.2.2.2.1 v'.2.2.2.2.2.2.2.2.2.2.2.2.2.2.2.2.2.2.2.2.2.2.2.2.2.2.1 v'.2.2.2.2.2.2.2.2.2.2.2.2.2.2.2.2.2.2.2.2.2.2.2.2.2.2.2.1 v'.2.2.2.2.2.2.2.2.2.2.2.2.2.2.2.2.2.2.2.2.2.2.2.2.2.2.2.2.1 v'.2.2.2.2.2.2.2.2.2.2.2.2.2.2.2.2.2.2.2.2.2.2.2.2.2.2.2.2.2.1 v'.2.2.2.2.2.2.2.2.2.2.2.2.2.2.2.2.2.2.2.2.2.2.2.2.2.2.2.2.2.2.1 v'.2.2.2.2.2.2.2.2.2.2.2.2.2.2.2.2.2.2.2.2.2.2.2.2.2.2.2.2.2.2.2.1 v'.2.2.2.2.2.2.2.2.2.2.2.2.2.2.2.2.2.2.2.2.2.2.2.2.2.2.2.2.2.2.2.2.1 v'.2.2.2.2.2.2.2.2.2.2.2.2.2.2.2.2.2.2.2.2.2.2.2.2.2.2.2.2.2.2.2.2.2.1 v'.2.2.2.2.2.2.2.2.2.2.2.2.2.2.2.2.2.2.2.2.2.2.2.2.2.2.2.2.2.2.2.2.2.2) → wY_run_59 post J x2 x3 x4 n (nI s) v.1 v.2.1 v.2.2.1 v.2.2.2.1 v.2.2.2.2.1 v.2.2.2.2.2.1 v.2.2.2.2.2.2.1 v.2.2.2.2.2.2.2.1 v.2.2.2.2.2.2.2.2.1 v.2.2.2.2.2.2.2.2.2.1 v.2.2.2.2.2.2.2.2.2.2.1 v.2.2.2.2.2.2.2.2.2.2.2.1 v.2.2.2.2.2.2.2.2.2.2.2.2.1 v.2.2.2.2.2.2.2.2.2.2.2.2.2.1 v.2.2.2.2.2.2.2.2.2.2.2.2.2.2.1 v.2.2.2.2.2.2.2.2.2.2.2.2.2.2.2.1 v.2.2.2.2.2.2.2.2.2.2.2.2.2.2.2.2.1 v.2.2.2.2.2.2.2.2.2.2.2.2.2.2.2.2.2.1 v.2.2.2.2.2.2.2.2.2.2.2.2.2.2.2.2.2.2.1 v.2.2.2.2.2.2.2.2.2.2.2.2.2.2.2.2.2.2.2.1 v.2.2.2.2.2.2.2.2.2.2.2.2.2.2.2.2.2.2.2.2.1 v.2.2.2.2.2.2.2.2.2.2.2.2.2.2.2.2.2.2.2.2.2.1 v.2.2.2.2.2.2.2.2.2.2.2.2.2.2.2.2.2.2.2.2.2.2.1 v.2.2.2.2.2.2.2.2.2.2.2.2.2.2.2.2.2.2.2.2.2.2.2.1 v.2.2.2.2.2.2.2.2.2.2.2.2.2.2.2.2.2.2.2.2.2.2.2.2.1 v.2.2.2.2.2.2.2.2.2.2.2.2.2.2.2.2.2.2.2.2.2.2.2.2.2.1 v.2.2.2.2.2.2.2.2.2.2.2.2.2.2.2.2.2.2.2.2.2.2.2.2.2.2.1 v.2.2.2.2.2.2.2.2.2.2.2.2.2.2.2.2.2.2.2.2.2.2.2.2.2.2.2.1 v.2.2.2.2.2.2.2.2.2.2.2.2.2.2.2.2.2.2.2.2.2.2.2.2.2.2.2.2.1 v.2.2.2.2.2.2.2.2.2.2.2.2.2.2.2.2.2.2.2.2.2.2.2.2.2.2.2.2.2.1 v.2.2.2.2.2.2.2.2.2.2.2.2.2.2.2.2.2.2.2.2.2.2.2.2.2.2.2.2.2.2.1 v.2.2.2.2.2.2.2.2.2.2.2.2.2.2.2.2.2.2.2.2.2.2.2.2.2.2.2.2.2.2.2.1 v.2.2.2.2.2.2.2.2.2.2.2.2.2.2.2.2.2.2.2.2.2.2.2.2.2.2.2.2.2.2.2.2.1 v.2.2.2.2.2.2.2.2.2.2.2.2.2.2.2.2.2.2.2.2.2.2.2.2.2.2.2.2.2.2.2.2.2.1 v.2.2.2.2.2.2.2.2.2.2.2.2.2.2.2.2.2.2.2.2.2.2.2.2.2.2.2.2.2.2.2.2.2.2) := by
  intro d
  induction d with
  | zero =>
    intro K u v s R
    apply R
    intro N cap Q CS cc now tc kn fl op oa ob oc st gn lr rg pc tr wt dl mc mk mf mv lm mon par ce ct ca sg mx wd cn cl rc rk tp tv wa dy kd rs lk cel trd ms cnt I nf eN hs
    have : N = n0 := am_im eN (by have := I.1.2.1; omega) (by omega)
    subst this
    obtain rfl : s = N := hs
    refine ⟨K, _, _, am_Ri I, nf, ⟨⟨rfl, rfl, rfl⟩, fun _ _ z => z⟩, fun post J x2 x3 n hn p => ?_, fun post J x2 x3 x4 n hn p => ?_⟩
    · obtain ⟨m, rfl⟩ : ∃ m, n = m + 1 := ⟨n - 1, by omega⟩
      exact br_t (Int32.le_refl _) p
    · obtain ⟨m, rfl⟩ : ∃ m, n = m + 1 := ⟨n - 1, by omega⟩
      exact br_t (Int32.le_refl _) p
  | succ d ih =>
    intro K u v s R
    apply R
    intro N cap Q CS cc now tc kn fl op oa ob oc st gn lr rg pc tr wt dl mc mk mf mv lm mon par ce ct ca sg mx wd cn cl rc rk tp tv wa dy kd rs lk cel trd ms cnt I nf eN hs
    have : N = n0 := am_im eN (by have := I.1.2.1; omega) (by omega)
    subst this
    have i1 : vp_in (nI s) 8 := vp_in_nI (by omega) (by omega)
    have e1 : (nI s).toNatClampNeg = s := nI_clamp (by omega)
    by_cases c : st s = 1
    · obtain ⟨K1, u1, v1, R1, a1, a2, aX, aY⟩ := tn_turn (s := s) I (by omega) c nf
      obtain ⟨K', u', v', R', b1, b2, bX, bY⟩ := ih K1 u1 v1 (s + 1) R1 a1 a2.1.1 (by omega)
      refine ⟨K', u', v', R', b1, ⟨⟨b2.1.1.trans a2.1.1, b2.1.2.1.trans a2.1.2.1, b2.1.2.2.trans a2.1.2.2⟩, fun j hj z => a2.2 j hj (b2.2 j hj z)⟩, fun post J x2 x3 n hn p => ?_, fun post J x2 x3 x4 n hn p => ?_⟩
      · obtain ⟨m, rfl⟩ : ∃ m, n = m + 1 := ⟨n - 1, by omega⟩
        refine br_f (nI_ge (by omega) (by omega)) ⟨i1, br_t (by show st (nI s).toNatClampNeg = 1; rw [e1]; exact c) (aX _ ?_)⟩
        exact nm_r (nI_1 s) (bX post J x2 x3 m (by omega) p)
      · obtain ⟨m, rfl⟩ : ∃ m, n = m + 1 := ⟨n - 1, by omega⟩
        refine br_f (nI_ge (by omega) (by omega)) ⟨i1, br_t (by show st (nI s).toNatClampNeg = 1; rw [e1]; exact c) (aY _ ?_)⟩
        exact nm_r (nI_1 s) (bY post J x2 x3 x4 m (by omega) p)
    · obtain ⟨K', u', v', R', b1, b2, bX, bY⟩ := ih K _ _ (s + 1) (am_Ri I) nf rfl (by omega)
      refine ⟨K', u', v', R', b1, b2, fun post J x2 x3 n hn p => ?_, fun post J x2 x3 x4 n hn p => ?_⟩
      · obtain ⟨m, rfl⟩ : ∃ m, n = m + 1 := ⟨n - 1, by omega⟩
        refine br_f (nI_ge (by omega) (by omega)) ⟨i1, br_f (by show ¬ st (nI s).toNatClampNeg = 1; rw [e1]; exact c) ?_⟩
        exact nm_r (nI_1 s) (bX post J x2 x3 m (by omega) p)
      · obtain ⟨m, rfl⟩ : ∃ m, n = m + 1 := ⟨n - 1, by omega⟩
        refine br_f (nI_ge (by omega) (by omega)) ⟨i1, br_f (by show ¬ st (nI s).toNatClampNeg = 1; rw [e1]; exact c) ?_⟩
        exact nm_r (nI_1 s) (bY post J x2 x3 x4 m (by omega) p)
theorem rn_rounds {td : Nat} (t32 : td ≤ 32) : ∀ (d : Nat) (K : List Nat) (u : SX) (v : SY) (i nw : Nat), am_R K u v → (∀ j, j < 8 → ¬ xSt u j = 3) → u.2.2.2.2.2.2.1 = nI nw → nw + d ≤ 1000 → i + d = td → ∃ (r : Int32) (K' : List Nat) (u' : SX) (v' : SY), am_R K' u' v' ∧ (∀ j, j < 8 → ¬ xSt u' j = 3) ∧ (∀ (post : Int32 → SX → Prop) n, d < n → post r u' → wX_run_37 post (nI td) n (nI i) u.1 u.2.1 u.2.2.1 u.2.2.2.1 u.2.2.2.2.1 u.2.2.2.2.2.1 u.2.2.2.2.2.2.1 u.2.2.2.2.2.2.2.1 u.2.2.2.2.2.2.2.2.1 u.2.2.2.2.2.2.2.2.2.1 u.2.2.2.2.2.2.2.2.2.2.1 u.2.2.2.2.2.2.2.2.2.2.2.1 u.2.2.2.2.2.2.2.2.2.2.2.2.1 u.2.2.2.2.2.2.2.2.2.2.2.2.2.1 u.2.2.2.2.2.2.2.2.2.2.2.2.2.2.1 u.2.2.2.2.2.2.2.2.2.2.2.2.2.2.2.1 u.2.2.2.2.2.2.2.2.2.2.2.2.2.2.2.2.1 u.2.2.2.2.2.2.2.2.2.2.2.2.2.2.2.2.2.1 u.2.2.2.2.2.2.2.2.2.2.2.2.2.2.2.2.2.2.1 u.2.2.2.2.2.2.2.2.2.2.2.2.2.2.2.2.2.2.2.1 u.2.2.2.2.2.2.2.2.2.2.2.2.2.2.2.2.2.2.2.2.1 u.2.2.2.2.2.2.2.2.2.2.2.2.2.2.2.2.2.2.2.2.2.1 u.2.2.2.2.2.2.2.2.2.2.2.2.2.2.2.2.2.2.2.2.2.2.1 u.2.2.2.2.2.2.2.2.2.2.2.2.2.2.2.2.2.2.2.2.2.2.2.1 u.2.2.2.2.2.2.2.2.2.2.2.2.2.2.2.2.2.2.2.2.2.2.2.2.1 u.2.2.2.2.2.2.2.2.2.2.2.2.2.2.2.2.2.2.2.2.2.2.2.2.2.1 u.2.2.2.2.2.2.2.2.2.2.2.2.2.2.2.2.2.2.2.2.2.2.2.2.2.2.1 u.2.2.2.2.2.2.2.2.2.2.2.2.2.2.2.2.2.2.2.2.2.2.2.2.2.2.2.1 u.2.2.2.2.2.2.2.2.2.2.2.2.2.2.2.2.2.2.2.2.2.2.2.2.2.2.2.2.1 u.2.2.2.2.2.2.2.2.2.2.2.2.2.2.2.2.2.2.2.2.2.2.2.2.2.2.2.2.2.1 u.2.2.2.2.2.2.2.2.2.2.2.2.2.2.2.2.2.2.2.2.2.2.2.2.2.2.2.2.2.2.1 u.2.2.2.2.2.2.2.2.2.2.2.2.2.2.2.2.2.2.2.2.2.2.2.2.2.2.2.2.2.2.2.1 u.2.2.2.2.2.2.2.2.2.2.2.2.2.2.2.2.2.2.2.2.2.2.2.2.2.2.2.2.2.2.2.2.1 u.2.2.2.2.2.2.2.2.2.2.2.2.2.2.2.2.2.2.2.2.2.2.2.2.2.2.2.2.2.2.2.2.2.1 u.2.2.2.2.2.2.2.2.2.2.2.2.2.2.2.2.2.2.2.2.2.2.2.2.2.2.2.2.2.2.2.2.2.2.1 u.2.2.2.2.2.2.2.2.2.2.2.2.2.2.2.2.2.2.2.2.2.2.2.2.2.2.2.2.2.2.2.2.2.2.2.1 u.2.2.2.2.2.2.2.2.2.2.2.2.2.2.2.2.2.2.2.2.2.2.2.2.2.2.2.2.2.2.2.2.2.2.2.2.1 u.2.2.2.2.2.2.2.2.2.2.2.2.2.2.2.2.2.2.2.2.2.2.2.2.2.2.2.2.2.2.2.2.2.2.2.2.2.1 u.2.2.2.2.2.2.2.2.2.2.2.2.2.2.2.2.2.2.2.2.2.2.2.2.2.2.2.2.2.2.2.2.2.2.2.2.2.2.1 u.2.2.2.2.2.2.2.2.2.2.2.2.2.2.2.2.2.2.2.2.2.2.2.2.2.2.2.2.2.2.2.2.2.2.2.2.2.2.2.1 u.2.2.2.2.2.2.2.2.2.2.2.2.2.2.2.2.2.2.2.2.2.2.2.2.2.2.2.2.2.2.2.2.2.2.2.2.2.2.2.2) ∧ (∀ (post : Int32 → SY → Prop) n, d < n → post r v' → wY_run_40 post (nI td) 0 n (nI i) v.1 v.2.1 v.2.2.1 v.2.2.2.1 v.2.2.2.2.1 v.2.2.2.2.2.1 v.2.2.2.2.2.2.1 v.2.2.2.2.2.2.2.1 v.2.2.2.2.2.2.2.2.1 v.2.2.2.2.2.2.2.2.2.1 v.2.2.2.2.2.2.2.2.2.2.1 v.2.2.2.2.2.2.2.2.2.2.2.1 v.2.2.2.2.2.2.2.2.2.2.2.2.1 v.2.2.2.2.2.2.2.2.2.2.2.2.2.1 v.2.2.2.2.2.2.2.2.2.2.2.2.2.2.1 v.2.2.2.2.2.2.2.2.2.2.2.2.2.2.2.1 v.2.2.2.2.2.2.2.2.2.2.2.2.2.2.2.2.1 v.2.2.2.2.2.2.2.2.2.2.2.2.2.2.2.2.2.1 v.2.2.2.2.2.2.2.2.2.2.2.2.2.2.2.2.2.2.1 v.2.2.2.2.2.2.2.2.2.2.2.2.2.2.2.2.2.2.2.1 v.2.2.2.2.2.2.2.2.2.2.2.2.2.2.2.2.2.2.2.2.1 v.2.2.2.2.2.2.2.2.2.2.2.2.2.2.2.2.2.2.2.2.2.1 v.2.2.2.2.2.2.2.2.2.2.2.2.2.2.2.2.2.2.2.2.2.2.1 v.2.2.2.2.2.2.2.2.2.2.2.2.2.2.2.2.2.2.2.2.2.2.2.1 v.2.2.2.2.2.2.2.2.2.2.2.2.2.2.2.2.2.2.2.2.2.2.2.2.1 v.2.2.2.2.2.2.2.2.2.2.2.2.2.2.2.2.2.2.2.2.2.2.2.2.2.1 v.2.2.2.2.2.2.2.2.2.2.2.2.2.2.2.2.2.2.2.2.2.2.2.2.2.2.1 v.2.2.2.2.2.2.2.2.2.2.2.2.2.2.2.2.2.2.2.2.2.2.2.2.2.2.2.1 v.2.2.2.2.2.2.2.2.2.2.2.2.2.2.2.2.2.2.2.2.2.2.2.2.2.2.2.2.1 v.2.2.2.2.2.2.2.2.2.2.2.2.2.2.2.2.2.2.2.2.2.2.2.2.2.2.2.2.2.1 v.2.2.2.2.2.2.2.2.2.2.2.2.2.2.2.2.2.2.2.2.2.2.2.2.2.2.2.2.2.2.1 v.2.2.2.2.2.2.2.2.2.2.2.2.2.2.2.2.2.2.2.2.2.2.2.2.2.2.2.2.2.2.2.1 v.2.2.2.2.2.2.2.2.2.2.2.2.2.2.2.2.2.2.2.2.2.2.2.2.2.2.2.2.2.2.2.2.1 v.2.2.2.2.2.2.2.2.2.2.2.2.2.2.2.2.2.2.2.2.2.2.2.2.2.2.2.2.2.2.2.2.2.1 v.2.2.2.2.2.2.2.2.2.2.2.2.2.2.2.2.2.2.2.2.2.2.2.2.2.2.2.2.2.2.2.2.2.2) := by
  intro d
  induction d with
  | zero =>
    intro K u v i nw R
    apply R
    intro N cap Q CS cc now tc kn fl op oa ob oc st gn lr rg pc tr wt dl mc mk mf mv lm mon par ce ct ca sg mx wd cn cl rc rk tp tv wa dy kd rs lk cel trd ms cnt I nf _ _ hi
    obtain rfl : i = td := hi
    have hN : N ≤ 8 := I.1.2.1
    have ec : am_cn (fun s => decide (st s = 1 ∧ wa s = 0)) N = am_cn (fun s => decide (st s = 1 ∧ wt s = 0)) N := am_cn_congr fun s hs => by
      refine decide_eq_decide.mpr ⟨fun z => ⟨z.1, ?_⟩, fun z => ⟨z.1, ?_⟩⟩
      · rcases I.2.2.2.2.2.2.1 s (by omega) z.1 with w | w | w
        · exact w.1
        · rw [z.2] at w; exact absurd w.2.1 (by decide)
        · rw [z.2] at w; exact absurd w.2.1 (by decide)
      · rcases I.2.2.2.2.2.2.1 s (by omega) z.1 with w | w | w
        · exact w.2
        · rw [z.2] at w; exact absurd w.1 (by decide)
        · rw [z.2] at w; exact absurd w.1 (by decide)
    refine ⟨nI (am_cn (fun s => decide (st s = 1 ∧ wt s = 0)) N), K, _, _, am_Ri I, nf, fun post n hn p => ?_, fun post n hn p => ?_⟩
    · obtain ⟨m, rfl⟩ : ∃ m, n = m + 1 := ⟨n - 1, by omega⟩
      exact br_t (Int32.le_refl _) ⟨N + 1, xu_98 hN p N 0 (N + 1) (by omega) (by omega)⟩
    · obtain ⟨m, rfl⟩ : ∃ m, n = m + 1 := ⟨n - 1, by omega⟩
      rw [← ec] at p
      exact br_t (Int32.le_refl _) ⟨N + 1, yu_100 hN p N 0 (N + 1) (by omega) (by omega)⟩
  | succ d ih =>
    intro K u v i nw R
    apply R
    intro N cap Q CS cc now tc kn fl op oa ob oc st gn lr rg pc tr wt dl mc mk mf mv lm mon par ce ct ca sg mx wd cn cl rc rk tp tv wa dy kd rs lk cel trd ms cnt I nf en hw hi
    have hN : N ≤ 8 := I.1.2.1
    have hn0 : now ≤ 1000 := I.1.2.2.2.2.2.2.2.2.2.1
    have : now = nw := am_im en (by omega) (by omega)
    subst this
    have I' := nw_I I (by omega)
    obtain ⟨K1, u1, v1, R1, a1, a2, aX, aY⟩ := rn_slots hN N K _ _ 0 (am_Ri I') nf rfl (by omega)
    obtain ⟨r, K', u', v', R', b1, bX, bY⟩ := ih K1 u1 v1 (i + 1) (now + 1) R1 a1 a2.1.2.2 (by omega) (by omega)
    refine ⟨r, K', u', v', R', b1, fun post n hn p => ?_, fun post n hn p => ?_⟩
    · obtain ⟨m, rfl⟩ : ∃ m, n = m + 1 := ⟨n - 1, by omega⟩
      exact br_f (nI_ge (by omega) (by omega)) (nm_r (nI_1 now) ⟨N + 1, aX post _ _ _ (N + 1) (by omega) (nm_r (nI_1 i) (bX post m (by omega) p))⟩)
    · obtain ⟨m, rfl⟩ : ∃ m, n = m + 1 := ⟨n - 1, by omega⟩
      exact br_f (nI_ge (by omega) (by omega)) (nm_r (nI_1 now) ⟨N + 1, aY post _ _ _ _ (N + 1) (by omega) (nm_r (nI_1 i) (bY post m (by omega) p))⟩)
section R3
variable {N cap Q CS cc now tc kn : Nat} {fl : Int32} {op oa ob oc st gn lr rg pc tr wt dl mc mk mf mv lm mon par ce ct ca sg mx wd cn cl rc rk tp tv wa dy kd rs lk cel trd : Nat → Int32} {ms cnt : Nat → Int64}
theorem rn_run {K : List Nat} {x : Int32} (I : am_I K N cap Q CS cc now tc kn fl op oa ob oc st gn lr rg pc tr wt dl mc mk mf mv lm mon par ce ct ca sg mx wd cn cl rc rk tp tv wa dy kd rs lk cel trd ms cnt) (nf : ∀ j, j < 8 → ¬ st j = 3) : ∃ (r : Int32) (K' : List Nat) (u' : SX) (v' : SY), am_R K' u' v' ∧ (∀ j, j < 8 → ¬ xSt u' j = 3) ∧ (∀ post : Int32 → SX → Prop, post r u' → wpX_run post (fl, nI N, nI cap, nI Q, nI CS, nI cc, nI now, nI tc, op, oa, ob, oc, st, gn, lr, rg, pc, tr, wt, dl, mc, mk, mf, mv, ms, lm, mon, par, ce, ct, ca, sg, mx, wd, cn, cl, rc, rk, tp, tv, cnt) x) ∧ (∀ post : Int32 → SY → Prop, post r v' → wpY_run post (nI N, nI cap, nI Q, nI CS, nI now, nI cc, nI tc, nI kn, st, gn, lr, pc, wa, dy, tr, par, ce, ct, ca, kd, sg, mx, wd, rs, rg, mon, lk, mc, mk, mf, mv, ms, cel, trd, cnt) x) := by
  have hn : now ≤ 1000 := I.1.2.2.2.2.2.2.2.2.2.1
  have G : ∀ td, td ≤ 32 → ∃ (r : Int32) (K' : List Nat) (u' : SX) (v' : SY), am_R K' u' v' ∧ (∀ j, j < 8 → ¬ xSt u' j = 3) ∧ (∀ post : Int32 → SX → Prop, post r u' → wX_run_19 post (nI td) fl (nI N) (nI cap) (nI Q) (nI CS) (nI cc) (nI now) (nI tc) op oa ob oc st gn lr rg pc tr wt dl mc mk mf mv ms lm mon par ce ct ca sg mx wd cn cl rc rk tp tv cnt) ∧ (∀ post : Int32 → SY → Prop, post r v' → wY_run_19 post (nI td) (nI N) (nI cap) (nI Q) (nI CS) (nI now) (nI cc) (nI tc) (nI kn) st gn lr pc wa dy tr par ce ct ca kd sg mx wd rs rg mon lk mc mk mf mv ms cel trd cnt) := fun td ht => by
    by_cases c : now + td ≤ 1000
    · obtain ⟨r, K', u', v', R', b1, bX, bY⟩ := rn_rounds ht td K _ _ 0 now (am_Ri I) nf rfl c (by omega)
      refine ⟨r, K', u', v', R', b1, fun post p => ?_, fun post p => ?_⟩
      · unfold wX_run_19
        rw [nI_add]
        exact br_t (nI_le (b := 1000) c (by omega)) ⟨td + 1, bX post (td + 1) (by omega) p⟩
      · unfold wY_run_19
        rw [nI_add]
        exact br_t (nI_le (b := 1000) c (by omega)) ⟨td + 1, bY post (td + 1) (by omega) p⟩
    · refine ⟨-4, K, _, _, am_Ri I, nf, fun post p => ?_, fun post p => ?_⟩
      · unfold wX_run_19
        rw [nI_add]
        exact br_f (nI_ge (a := 1000) (by omega) (by omega)) p
      · unfold wY_run_19
        rw [nI_add]
        exact br_f (nI_ge (a := 1000) (by omega) (by omega)) p
  by_cases c : (1 : Int32) ≤ x
  · by_cases c2 : x ≤ 32
    · obtain ⟨j, hj, rfl⟩ := nI_of2 (M := 32) (n := 32) (by decide) (Int32.not_lt.mpr (Int32.le_trans (by decide) c)) c2
      obtain ⟨r, K', u', v', R', b1, bX, bY⟩ := G j hj
      exact ⟨r, K', u', v', R', b1, fun post p => br_t c (br_t c2 (bX post p)), fun post p => br_t c (br_t c2 (bY post p))⟩
    · obtain ⟨r, K', u', v', R', b1, bX, bY⟩ := G 32 (by omega)
      exact ⟨r, K', u', v', R', b1, fun post p => br_t c (br_f c2 (bX post p)), fun post p => br_t c (br_f c2 (bY post p))⟩
  · exact ⟨0, K, _, _, am_Ri I, nf, fun post p => br_f c p, fun post p => br_f c p⟩
end R3
end
section
/-! 35: emit (printed by genemit.py) -/
theorem am_nlt {x y : Int32} (h : ¬ x < y) : y ≤ x := Int32.not_lt.mp h
theorem am_01 {y : Int32} : (0 ≤ y ∧ y ≤ 1) ↔ (y = 0 ∨ y = 1) := by
  rw [Int32.le_iff_toInt_le, Int32.le_iff_toInt_le, ← Int32.toInt_inj, ← Int32.toInt_inj]
  have h0 : (0 : Int32).toInt = 0 := by decide
  have h1 : (1 : Int32).toInt = 1 := by decide
  rw [h0, h1]
  omega
section EM
variable {N cap Q CS cc now tc kn : Nat} {fl : Int32} {op oa ob oc st gn lr rg pc tr wt dl mc mk mf mv lm mon par ce ct ca sg mx wd cn cl rc rk tp tv wa dy kd rs lk cel trd : Nat → Int32} {ms cnt : Nat → Int64}
theorem yv_out {F : Int32 → Prop} {x lo hi : Int32} (h1 : lo ≤ x ∧ x ≤ hi → F 0) (h0 : ¬ (lo ≤ x ∧ x ≤ hi) → F 1) : wpY_out F (nI N, nI cap, nI Q, nI CS, nI now, nI cc, nI tc, nI kn, st, gn, lr, pc, wa, dy, tr, par, ce, ct, ca, kd, sg, mx, wd, rs, rg, mon, lk, mc, mk, mf, mv, ms, cel, trd, cnt) x lo hi := by
  unfold wpY_out
  refine br_c (fun q => h0 fun z => absurd q (Int32.not_lt.mpr z.1)) (fun q => br_c (fun q2 => h1 ⟨am_nlt q, q2⟩) (fun q2 => h0 fun z => q2 z.2))

theorem ex_0 {post : Int32 → SX → Prop} {a : Nat} {y z : Int32} (ha : a ≤ 7) (hv : (True) → wX_emit_57 post 0 (nI a) y z fl (nI N) (nI cap) (nI Q) (nI CS) (nI cc) (nI now) (nI tc) op oa ob oc st gn lr rg pc tr wt dl mc mk mf mv ms lm mon par ce ct ca sg mx wd cn cl rc rk tp tv cnt) (hb : ¬ (True) → post (-3) (fl, nI N, nI cap, nI Q, nI CS, nI cc, nI now, nI tc, op, oa, ob, oc, st, gn, lr, rg, pc, tr, wt, dl, mc, mk, mf, mv, ms, lm, mon, par, ce, ct, ca, sg, mx, wd, cn, cl, rc, rk, tp, tv, cnt)) : wpX_emit post (fl, nI N, nI cap, nI Q, nI CS, nI cc, nI now, nI tc, op, oa, ob, oc, st, gn, lr, rg, pc, tr, wt, dl, mc, mk, mf, mv, ms, lm, mon, par, ce, ct, ca, sg, mx, wd, cn, cl, rc, rk, tp, tv, cnt) 0 (nI a) y z := by
  refine br_f (by decide) (br_f (by decide) (br_f (nI_pos (by omega)) (br_t (nI_le (b := 7) ha (by omega)) ?_)))
  unfold wpX_goodB
  exact br_t (by decide) (br_f am_10 (br_f (by decide) (hv trivial)))
theorem ey_0 {post : Int32 → SY → Prop} {a : Nat} {y z : Int32} (ha : a ≤ 7) (hv : (True) → wY_emit_144 post 0 (nI a) y z (nI N) (nI cap) (nI Q) (nI CS) (nI now) (nI cc) (nI tc) (nI kn) st gn lr pc wa dy tr par ce ct ca kd sg mx wd rs rg mon lk mc mk mf mv ms cel trd cnt) (hb : ¬ (True) → post (-3) (nI N, nI cap, nI Q, nI CS, nI now, nI cc, nI tc, nI kn, st, gn, lr, pc, wa, dy, tr, par, ce, ct, ca, kd, sg, mx, wd, rs, rg, mon, lk, mc, mk, mf, mv, ms, cel, trd, cnt)) : wpY_emit post (nI N, nI cap, nI Q, nI CS, nI now, nI cc, nI tc, nI kn, st, gn, lr, pc, wa, dy, tr, par, ce, ct, ca, kd, sg, mx, wd, rs, rg, mon, lk, mc, mk, mf, mv, ms, cel, trd, cnt) 0 (nI a) y z := by
  unfold wpY_emit
  refine br_f (by decide) (br_t (by decide) (br_t rfl ?_))
  refine br_f (nI_pos (by omega)) (br_t (nI_le (b := 7) ha (by omega)) (br_t rfl ?_))
  exact br_t (by decide) (br_f (by decide) (br_f (by decide) (br_t (by decide) (br_f (by decide) (br_f (by decide) (br_f (by decide) (hv trivial)))))))
theorem ex_1 {post : Int32 → SX → Prop} {a : Nat} {y z : Int32} (ha : a ≤ 7) (hv : (0 ≤ y ∧ y ≤ 7) → wX_emit_57 post 1 (nI a) y z fl (nI N) (nI cap) (nI Q) (nI CS) (nI cc) (nI now) (nI tc) op oa ob oc st gn lr rg pc tr wt dl mc mk mf mv ms lm mon par ce ct ca sg mx wd cn cl rc rk tp tv cnt) (hb : ¬ (0 ≤ y ∧ y ≤ 7) → post (-3) (fl, nI N, nI cap, nI Q, nI CS, nI cc, nI now, nI tc, op, oa, ob, oc, st, gn, lr, rg, pc, tr, wt, dl, mc, mk, mf, mv, ms, lm, mon, par, ce, ct, ca, sg, mx, wd, cn, cl, rc, rk, tp, tv, cnt)) : wpX_emit post (fl, nI N, nI cap, nI Q, nI CS, nI cc, nI now, nI tc, op, oa, ob, oc, st, gn, lr, rg, pc, tr, wt, dl, mc, mk, mf, mv, ms, lm, mon, par, ce, ct, ca, sg, mx, wd, cn, cl, rc, rk, tp, tv, cnt) 1 (nI a) y z := by
  refine br_f (by decide) (br_f (by decide) (br_f (nI_pos (by omega)) (br_t (nI_le (b := 7) ha (by omega)) ?_)))
  unfold wpX_goodB
  exact br_f (by decide) (br_f (by decide) (br_t rfl (br_c (fun q => br_t rfl (hb fun w => absurd q (Int32.not_lt.mpr w.1))) (fun q => br_c (fun q2 => br_t rfl (hb fun w => absurd q2 (Int32.not_lt.mpr w.2))) (fun q2 => br_f am_10 (br_f (by decide) (hv ⟨am_nlt q, am_nlt q2⟩)))))))
theorem ey_1 {post : Int32 → SY → Prop} {a : Nat} {y z : Int32} (ha : a ≤ 7) (hv : (0 ≤ y ∧ y ≤ 7) → wY_emit_144 post 1 (nI a) y z (nI N) (nI cap) (nI Q) (nI CS) (nI now) (nI cc) (nI tc) (nI kn) st gn lr pc wa dy tr par ce ct ca kd sg mx wd rs rg mon lk mc mk mf mv ms cel trd cnt) (hb : ¬ (0 ≤ y ∧ y ≤ 7) → post (-3) (nI N, nI cap, nI Q, nI CS, nI now, nI cc, nI tc, nI kn, st, gn, lr, pc, wa, dy, tr, par, ce, ct, ca, kd, sg, mx, wd, rs, rg, mon, lk, mc, mk, mf, mv, ms, cel, trd, cnt)) : wpY_emit post (nI N, nI cap, nI Q, nI CS, nI now, nI cc, nI tc, nI kn, st, gn, lr, pc, wa, dy, tr, par, ce, ct, ca, kd, sg, mx, wd, rs, rg, mon, lk, mc, mk, mf, mv, ms, cel, trd, cnt) 1 (nI a) y z := by
  unfold wpY_emit
  refine br_f (by decide) (br_t (by decide) (br_t rfl ?_))
  refine br_f (nI_pos (by omega)) (br_t (nI_le (b := 7) ha (by omega)) (br_t rfl ?_))
  exact br_f (by decide) (br_t (by decide) (yv_out (fun w => br_t rfl (br_t (by decide) (br_f (by decide) (br_f (by decide) (br_f (by decide) (hv w)))))) (fun w => br_f am_10 (hb w))))
theorem ex_2 {post : Int32 → SX → Prop} {a : Nat} {y z : Int32} (ha : a ≤ 7) (hv : (0 ≤ y ∧ y ≤ 7) → wX_emit_57 post 2 (nI a) y z fl (nI N) (nI cap) (nI Q) (nI CS) (nI cc) (nI now) (nI tc) op oa ob oc st gn lr rg pc tr wt dl mc mk mf mv ms lm mon par ce ct ca sg mx wd cn cl rc rk tp tv cnt) (hb : ¬ (0 ≤ y ∧ y ≤ 7) → post (-3) (fl, nI N, nI cap, nI Q, nI CS, nI cc, nI now, nI tc, op, oa, ob, oc, st, gn, lr, rg, pc, tr, wt, dl, mc, mk, mf, mv, ms, lm, mon, par, ce, ct, ca, sg, mx, wd, cn, cl, rc, rk, tp, tv, cnt)) : wpX_emit post (fl, nI N, nI cap, nI Q, nI CS, nI cc, nI now, nI tc, op, oa, ob, oc, st, gn, lr, rg, pc, tr, wt, dl, mc, mk, mf, mv, ms, lm, mon, par, ce, ct, ca, sg, mx, wd, cn, cl, rc, rk, tp, tv, cnt) 2 (nI a) y z := by
  refine br_f (by decide) (br_f (by decide) (br_f (nI_pos (by omega)) (br_t (nI_le (b := 7) ha (by omega)) ?_)))
  unfold wpX_goodB
  exact br_f (by decide) (br_f (by decide) (br_f (by decide) (br_t rfl (br_c (fun q => br_t rfl (hb fun w => absurd q (Int32.not_lt.mpr w.1))) (fun q => br_c (fun q2 => br_t rfl (hb fun w => absurd q2 (Int32.not_lt.mpr w.2))) (fun q2 => br_f am_10 (br_f (by decide) (hv ⟨am_nlt q, am_nlt q2⟩))))))))
theorem ey_2 {post : Int32 → SY → Prop} {a : Nat} {y z : Int32} (ha : a ≤ 7) (hv : (0 ≤ y ∧ y ≤ 7) → wY_emit_144 post 2 (nI a) y z (nI N) (nI cap) (nI Q) (nI CS) (nI now) (nI cc) (nI tc) (nI kn) st gn lr pc wa dy tr par ce ct ca kd sg mx wd rs rg mon lk mc mk mf mv ms cel trd cnt) (hb : ¬ (0 ≤ y ∧ y ≤ 7) → post (-3) (nI N, nI cap, nI Q, nI CS, nI now, nI cc, nI tc, nI kn, st, gn, lr, pc, wa, dy, tr, par, ce, ct, ca, kd, sg, mx, wd, rs, rg, mon, lk, mc, mk, mf, mv, ms, cel, trd, cnt)) : wpY_emit post (nI N, nI cap, nI Q, nI CS, nI now, nI cc, nI tc, nI kn, st, gn, lr, pc, wa, dy, tr, par, ce, ct, ca, kd, sg, mx, wd, rs, rg, mon, lk, mc, mk, mf, mv, ms, cel, trd, cnt) 2 (nI a) y z := by
  unfold wpY_emit
  refine br_f (by decide) (br_t (by decide) (br_t rfl ?_))
  refine br_f (nI_pos (by omega)) (br_t (nI_le (b := 7) ha (by omega)) (br_t rfl ?_))
  exact br_f (by decide) (br_t (by decide) (yv_out (fun w => br_t rfl (br_t (by decide) (br_f (by decide) (br_f (by decide) (br_f (by decide) (hv w)))))) (fun w => br_f am_10 (hb w))))
theorem ex_3 {post : Int32 → SX → Prop} {a : Nat} {y z : Int32} (ha : a ≤ 7) (hv : (0 ≤ y ∧ y ≤ 7) → wX_emit_57 post 3 (nI a) y z fl (nI N) (nI cap) (nI Q) (nI CS) (nI cc) (nI now) (nI tc) op oa ob oc st gn lr rg pc tr wt dl mc mk mf mv ms lm mon par ce ct ca sg mx wd cn cl rc rk tp tv cnt) (hb : ¬ (0 ≤ y ∧ y ≤ 7) → post (-3) (fl, nI N, nI cap, nI Q, nI CS, nI cc, nI now, nI tc, op, oa, ob, oc, st, gn, lr, rg, pc, tr, wt, dl, mc, mk, mf, mv, ms, lm, mon, par, ce, ct, ca, sg, mx, wd, cn, cl, rc, rk, tp, tv, cnt)) : wpX_emit post (fl, nI N, nI cap, nI Q, nI CS, nI cc, nI now, nI tc, op, oa, ob, oc, st, gn, lr, rg, pc, tr, wt, dl, mc, mk, mf, mv, ms, lm, mon, par, ce, ct, ca, sg, mx, wd, cn, cl, rc, rk, tp, tv, cnt) 3 (nI a) y z := by
  refine br_f (by decide) (br_f (by decide) (br_f (nI_pos (by omega)) (br_t (nI_le (b := 7) ha (by omega)) ?_)))
  unfold wpX_goodB
  exact br_f (by decide) (br_f (by decide) (br_f (by decide) (br_f (by decide) (br_t rfl (br_c (fun q => br_t rfl (hb fun w => absurd q (Int32.not_lt.mpr w.1))) (fun q => br_c (fun q2 => br_t rfl (hb fun w => absurd q2 (Int32.not_lt.mpr w.2))) (fun q2 => br_f am_10 (br_f (by decide) (hv ⟨am_nlt q, am_nlt q2⟩)))))))))
theorem ey_3 {post : Int32 → SY → Prop} {a : Nat} {y z : Int32} (ha : a ≤ 7) (hv : (0 ≤ y ∧ y ≤ 7) → wY_emit_144 post 3 (nI a) y z (nI N) (nI cap) (nI Q) (nI CS) (nI now) (nI cc) (nI tc) (nI kn) st gn lr pc wa dy tr par ce ct ca kd sg mx wd rs rg mon lk mc mk mf mv ms cel trd cnt) (hb : ¬ (0 ≤ y ∧ y ≤ 7) → post (-3) (nI N, nI cap, nI Q, nI CS, nI now, nI cc, nI tc, nI kn, st, gn, lr, pc, wa, dy, tr, par, ce, ct, ca, kd, sg, mx, wd, rs, rg, mon, lk, mc, mk, mf, mv, ms, cel, trd, cnt)) : wpY_emit post (nI N, nI cap, nI Q, nI CS, nI now, nI cc, nI tc, nI kn, st, gn, lr, pc, wa, dy, tr, par, ce, ct, ca, kd, sg, mx, wd, rs, rg, mon, lk, mc, mk, mf, mv, ms, cel, trd, cnt) 3 (nI a) y z := by
  unfold wpY_emit
  refine br_f (by decide) (br_t (by decide) (br_t rfl ?_))
  refine br_f (nI_pos (by omega)) (br_t (nI_le (b := 7) ha (by omega)) (br_t rfl ?_))
  exact br_f (by decide) (br_t (by decide) (yv_out (fun w => br_t rfl (br_t (by decide) (br_f (by decide) (br_f (by decide) (br_f (by decide) (hv w)))))) (fun w => br_f am_10 (hb w))))
theorem ex_4 {post : Int32 → SX → Prop} {a : Nat} {y z : Int32} (ha : a ≤ 7) (hv : (0 ≤ y ∧ y ≤ 7) → wX_emit_57 post 4 (nI a) y z fl (nI N) (nI cap) (nI Q) (nI CS) (nI cc) (nI now) (nI tc) op oa ob oc st gn lr rg pc tr wt dl mc mk mf mv ms lm mon par ce ct ca sg mx wd cn cl rc rk tp tv cnt) (hb : ¬ (0 ≤ y ∧ y ≤ 7) → post (-3) (fl, nI N, nI cap, nI Q, nI CS, nI cc, nI now, nI tc, op, oa, ob, oc, st, gn, lr, rg, pc, tr, wt, dl, mc, mk, mf, mv, ms, lm, mon, par, ce, ct, ca, sg, mx, wd, cn, cl, rc, rk, tp, tv, cnt)) : wpX_emit post (fl, nI N, nI cap, nI Q, nI CS, nI cc, nI now, nI tc, op, oa, ob, oc, st, gn, lr, rg, pc, tr, wt, dl, mc, mk, mf, mv, ms, lm, mon, par, ce, ct, ca, sg, mx, wd, cn, cl, rc, rk, tp, tv, cnt) 4 (nI a) y z := by
  refine br_f (by decide) (br_f (by decide) (br_f (nI_pos (by omega)) (br_t (nI_le (b := 7) ha (by omega)) ?_)))
  unfold wpX_goodB
  exact br_f (by decide) (br_f (by decide) (br_f (by decide) (br_f (by decide) (br_f (by decide) (br_t rfl (br_c (fun q => br_t rfl (hb fun w => absurd q (Int32.not_lt.mpr w.1))) (fun q => br_c (fun q2 => br_t rfl (hb fun w => absurd q2 (Int32.not_lt.mpr w.2))) (fun q2 => br_f am_10 (br_f (by decide) (hv ⟨am_nlt q, am_nlt q2⟩))))))))))
theorem ey_4 {post : Int32 → SY → Prop} {a : Nat} {y z : Int32} (ha : a ≤ 7) (hv : (0 ≤ y ∧ y ≤ 7) → wY_emit_144 post 4 (nI a) y z (nI N) (nI cap) (nI Q) (nI CS) (nI now) (nI cc) (nI tc) (nI kn) st gn lr pc wa dy tr par ce ct ca kd sg mx wd rs rg mon lk mc mk mf mv ms cel trd cnt) (hb : ¬ (0 ≤ y ∧ y ≤ 7) → post (-3) (nI N, nI cap, nI Q, nI CS, nI now, nI cc, nI tc, nI kn, st, gn, lr, pc, wa, dy, tr, par, ce, ct, ca, kd, sg, mx, wd, rs, rg, mon, lk, mc, mk, mf, mv, ms, cel, trd, cnt)) : wpY_emit post (nI N, nI cap, nI Q, nI CS, nI now, nI cc, nI tc, nI kn, st, gn, lr, pc, wa, dy, tr, par, ce, ct, ca, kd, sg, mx, wd, rs, rg, mon, lk, mc, mk, mf, mv, ms, cel, trd, cnt) 4 (nI a) y z := by
  unfold wpY_emit
  refine br_f (by decide) (br_t (by decide) (br_t rfl ?_))
  refine br_f (nI_pos (by omega)) (br_t (nI_le (b := 7) ha (by omega)) (br_t rfl ?_))
  exact br_f (by decide) (br_t (by decide) (yv_out (fun w => br_t rfl (br_t (by decide) (br_f (by decide) (br_f (by decide) (br_f (by decide) (hv w)))))) (fun w => br_f am_10 (hb w))))
theorem ex_5 {post : Int32 → SX → Prop} {a : Nat} {y z : Int32} (ha : a ≤ 7) (hv : (0 ≤ y ∧ y ≤ 7) → wX_emit_57 post 5 (nI a) y z fl (nI N) (nI cap) (nI Q) (nI CS) (nI cc) (nI now) (nI tc) op oa ob oc st gn lr rg pc tr wt dl mc mk mf mv ms lm mon par ce ct ca sg mx wd cn cl rc rk tp tv cnt) (hb : ¬ (0 ≤ y ∧ y ≤ 7) → post (-3) (fl, nI N, nI cap, nI Q, nI CS, nI cc, nI now, nI tc, op, oa, ob, oc, st, gn, lr, rg, pc, tr, wt, dl, mc, mk, mf, mv, ms, lm, mon, par, ce, ct, ca, sg, mx, wd, cn, cl, rc, rk, tp, tv, cnt)) : wpX_emit post (fl, nI N, nI cap, nI Q, nI CS, nI cc, nI now, nI tc, op, oa, ob, oc, st, gn, lr, rg, pc, tr, wt, dl, mc, mk, mf, mv, ms, lm, mon, par, ce, ct, ca, sg, mx, wd, cn, cl, rc, rk, tp, tv, cnt) 5 (nI a) y z := by
  refine br_f (by decide) (br_f (by decide) (br_f (nI_pos (by omega)) (br_t (nI_le (b := 7) ha (by omega)) ?_)))
  unfold wpX_goodB
  exact br_f (by decide) (br_f (by decide) (br_f (by decide) (br_f (by decide) (br_f (by decide) (br_f (by decide) (br_t rfl (br_c (fun q => br_t rfl (hb fun w => absurd q (Int32.not_lt.mpr w.1))) (fun q => br_c (fun q2 => br_t rfl (hb fun w => absurd q2 (Int32.not_lt.mpr w.2))) (fun q2 => br_f am_10 (br_f (by decide) (hv ⟨am_nlt q, am_nlt q2⟩)))))))))))
theorem ey_5 {post : Int32 → SY → Prop} {a : Nat} {y z : Int32} (ha : a ≤ 7) (hv : (0 ≤ y ∧ y ≤ 7) → wY_emit_144 post 5 (nI a) y z (nI N) (nI cap) (nI Q) (nI CS) (nI now) (nI cc) (nI tc) (nI kn) st gn lr pc wa dy tr par ce ct ca kd sg mx wd rs rg mon lk mc mk mf mv ms cel trd cnt) (hb : ¬ (0 ≤ y ∧ y ≤ 7) → post (-3) (nI N, nI cap, nI Q, nI CS, nI now, nI cc, nI tc, nI kn, st, gn, lr, pc, wa, dy, tr, par, ce, ct, ca, kd, sg, mx, wd, rs, rg, mon, lk, mc, mk, mf, mv, ms, cel, trd, cnt)) : wpY_emit post (nI N, nI cap, nI Q, nI CS, nI now, nI cc, nI tc, nI kn, st, gn, lr, pc, wa, dy, tr, par, ce, ct, ca, kd, sg, mx, wd, rs, rg, mon, lk, mc, mk, mf, mv, ms, cel, trd, cnt) 5 (nI a) y z := by
  unfold wpY_emit
  refine br_f (by decide) (br_t (by decide) (br_t rfl ?_))
  refine br_f (nI_pos (by omega)) (br_t (nI_le (b := 7) ha (by omega)) (br_t rfl ?_))
  exact br_f (by decide) (br_t (by decide) (yv_out (fun w => br_t rfl (br_t (by decide) (br_f (by decide) (br_f (by decide) (br_f (by decide) (hv w)))))) (fun w => br_f am_10 (hb w))))
theorem ex_6 {post : Int32 → SX → Prop} {a : Nat} {y z : Int32} (ha : a ≤ 7) (hv : (0 ≤ y ∧ y ≤ 63) → wX_emit_57 post 6 (nI a) y z fl (nI N) (nI cap) (nI Q) (nI CS) (nI cc) (nI now) (nI tc) op oa ob oc st gn lr rg pc tr wt dl mc mk mf mv ms lm mon par ce ct ca sg mx wd cn cl rc rk tp tv cnt) (hb : ¬ (0 ≤ y ∧ y ≤ 63) → post (-3) (fl, nI N, nI cap, nI Q, nI CS, nI cc, nI now, nI tc, op, oa, ob, oc, st, gn, lr, rg, pc, tr, wt, dl, mc, mk, mf, mv, ms, lm, mon, par, ce, ct, ca, sg, mx, wd, cn, cl, rc, rk, tp, tv, cnt)) : wpX_emit post (fl, nI N, nI cap, nI Q, nI CS, nI cc, nI now, nI tc, op, oa, ob, oc, st, gn, lr, rg, pc, tr, wt, dl, mc, mk, mf, mv, ms, lm, mon, par, ce, ct, ca, sg, mx, wd, cn, cl, rc, rk, tp, tv, cnt) 6 (nI a) y z := by
  refine br_f (by decide) (br_f (by decide) (br_f (nI_pos (by omega)) (br_t (nI_le (b := 7) ha (by omega)) ?_)))
  unfold wpX_goodB
  exact br_f (by decide) (br_f (by decide) (br_f (by decide) (br_f (by decide) (br_f (by decide) (br_f (by decide) (br_f (by decide) (br_t rfl (br_c (fun q => br_t rfl (hb fun w => absurd q (Int32.not_lt.mpr w.1))) (fun q => br_c (fun q2 => br_t rfl (hb fun w => absurd q2 (Int32.not_lt.mpr w.2))) (fun q2 => br_f am_10 (br_f (by decide) (hv ⟨am_nlt q, am_nlt q2⟩))))))))))))
theorem ey_6 {post : Int32 → SY → Prop} {a : Nat} {y z : Int32} (ha : a ≤ 7) (hv : (0 ≤ y ∧ y ≤ 63) → wY_emit_144 post 6 (nI a) y z (nI N) (nI cap) (nI Q) (nI CS) (nI now) (nI cc) (nI tc) (nI kn) st gn lr pc wa dy tr par ce ct ca kd sg mx wd rs rg mon lk mc mk mf mv ms cel trd cnt) (hb : ¬ (0 ≤ y ∧ y ≤ 63) → post (-3) (nI N, nI cap, nI Q, nI CS, nI now, nI cc, nI tc, nI kn, st, gn, lr, pc, wa, dy, tr, par, ce, ct, ca, kd, sg, mx, wd, rs, rg, mon, lk, mc, mk, mf, mv, ms, cel, trd, cnt)) : wpY_emit post (nI N, nI cap, nI Q, nI CS, nI now, nI cc, nI tc, nI kn, st, gn, lr, pc, wa, dy, tr, par, ce, ct, ca, kd, sg, mx, wd, rs, rg, mon, lk, mc, mk, mf, mv, ms, cel, trd, cnt) 6 (nI a) y z := by
  unfold wpY_emit
  refine br_f (by decide) (br_t (by decide) (br_t rfl ?_))
  refine br_f (nI_pos (by omega)) (br_t (nI_le (b := 7) ha (by omega)) (br_t rfl ?_))
  exact br_f (by decide) (br_f (by decide) (br_f (by decide) (br_f (by decide) (br_f (by decide) (br_t (by decide) (yv_out (fun w => br_t rfl (br_f (by decide) (br_f (by decide) (hv w)))) (fun w => br_f am_10 (hb w))))))))
theorem ex_7 {post : Int32 → SX → Prop} {a : Nat} {y z : Int32} (ha : a ≤ 7) (hv : (0 ≤ y ∧ y ≤ 63) → wX_emit_57 post 7 (nI a) y z fl (nI N) (nI cap) (nI Q) (nI CS) (nI cc) (nI now) (nI tc) op oa ob oc st gn lr rg pc tr wt dl mc mk mf mv ms lm mon par ce ct ca sg mx wd cn cl rc rk tp tv cnt) (hb : ¬ (0 ≤ y ∧ y ≤ 63) → post (-3) (fl, nI N, nI cap, nI Q, nI CS, nI cc, nI now, nI tc, op, oa, ob, oc, st, gn, lr, rg, pc, tr, wt, dl, mc, mk, mf, mv, ms, lm, mon, par, ce, ct, ca, sg, mx, wd, cn, cl, rc, rk, tp, tv, cnt)) : wpX_emit post (fl, nI N, nI cap, nI Q, nI CS, nI cc, nI now, nI tc, op, oa, ob, oc, st, gn, lr, rg, pc, tr, wt, dl, mc, mk, mf, mv, ms, lm, mon, par, ce, ct, ca, sg, mx, wd, cn, cl, rc, rk, tp, tv, cnt) 7 (nI a) y z := by
  refine br_f (by decide) (br_f (by decide) (br_f (nI_pos (by omega)) (br_t (nI_le (b := 7) ha (by omega)) ?_)))
  unfold wpX_goodB
  exact br_f (by decide) (br_f (by decide) (br_f (by decide) (br_f (by decide) (br_f (by decide) (br_f (by decide) (br_f (by decide) (br_f (by decide) (br_t rfl (br_c (fun q => br_t rfl (hb fun w => absurd q (Int32.not_lt.mpr w.1))) (fun q => br_c (fun q2 => br_t rfl (hb fun w => absurd q2 (Int32.not_lt.mpr w.2))) (fun q2 => br_f am_10 (br_f (by decide) (hv ⟨am_nlt q, am_nlt q2⟩)))))))))))))
theorem ey_7 {post : Int32 → SY → Prop} {a : Nat} {y z : Int32} (ha : a ≤ 7) (hv : (0 ≤ y ∧ y ≤ 63) → wY_emit_144 post 7 (nI a) y z (nI N) (nI cap) (nI Q) (nI CS) (nI now) (nI cc) (nI tc) (nI kn) st gn lr pc wa dy tr par ce ct ca kd sg mx wd rs rg mon lk mc mk mf mv ms cel trd cnt) (hb : ¬ (0 ≤ y ∧ y ≤ 63) → post (-3) (nI N, nI cap, nI Q, nI CS, nI now, nI cc, nI tc, nI kn, st, gn, lr, pc, wa, dy, tr, par, ce, ct, ca, kd, sg, mx, wd, rs, rg, mon, lk, mc, mk, mf, mv, ms, cel, trd, cnt)) : wpY_emit post (nI N, nI cap, nI Q, nI CS, nI now, nI cc, nI tc, nI kn, st, gn, lr, pc, wa, dy, tr, par, ce, ct, ca, kd, sg, mx, wd, rs, rg, mon, lk, mc, mk, mf, mv, ms, cel, trd, cnt) 7 (nI a) y z := by
  unfold wpY_emit
  refine br_f (by decide) (br_t (by decide) (br_t rfl ?_))
  refine br_f (nI_pos (by omega)) (br_t (nI_le (b := 7) ha (by omega)) (br_t rfl ?_))
  exact br_f (by decide) (br_f (by decide) (br_f (by decide) (br_f (by decide) (br_f (by decide) (br_t (by decide) (yv_out (fun w => br_t rfl (br_f (by decide) (br_f (by decide) (hv w)))) (fun w => br_f am_10 (hb w))))))))
theorem ex_8 {post : Int32 → SX → Prop} {a : Nat} {y z : Int32} (ha : a ≤ 7) (hv : (0 ≤ y ∧ y ≤ 63) → wX_emit_57 post 8 (nI a) y z fl (nI N) (nI cap) (nI Q) (nI CS) (nI cc) (nI now) (nI tc) op oa ob oc st gn lr rg pc tr wt dl mc mk mf mv ms lm mon par ce ct ca sg mx wd cn cl rc rk tp tv cnt) (hb : ¬ (0 ≤ y ∧ y ≤ 63) → post (-3) (fl, nI N, nI cap, nI Q, nI CS, nI cc, nI now, nI tc, op, oa, ob, oc, st, gn, lr, rg, pc, tr, wt, dl, mc, mk, mf, mv, ms, lm, mon, par, ce, ct, ca, sg, mx, wd, cn, cl, rc, rk, tp, tv, cnt)) : wpX_emit post (fl, nI N, nI cap, nI Q, nI CS, nI cc, nI now, nI tc, op, oa, ob, oc, st, gn, lr, rg, pc, tr, wt, dl, mc, mk, mf, mv, ms, lm, mon, par, ce, ct, ca, sg, mx, wd, cn, cl, rc, rk, tp, tv, cnt) 8 (nI a) y z := by
  refine br_f (by decide) (br_f (by decide) (br_f (nI_pos (by omega)) (br_t (nI_le (b := 7) ha (by omega)) ?_)))
  unfold wpX_goodB
  exact br_f (by decide) (br_f (by decide) (br_f (by decide) (br_f (by decide) (br_f (by decide) (br_f (by decide) (br_f (by decide) (br_f (by decide) (br_f (by decide) (br_t rfl (br_c (fun q => br_t rfl (hb fun w => absurd q (Int32.not_lt.mpr w.1))) (fun q => br_c (fun q2 => br_t rfl (hb fun w => absurd q2 (Int32.not_lt.mpr w.2))) (fun q2 => br_f am_10 (br_f (by decide) (hv ⟨am_nlt q, am_nlt q2⟩))))))))))))))
theorem ey_8 {post : Int32 → SY → Prop} {a : Nat} {y z : Int32} (ha : a ≤ 7) (hv : (0 ≤ y ∧ y ≤ 63) → wY_emit_144 post 8 (nI a) y z (nI N) (nI cap) (nI Q) (nI CS) (nI now) (nI cc) (nI tc) (nI kn) st gn lr pc wa dy tr par ce ct ca kd sg mx wd rs rg mon lk mc mk mf mv ms cel trd cnt) (hb : ¬ (0 ≤ y ∧ y ≤ 63) → post (-3) (nI N, nI cap, nI Q, nI CS, nI now, nI cc, nI tc, nI kn, st, gn, lr, pc, wa, dy, tr, par, ce, ct, ca, kd, sg, mx, wd, rs, rg, mon, lk, mc, mk, mf, mv, ms, cel, trd, cnt)) : wpY_emit post (nI N, nI cap, nI Q, nI CS, nI now, nI cc, nI tc, nI kn, st, gn, lr, pc, wa, dy, tr, par, ce, ct, ca, kd, sg, mx, wd, rs, rg, mon, lk, mc, mk, mf, mv, ms, cel, trd, cnt) 8 (nI a) y z := by
  unfold wpY_emit
  refine br_f (by decide) (br_t (by decide) (br_t rfl ?_))
  refine br_f (nI_pos (by omega)) (br_t (nI_le (b := 7) ha (by omega)) (br_t rfl ?_))
  exact br_f (by decide) (br_f (by decide) (br_f (by decide) (br_f (by decide) (br_f (by decide) (br_t (by decide) (yv_out (fun w => br_t rfl (br_f (by decide) (br_f (by decide) (hv w)))) (fun w => br_f am_10 (hb w))))))))
theorem ex_9 {post : Int32 → SX → Prop} {a : Nat} {y z : Int32} (ha : a ≤ 7) (hv : (True) → wX_emit_57 post 9 (nI a) y z fl (nI N) (nI cap) (nI Q) (nI CS) (nI cc) (nI now) (nI tc) op oa ob oc st gn lr rg pc tr wt dl mc mk mf mv ms lm mon par ce ct ca sg mx wd cn cl rc rk tp tv cnt) (hb : ¬ (True) → post (-3) (fl, nI N, nI cap, nI Q, nI CS, nI cc, nI now, nI tc, op, oa, ob, oc, st, gn, lr, rg, pc, tr, wt, dl, mc, mk, mf, mv, ms, lm, mon, par, ce, ct, ca, sg, mx, wd, cn, cl, rc, rk, tp, tv, cnt)) : wpX_emit post (fl, nI N, nI cap, nI Q, nI CS, nI cc, nI now, nI tc, op, oa, ob, oc, st, gn, lr, rg, pc, tr, wt, dl, mc, mk, mf, mv, ms, lm, mon, par, ce, ct, ca, sg, mx, wd, cn, cl, rc, rk, tp, tv, cnt) 9 (nI a) y z := by
  refine br_f (by decide) (br_f (by decide) (br_f (nI_pos (by omega)) (br_t (nI_le (b := 7) ha (by omega)) ?_)))
  unfold wpX_goodB
  exact br_f (by decide) (br_f (by decide) (br_f (by decide) (br_f (by decide) (br_f (by decide) (br_f (by decide) (br_f (by decide) (br_f (by decide) (br_f (by decide) (br_f (by decide) (br_t rfl (br_f am_10 (br_f (by decide) (hv trivial)))))))))))))
theorem ey_9 {post : Int32 → SY → Prop} {a : Nat} {y z : Int32} (ha : a ≤ 7) (hv : (True) → wY_emit_144 post 9 (nI a) y z (nI N) (nI cap) (nI Q) (nI CS) (nI now) (nI cc) (nI tc) (nI kn) st gn lr pc wa dy tr par ce ct ca kd sg mx wd rs rg mon lk mc mk mf mv ms cel trd cnt) (hb : ¬ (True) → post (-3) (nI N, nI cap, nI Q, nI CS, nI now, nI cc, nI tc, nI kn, st, gn, lr, pc, wa, dy, tr, par, ce, ct, ca, kd, sg, mx, wd, rs, rg, mon, lk, mc, mk, mf, mv, ms, cel, trd, cnt)) : wpY_emit post (nI N, nI cap, nI Q, nI CS, nI now, nI cc, nI tc, nI kn, st, gn, lr, pc, wa, dy, tr, par, ce, ct, ca, kd, sg, mx, wd, rs, rg, mon, lk, mc, mk, mf, mv, ms, cel, trd, cnt) 9 (nI a) y z := by
  unfold wpY_emit
  refine br_f (by decide) (br_t (by decide) (br_t rfl ?_))
  refine br_f (nI_pos (by omega)) (br_t (nI_le (b := 7) ha (by omega)) (br_t rfl ?_))
  exact br_f (by decide) (br_f (by decide) (br_f (by decide) (br_f (by decide) (br_f (by decide) (br_f (by decide) (br_f (by decide) (br_f (by decide) (br_f (by decide) (hv trivial)))))))))
theorem ex_10 {post : Int32 → SX → Prop} {a : Nat} {y z : Int32} (ha : a ≤ 7) (hv : (0 ≤ y ∧ y ≤ 63) → wX_emit_57 post 10 (nI a) y z fl (nI N) (nI cap) (nI Q) (nI CS) (nI cc) (nI now) (nI tc) op oa ob oc st gn lr rg pc tr wt dl mc mk mf mv ms lm mon par ce ct ca sg mx wd cn cl rc rk tp tv cnt) (hb : ¬ (0 ≤ y ∧ y ≤ 63) → post (-3) (fl, nI N, nI cap, nI Q, nI CS, nI cc, nI now, nI tc, op, oa, ob, oc, st, gn, lr, rg, pc, tr, wt, dl, mc, mk, mf, mv, ms, lm, mon, par, ce, ct, ca, sg, mx, wd, cn, cl, rc, rk, tp, tv, cnt)) : wpX_emit post (fl, nI N, nI cap, nI Q, nI CS, nI cc, nI now, nI tc, op, oa, ob, oc, st, gn, lr, rg, pc, tr, wt, dl, mc, mk, mf, mv, ms, lm, mon, par, ce, ct, ca, sg, mx, wd, cn, cl, rc, rk, tp, tv, cnt) 10 (nI a) y z := by
  refine br_f (by decide) (br_f (by decide) (br_f (nI_pos (by omega)) (br_t (nI_le (b := 7) ha (by omega)) ?_)))
  unfold wpX_goodB
  exact br_f (by decide) (br_f (by decide) (br_f (by decide) (br_f (by decide) (br_f (by decide) (br_f (by decide) (br_f (by decide) (br_f (by decide) (br_f (by decide) (br_f (by decide) (br_f (by decide) (br_t rfl (br_c (fun q => br_t rfl (hb fun w => absurd q (Int32.not_lt.mpr w.1))) (fun q => br_c (fun q2 => br_t rfl (hb fun w => absurd q2 (Int32.not_lt.mpr w.2))) (fun q2 => br_f am_10 (br_f (by decide) (hv ⟨am_nlt q, am_nlt q2⟩))))))))))))))))
theorem ey_10 {post : Int32 → SY → Prop} {a : Nat} {y z : Int32} (ha : a ≤ 7) (hv : (0 ≤ y ∧ y ≤ 63) → wY_emit_144 post 10 (nI a) y z (nI N) (nI cap) (nI Q) (nI CS) (nI now) (nI cc) (nI tc) (nI kn) st gn lr pc wa dy tr par ce ct ca kd sg mx wd rs rg mon lk mc mk mf mv ms cel trd cnt) (hb : ¬ (0 ≤ y ∧ y ≤ 63) → post (-3) (nI N, nI cap, nI Q, nI CS, nI now, nI cc, nI tc, nI kn, st, gn, lr, pc, wa, dy, tr, par, ce, ct, ca, kd, sg, mx, wd, rs, rg, mon, lk, mc, mk, mf, mv, ms, cel, trd, cnt)) : wpY_emit post (nI N, nI cap, nI Q, nI CS, nI now, nI cc, nI tc, nI kn, st, gn, lr, pc, wa, dy, tr, par, ce, ct, ca, kd, sg, mx, wd, rs, rg, mon, lk, mc, mk, mf, mv, ms, cel, trd, cnt) 10 (nI a) y z := by
  unfold wpY_emit
  refine br_f (by decide) (br_t (by decide) (br_t rfl ?_))
  refine br_f (nI_pos (by omega)) (br_t (nI_le (b := 7) ha (by omega)) (br_t rfl ?_))
  exact br_f (by decide) (br_f (by decide) (br_f (by decide) (br_f (by decide) (br_f (by decide) (br_f (by decide) (br_t rfl (yv_out (fun w => br_t rfl (br_f (by decide) (br_f (by decide) (hv w)))) (fun w => br_f am_10 (hb w)))))))))
theorem ex_11 {post : Int32 → SX → Prop} {a : Nat} {y z : Int32} (ha : a ≤ 7) (hv : (0 ≤ y ∧ y ≤ 7) → wX_emit_57 post 11 (nI a) y z fl (nI N) (nI cap) (nI Q) (nI CS) (nI cc) (nI now) (nI tc) op oa ob oc st gn lr rg pc tr wt dl mc mk mf mv ms lm mon par ce ct ca sg mx wd cn cl rc rk tp tv cnt) (hb : ¬ (0 ≤ y ∧ y ≤ 7) → post (-3) (fl, nI N, nI cap, nI Q, nI CS, nI cc, nI now, nI tc, op, oa, ob, oc, st, gn, lr, rg, pc, tr, wt, dl, mc, mk, mf, mv, ms, lm, mon, par, ce, ct, ca, sg, mx, wd, cn, cl, rc, rk, tp, tv, cnt)) : wpX_emit post (fl, nI N, nI cap, nI Q, nI CS, nI cc, nI now, nI tc, op, oa, ob, oc, st, gn, lr, rg, pc, tr, wt, dl, mc, mk, mf, mv, ms, lm, mon, par, ce, ct, ca, sg, mx, wd, cn, cl, rc, rk, tp, tv, cnt) 11 (nI a) y z := by
  refine br_f (by decide) (br_f (by decide) (br_f (nI_pos (by omega)) (br_t (nI_le (b := 7) ha (by omega)) ?_)))
  unfold wpX_goodB
  exact br_f (by decide) (br_f (by decide) (br_f (by decide) (br_f (by decide) (br_f (by decide) (br_f (by decide) (br_f (by decide) (br_f (by decide) (br_f (by decide) (br_f (by decide) (br_f (by decide) (br_f (by decide) (br_t rfl (br_c (fun q => br_t rfl (hb fun w => absurd q (Int32.not_lt.mpr w.1))) (fun q => br_c (fun q2 => br_t rfl (hb fun w => absurd q2 (Int32.not_lt.mpr w.2))) (fun q2 => br_f am_10 (br_f (by decide) (hv ⟨am_nlt q, am_nlt q2⟩)))))))))))))))))
theorem ey_11 {post : Int32 → SY → Prop} {a : Nat} {y z : Int32} (ha : a ≤ 7) (hv : (0 ≤ y ∧ y ≤ 7) → wY_emit_144 post 11 (nI a) y z (nI N) (nI cap) (nI Q) (nI CS) (nI now) (nI cc) (nI tc) (nI kn) st gn lr pc wa dy tr par ce ct ca kd sg mx wd rs rg mon lk mc mk mf mv ms cel trd cnt) (hb : ¬ (0 ≤ y ∧ y ≤ 7) → post (-3) (nI N, nI cap, nI Q, nI CS, nI now, nI cc, nI tc, nI kn, st, gn, lr, pc, wa, dy, tr, par, ce, ct, ca, kd, sg, mx, wd, rs, rg, mon, lk, mc, mk, mf, mv, ms, cel, trd, cnt)) : wpY_emit post (nI N, nI cap, nI Q, nI CS, nI now, nI cc, nI tc, nI kn, st, gn, lr, pc, wa, dy, tr, par, ce, ct, ca, kd, sg, mx, wd, rs, rg, mon, lk, mc, mk, mf, mv, ms, cel, trd, cnt) 11 (nI a) y z := by
  unfold wpY_emit
  refine br_f (by decide) (br_t (by decide) (br_t rfl ?_))
  refine br_f (nI_pos (by omega)) (br_t (nI_le (b := 7) ha (by omega)) (br_t rfl ?_))
  exact br_f (by decide) (br_f (by decide) (br_t rfl (yv_out (fun w => br_t rfl (br_f (by decide) (br_f (by decide) (br_f (by decide) (br_f (by decide) (br_f (by decide) (hv w))))))) (fun w => br_f am_10 (hb w)))))
theorem ex_12 {post : Int32 → SX → Prop} {a : Nat} {y z : Int32} (ha : a ≤ 7) (hv : ((0 ≤ y ∧ y ≤ 6) ∧ ((-1) ≤ z ∧ z ≤ 100)) → wX_emit_57 post 12 (nI a) y z fl (nI N) (nI cap) (nI Q) (nI CS) (nI cc) (nI now) (nI tc) op oa ob oc st gn lr rg pc tr wt dl mc mk mf mv ms lm mon par ce ct ca sg mx wd cn cl rc rk tp tv cnt) (hb : ¬ ((0 ≤ y ∧ y ≤ 6) ∧ ((-1) ≤ z ∧ z ≤ 100)) → post (-3) (fl, nI N, nI cap, nI Q, nI CS, nI cc, nI now, nI tc, op, oa, ob, oc, st, gn, lr, rg, pc, tr, wt, dl, mc, mk, mf, mv, ms, lm, mon, par, ce, ct, ca, sg, mx, wd, cn, cl, rc, rk, tp, tv, cnt)) : wpX_emit post (fl, nI N, nI cap, nI Q, nI CS, nI cc, nI now, nI tc, op, oa, ob, oc, st, gn, lr, rg, pc, tr, wt, dl, mc, mk, mf, mv, ms, lm, mon, par, ce, ct, ca, sg, mx, wd, cn, cl, rc, rk, tp, tv, cnt) 12 (nI a) y z := by
  refine br_f (by decide) (br_f (by decide) (br_f (nI_pos (by omega)) (br_t (nI_le (b := 7) ha (by omega)) ?_)))
  unfold wpX_goodB
  exact br_f (by decide) (br_f (by decide) (br_f (by decide) (br_f (by decide) (br_f (by decide) (br_f (by decide) (br_f (by decide) (br_f (by decide) (br_f (by decide) (br_f (by decide) (br_f (by decide) (br_f (by decide) (br_f (by decide) (br_t rfl (br_c (fun q => br_t rfl (hb fun w => absurd q (Int32.not_lt.mpr w.1.1))) (fun q => br_c (fun q2 => br_t rfl (hb fun w => absurd q2 (Int32.not_lt.mpr w.1.2))) (fun q2 => br_f am_10 (br_t rfl (br_c (fun q3 => hb fun w => absurd q3 (Int32.not_lt.mpr w.2.1)) (fun q3 => br_c (fun q4 => hv ⟨⟨am_nlt q, am_nlt q2⟩, am_nlt q3, q4⟩) (fun q4 => hb fun w => q4 w.2.2))))))))))))))))))))
theorem ey_12 {post : Int32 → SY → Prop} {a : Nat} {y z : Int32} (ha : a ≤ 7) (hv : ((0 ≤ y ∧ y ≤ 6) ∧ ((-1) ≤ z ∧ z ≤ 100)) → wY_emit_144 post 12 (nI a) y z (nI N) (nI cap) (nI Q) (nI CS) (nI now) (nI cc) (nI tc) (nI kn) st gn lr pc wa dy tr par ce ct ca kd sg mx wd rs rg mon lk mc mk mf mv ms cel trd cnt) (hb : ¬ ((0 ≤ y ∧ y ≤ 6) ∧ ((-1) ≤ z ∧ z ≤ 100)) → post (-3) (nI N, nI cap, nI Q, nI CS, nI now, nI cc, nI tc, nI kn, st, gn, lr, pc, wa, dy, tr, par, ce, ct, ca, kd, sg, mx, wd, rs, rg, mon, lk, mc, mk, mf, mv, ms, cel, trd, cnt)) : wpY_emit post (nI N, nI cap, nI Q, nI CS, nI now, nI cc, nI tc, nI kn, st, gn, lr, pc, wa, dy, tr, par, ce, ct, ca, kd, sg, mx, wd, rs, rg, mon, lk, mc, mk, mf, mv, ms, cel, trd, cnt) 12 (nI a) y z := by
  unfold wpY_emit
  refine br_f (by decide) (br_t (by decide) (br_t rfl ?_))
  refine br_f (nI_pos (by omega)) (br_t (nI_le (b := 7) ha (by omega)) (br_t rfl ?_))
  exact br_f (by decide) (br_f (by decide) (br_f (by decide) (br_f (by decide) (br_f (by decide) (br_f (by decide) (br_f (by decide) (br_t rfl (yv_out (fun w1 => br_t rfl (yv_out (fun w2 => br_t rfl (br_f (by decide) (hv ⟨w1, w2⟩))) (fun w2 => br_f am_10 (hb fun w => w2 w.2)))) (fun w1 => br_f am_10 (hb fun w => w1 w.1))))))))))
theorem ex_13 {post : Int32 → SX → Prop} {a : Nat} {y z : Int32} (ha : a ≤ 7) (hv : (True) → wX_emit_57 post 13 (nI a) y z fl (nI N) (nI cap) (nI Q) (nI CS) (nI cc) (nI now) (nI tc) op oa ob oc st gn lr rg pc tr wt dl mc mk mf mv ms lm mon par ce ct ca sg mx wd cn cl rc rk tp tv cnt) (hb : ¬ (True) → post (-3) (fl, nI N, nI cap, nI Q, nI CS, nI cc, nI now, nI tc, op, oa, ob, oc, st, gn, lr, rg, pc, tr, wt, dl, mc, mk, mf, mv, ms, lm, mon, par, ce, ct, ca, sg, mx, wd, cn, cl, rc, rk, tp, tv, cnt)) : wpX_emit post (fl, nI N, nI cap, nI Q, nI CS, nI cc, nI now, nI tc, op, oa, ob, oc, st, gn, lr, rg, pc, tr, wt, dl, mc, mk, mf, mv, ms, lm, mon, par, ce, ct, ca, sg, mx, wd, cn, cl, rc, rk, tp, tv, cnt) 13 (nI a) y z := by
  refine br_f (by decide) (br_f (by decide) (br_f (nI_pos (by omega)) (br_t (nI_le (b := 7) ha (by omega)) ?_)))
  unfold wpX_goodB
  exact br_f (by decide) (br_f (by decide) (br_f (by decide) (br_f (by decide) (br_f (by decide) (br_f (by decide) (br_f (by decide) (br_f (by decide) (br_f (by decide) (br_f (by decide) (br_f (by decide) (br_f (by decide) (br_f (by decide) (br_f (by decide) (br_t rfl (br_f am_10 (br_f (by decide) (hv trivial)))))))))))))))))
theorem ey_13 {post : Int32 → SY → Prop} {a : Nat} {y z : Int32} (ha : a ≤ 7) (hv : (True) → wY_emit_144 post 13 (nI a) y z (nI N) (nI cap) (nI Q) (nI CS) (nI now) (nI cc) (nI tc) (nI kn) st gn lr pc wa dy tr par ce ct ca kd sg mx wd rs rg mon lk mc mk mf mv ms cel trd cnt) (hb : ¬ (True) → post (-3) (nI N, nI cap, nI Q, nI CS, nI now, nI cc, nI tc, nI kn, st, gn, lr, pc, wa, dy, tr, par, ce, ct, ca, kd, sg, mx, wd, rs, rg, mon, lk, mc, mk, mf, mv, ms, cel, trd, cnt)) : wpY_emit post (nI N, nI cap, nI Q, nI CS, nI now, nI cc, nI tc, nI kn, st, gn, lr, pc, wa, dy, tr, par, ce, ct, ca, kd, sg, mx, wd, rs, rg, mon, lk, mc, mk, mf, mv, ms, cel, trd, cnt) 13 (nI a) y z := by
  unfold wpY_emit
  refine br_f (by decide) (br_t (by decide) (br_t rfl ?_))
  refine br_f (nI_pos (by omega)) (br_t (nI_le (b := 7) ha (by omega)) (br_t rfl ?_))
  exact br_f (by decide) (br_f (by decide) (br_f (by decide) (br_f (by decide) (br_f (by decide) (br_f (by decide) (br_f (by decide) (br_f (by decide) (br_f (by decide) (hv trivial)))))))))
theorem ex_14 {post : Int32 → SX → Prop} {a : Nat} {y z : Int32} (ha : a ≤ 7) (hv : (True) → wX_emit_57 post 14 (nI a) y z fl (nI N) (nI cap) (nI Q) (nI CS) (nI cc) (nI now) (nI tc) op oa ob oc st gn lr rg pc tr wt dl mc mk mf mv ms lm mon par ce ct ca sg mx wd cn cl rc rk tp tv cnt) (hb : ¬ (True) → post (-3) (fl, nI N, nI cap, nI Q, nI CS, nI cc, nI now, nI tc, op, oa, ob, oc, st, gn, lr, rg, pc, tr, wt, dl, mc, mk, mf, mv, ms, lm, mon, par, ce, ct, ca, sg, mx, wd, cn, cl, rc, rk, tp, tv, cnt)) : wpX_emit post (fl, nI N, nI cap, nI Q, nI CS, nI cc, nI now, nI tc, op, oa, ob, oc, st, gn, lr, rg, pc, tr, wt, dl, mc, mk, mf, mv, ms, lm, mon, par, ce, ct, ca, sg, mx, wd, cn, cl, rc, rk, tp, tv, cnt) 14 (nI a) y z := by
  refine br_f (by decide) (br_f (by decide) (br_f (nI_pos (by omega)) (br_t (nI_le (b := 7) ha (by omega)) ?_)))
  unfold wpX_goodB
  exact br_f (by decide) (br_f (by decide) (br_f (by decide) (br_f (by decide) (br_f (by decide) (br_f (by decide) (br_f (by decide) (br_f (by decide) (br_f (by decide) (br_f (by decide) (br_f (by decide) (br_f (by decide) (br_f (by decide) (br_f (by decide) (br_f (by decide) (br_t rfl (br_f am_10 (br_f (by decide) (hv trivial))))))))))))))))))
theorem ey_14 {post : Int32 → SY → Prop} {a : Nat} {y z : Int32} (ha : a ≤ 7) (hv : (True) → wY_emit_144 post 14 (nI a) y z (nI N) (nI cap) (nI Q) (nI CS) (nI now) (nI cc) (nI tc) (nI kn) st gn lr pc wa dy tr par ce ct ca kd sg mx wd rs rg mon lk mc mk mf mv ms cel trd cnt) (hb : ¬ (True) → post (-3) (nI N, nI cap, nI Q, nI CS, nI now, nI cc, nI tc, nI kn, st, gn, lr, pc, wa, dy, tr, par, ce, ct, ca, kd, sg, mx, wd, rs, rg, mon, lk, mc, mk, mf, mv, ms, cel, trd, cnt)) : wpY_emit post (nI N, nI cap, nI Q, nI CS, nI now, nI cc, nI tc, nI kn, st, gn, lr, pc, wa, dy, tr, par, ce, ct, ca, kd, sg, mx, wd, rs, rg, mon, lk, mc, mk, mf, mv, ms, cel, trd, cnt) 14 (nI a) y z := by
  unfold wpY_emit
  refine br_f (by decide) (br_t (by decide) (br_t rfl ?_))
  refine br_f (nI_pos (by omega)) (br_t (nI_le (b := 7) ha (by omega)) (br_t rfl ?_))
  exact br_f (by decide) (br_f (by decide) (br_f (by decide) (br_f (by decide) (br_f (by decide) (br_f (by decide) (br_f (by decide) (br_f (by decide) (br_f (by decide) (hv trivial)))))))))
theorem ex_15 {post : Int32 → SX → Prop} {a : Nat} {y z : Int32} (ha : a ≤ 7) (hv : (True) → wX_emit_57 post 15 (nI a) y z fl (nI N) (nI cap) (nI Q) (nI CS) (nI cc) (nI now) (nI tc) op oa ob oc st gn lr rg pc tr wt dl mc mk mf mv ms lm mon par ce ct ca sg mx wd cn cl rc rk tp tv cnt) (hb : ¬ (True) → post (-3) (fl, nI N, nI cap, nI Q, nI CS, nI cc, nI now, nI tc, op, oa, ob, oc, st, gn, lr, rg, pc, tr, wt, dl, mc, mk, mf, mv, ms, lm, mon, par, ce, ct, ca, sg, mx, wd, cn, cl, rc, rk, tp, tv, cnt)) : wpX_emit post (fl, nI N, nI cap, nI Q, nI CS, nI cc, nI now, nI tc, op, oa, ob, oc, st, gn, lr, rg, pc, tr, wt, dl, mc, mk, mf, mv, ms, lm, mon, par, ce, ct, ca, sg, mx, wd, cn, cl, rc, rk, tp, tv, cnt) 15 (nI a) y z := by
  refine br_f (by decide) (br_f (by decide) (br_f (nI_pos (by omega)) (br_t (nI_le (b := 7) ha (by omega)) ?_)))
  unfold wpX_goodB
  exact br_f (by decide) (br_f (by decide) (br_f (by decide) (br_f (by decide) (br_f (by decide) (br_f (by decide) (br_f (by decide) (br_f (by decide) (br_f (by decide) (br_f (by decide) (br_f (by decide) (br_f (by decide) (br_f (by decide) (br_f (by decide) (br_f (by decide) (br_f (by decide) (br_t rfl (br_f am_10 (br_f (by decide) (hv trivial)))))))))))))))))))
theorem ey_15 {post : Int32 → SY → Prop} {a : Nat} {y z : Int32} (ha : a ≤ 7) (hv : (True) → wY_emit_144 post 15 (nI a) y z (nI N) (nI cap) (nI Q) (nI CS) (nI now) (nI cc) (nI tc) (nI kn) st gn lr pc wa dy tr par ce ct ca kd sg mx wd rs rg mon lk mc mk mf mv ms cel trd cnt) (hb : ¬ (True) → post (-3) (nI N, nI cap, nI Q, nI CS, nI now, nI cc, nI tc, nI kn, st, gn, lr, pc, wa, dy, tr, par, ce, ct, ca, kd, sg, mx, wd, rs, rg, mon, lk, mc, mk, mf, mv, ms, cel, trd, cnt)) : wpY_emit post (nI N, nI cap, nI Q, nI CS, nI now, nI cc, nI tc, nI kn, st, gn, lr, pc, wa, dy, tr, par, ce, ct, ca, kd, sg, mx, wd, rs, rg, mon, lk, mc, mk, mf, mv, ms, cel, trd, cnt) 15 (nI a) y z := by
  unfold wpY_emit
  refine br_f (by decide) (br_t (by decide) (br_t rfl ?_))
  refine br_f (nI_pos (by omega)) (br_t (nI_le (b := 7) ha (by omega)) (br_t rfl ?_))
  exact br_f (by decide) (br_f (by decide) (br_f (by decide) (br_f (by decide) (br_f (by decide) (br_f (by decide) (br_f (by decide) (br_f (by decide) (br_f (by decide) (hv trivial)))))))))
theorem ex_16 {post : Int32 → SX → Prop} {a : Nat} {y z : Int32} (ha : a ≤ 7) (hv : (True) → wX_emit_57 post 16 (nI a) y z fl (nI N) (nI cap) (nI Q) (nI CS) (nI cc) (nI now) (nI tc) op oa ob oc st gn lr rg pc tr wt dl mc mk mf mv ms lm mon par ce ct ca sg mx wd cn cl rc rk tp tv cnt) (hb : ¬ (True) → post (-3) (fl, nI N, nI cap, nI Q, nI CS, nI cc, nI now, nI tc, op, oa, ob, oc, st, gn, lr, rg, pc, tr, wt, dl, mc, mk, mf, mv, ms, lm, mon, par, ce, ct, ca, sg, mx, wd, cn, cl, rc, rk, tp, tv, cnt)) : wpX_emit post (fl, nI N, nI cap, nI Q, nI CS, nI cc, nI now, nI tc, op, oa, ob, oc, st, gn, lr, rg, pc, tr, wt, dl, mc, mk, mf, mv, ms, lm, mon, par, ce, ct, ca, sg, mx, wd, cn, cl, rc, rk, tp, tv, cnt) 16 (nI a) y z := by
  refine br_f (by decide) (br_f (by decide) (br_f (nI_pos (by omega)) (br_t (nI_le (b := 7) ha (by omega)) ?_)))
  unfold wpX_goodB
  exact br_f (by decide) (br_f (by decide) (br_f (by decide) (br_f (by decide) (br_f (by decide) (br_f (by decide) (br_f (by decide) (br_f (by decide) (br_f (by decide) (br_f (by decide) (br_f (by decide) (br_f (by decide) (br_f (by decide) (br_f (by decide) (br_f (by decide) (br_f (by decide) (br_f (by decide) (br_t rfl (br_f am_10 (br_f (by decide) (hv trivial))))))))))))))))))))
theorem ey_16 {post : Int32 → SY → Prop} {a : Nat} {y z : Int32} (ha : a ≤ 7) (hv : (True) → wY_emit_144 post 16 (nI a) y z (nI N) (nI cap) (nI Q) (nI CS) (nI now) (nI cc) (nI tc) (nI kn) st gn lr pc wa dy tr par ce ct ca kd sg mx wd rs rg mon lk mc mk mf mv ms cel trd cnt) (hb : ¬ (True) → post (-3) (nI N, nI cap, nI Q, nI CS, nI now, nI cc, nI tc, nI kn, st, gn, lr, pc, wa, dy, tr, par, ce, ct, ca, kd, sg, mx, wd, rs, rg, mon, lk, mc, mk, mf, mv, ms, cel, trd, cnt)) : wpY_emit post (nI N, nI cap, nI Q, nI CS, nI now, nI cc, nI tc, nI kn, st, gn, lr, pc, wa, dy, tr, par, ce, ct, ca, kd, sg, mx, wd, rs, rg, mon, lk, mc, mk, mf, mv, ms, cel, trd, cnt) 16 (nI a) y z := by
  unfold wpY_emit
  refine br_f (by decide) (br_t (by decide) (br_t rfl ?_))
  refine br_f (nI_pos (by omega)) (br_t (nI_le (b := 7) ha (by omega)) (br_t rfl ?_))
  exact br_f (by decide) (br_f (by decide) (br_f (by decide) (br_f (by decide) (br_f (by decide) (br_f (by decide) (br_f (by decide) (br_f (by decide) (br_f (by decide) (hv trivial)))))))))
theorem ex_17 {post : Int32 → SX → Prop} {a : Nat} {y z : Int32} (ha : a ≤ 7) (hv : (0 ≤ y ∧ y ≤ 1) → wX_emit_57 post 17 (nI a) y z fl (nI N) (nI cap) (nI Q) (nI CS) (nI cc) (nI now) (nI tc) op oa ob oc st gn lr rg pc tr wt dl mc mk mf mv ms lm mon par ce ct ca sg mx wd cn cl rc rk tp tv cnt) (hb : ¬ (0 ≤ y ∧ y ≤ 1) → post (-3) (fl, nI N, nI cap, nI Q, nI CS, nI cc, nI now, nI tc, op, oa, ob, oc, st, gn, lr, rg, pc, tr, wt, dl, mc, mk, mf, mv, ms, lm, mon, par, ce, ct, ca, sg, mx, wd, cn, cl, rc, rk, tp, tv, cnt)) : wpX_emit post (fl, nI N, nI cap, nI Q, nI CS, nI cc, nI now, nI tc, op, oa, ob, oc, st, gn, lr, rg, pc, tr, wt, dl, mc, mk, mf, mv, ms, lm, mon, par, ce, ct, ca, sg, mx, wd, cn, cl, rc, rk, tp, tv, cnt) 17 (nI a) y z := by
  refine br_f (by decide) (br_f (by decide) (br_f (nI_pos (by omega)) (br_t (nI_le (b := 7) ha (by omega)) ?_)))
  unfold wpX_goodB
  exact br_f (by decide) (br_f (by decide) (br_f (by decide) (br_f (by decide) (br_f (by decide) (br_f (by decide) (br_f (by decide) (br_f (by decide) (br_f (by decide) (br_f (by decide) (br_f (by decide) (br_f (by decide) (br_f (by decide) (br_f (by decide) (br_f (by decide) (br_f (by decide) (br_f (by decide) (br_f (by decide) (br_t rfl (br_c (fun q => br_f am_10 (br_f (by decide) (hv (am_01.mpr (Or.inl q))))) (fun q => br_c (fun q2 => br_f am_10 (br_f (by decide) (hv (am_01.mpr (Or.inr q2))))) (fun q2 => br_t rfl (hb fun w => (am_01.mp w).elim q q2))))))))))))))))))))))
theorem ey_17 {post : Int32 → SY → Prop} {a : Nat} {y z : Int32} (ha : a ≤ 7) (hv : (0 ≤ y ∧ y ≤ 1) → wY_emit_144 post 17 (nI a) y z (nI N) (nI cap) (nI Q) (nI CS) (nI now) (nI cc) (nI tc) (nI kn) st gn lr pc wa dy tr par ce ct ca kd sg mx wd rs rg mon lk mc mk mf mv ms cel trd cnt) (hb : ¬ (0 ≤ y ∧ y ≤ 1) → post (-3) (nI N, nI cap, nI Q, nI CS, nI now, nI cc, nI tc, nI kn, st, gn, lr, pc, wa, dy, tr, par, ce, ct, ca, kd, sg, mx, wd, rs, rg, mon, lk, mc, mk, mf, mv, ms, cel, trd, cnt)) : wpY_emit post (nI N, nI cap, nI Q, nI CS, nI now, nI cc, nI tc, nI kn, st, gn, lr, pc, wa, dy, tr, par, ce, ct, ca, kd, sg, mx, wd, rs, rg, mon, lk, mc, mk, mf, mv, ms, cel, trd, cnt) 17 (nI a) y z := by
  unfold wpY_emit
  refine br_f (by decide) (br_t (by decide) (br_t rfl ?_))
  refine br_f (nI_pos (by omega)) (br_t (nI_le (b := 7) ha (by omega)) (br_t rfl ?_))
  exact br_f (by decide) (br_f (by decide) (br_f (by decide) (br_f (by decide) (br_f (by decide) (br_f (by decide) (br_f (by decide) (br_f (by decide) (br_t rfl (yv_out (fun w => br_t rfl (hv w)) (fun w => br_f am_10 (hb w)))))))))))
theorem ex_18 {post : Int32 → SX → Prop} {a : Nat} {y z : Int32} (ha : a ≤ 7) (hv : (True) → wX_emit_57 post 18 (nI a) y z fl (nI N) (nI cap) (nI Q) (nI CS) (nI cc) (nI now) (nI tc) op oa ob oc st gn lr rg pc tr wt dl mc mk mf mv ms lm mon par ce ct ca sg mx wd cn cl rc rk tp tv cnt) (hb : ¬ (True) → post (-3) (fl, nI N, nI cap, nI Q, nI CS, nI cc, nI now, nI tc, op, oa, ob, oc, st, gn, lr, rg, pc, tr, wt, dl, mc, mk, mf, mv, ms, lm, mon, par, ce, ct, ca, sg, mx, wd, cn, cl, rc, rk, tp, tv, cnt)) : wpX_emit post (fl, nI N, nI cap, nI Q, nI CS, nI cc, nI now, nI tc, op, oa, ob, oc, st, gn, lr, rg, pc, tr, wt, dl, mc, mk, mf, mv, ms, lm, mon, par, ce, ct, ca, sg, mx, wd, cn, cl, rc, rk, tp, tv, cnt) 18 (nI a) y z := by
  refine br_f (by decide) (br_f (by decide) (br_f (nI_pos (by omega)) (br_t (nI_le (b := 7) ha (by omega)) ?_)))
  unfold wpX_goodB
  exact br_f (by decide) (br_f (by decide) (br_f (by decide) (br_f (by decide) (br_f (by decide) (br_f (by decide) (br_f (by decide) (br_f (by decide) (br_f (by decide) (br_f (by decide) (br_f (by decide) (br_f (by decide) (br_f (by decide) (br_f (by decide) (br_f (by decide) (br_f (by decide) (br_f (by decide) (br_f (by decide) (br_f (by decide) (br_t rfl (br_f am_10 (br_f (by decide) (hv trivial))))))))))))))))))))))
theorem ey_18 {post : Int32 → SY → Prop} {a : Nat} {y z : Int32} (ha : a ≤ 7) (hv : (True) → wY_emit_144 post 18 (nI a) y z (nI N) (nI cap) (nI Q) (nI CS) (nI now) (nI cc) (nI tc) (nI kn) st gn lr pc wa dy tr par ce ct ca kd sg mx wd rs rg mon lk mc mk mf mv ms cel trd cnt) (hb : ¬ (True) → post (-3) (nI N, nI cap, nI Q, nI CS, nI now, nI cc, nI tc, nI kn, st, gn, lr, pc, wa, dy, tr, par, ce, ct, ca, kd, sg, mx, wd, rs, rg, mon, lk, mc, mk, mf, mv, ms, cel, trd, cnt)) : wpY_emit post (nI N, nI cap, nI Q, nI CS, nI now, nI cc, nI tc, nI kn, st, gn, lr, pc, wa, dy, tr, par, ce, ct, ca, kd, sg, mx, wd, rs, rg, mon, lk, mc, mk, mf, mv, ms, cel, trd, cnt) 18 (nI a) y z := by
  unfold wpY_emit
  refine br_f (by decide) (br_t (by decide) (br_t rfl ?_))
  refine br_f (nI_pos (by omega)) (br_t (nI_le (b := 7) ha (by omega)) (br_t rfl ?_))
  exact br_f (by decide) (br_f (by decide) (br_f (by decide) (br_f (by decide) (br_f (by decide) (br_f (by decide) (br_f (by decide) (br_f (by decide) (br_f (by decide) (hv trivial)))))))))
theorem ex_19 {post : Int32 → SX → Prop} {a : Nat} {y z : Int32} (ha : a ≤ 7) (hv : (0 ≤ y ∧ y ≤ 7) → wX_emit_57 post 19 (nI a) y z fl (nI N) (nI cap) (nI Q) (nI CS) (nI cc) (nI now) (nI tc) op oa ob oc st gn lr rg pc tr wt dl mc mk mf mv ms lm mon par ce ct ca sg mx wd cn cl rc rk tp tv cnt) (hb : ¬ (0 ≤ y ∧ y ≤ 7) → post (-3) (fl, nI N, nI cap, nI Q, nI CS, nI cc, nI now, nI tc, op, oa, ob, oc, st, gn, lr, rg, pc, tr, wt, dl, mc, mk, mf, mv, ms, lm, mon, par, ce, ct, ca, sg, mx, wd, cn, cl, rc, rk, tp, tv, cnt)) : wpX_emit post (fl, nI N, nI cap, nI Q, nI CS, nI cc, nI now, nI tc, op, oa, ob, oc, st, gn, lr, rg, pc, tr, wt, dl, mc, mk, mf, mv, ms, lm, mon, par, ce, ct, ca, sg, mx, wd, cn, cl, rc, rk, tp, tv, cnt) 19 (nI a) y z := by
  refine br_f (by decide) (br_f (by decide) (br_f (nI_pos (by omega)) (br_t (nI_le (b := 7) ha (by omega)) ?_)))
  unfold wpX_goodB
  exact br_f (by decide) (br_f (by decide) (br_f (by decide) (br_f (by decide) (br_f (by decide) (br_f (by decide) (br_f (by decide) (br_f (by decide) (br_f (by decide) (br_f (by decide) (br_f (by decide) (br_f (by decide) (br_f (by decide) (br_f (by decide) (br_f (by decide) (br_f (by decide) (br_f (by decide) (br_f (by decide) (br_f (by decide) (br_f (by decide) (br_t rfl (br_c (fun q => br_t rfl (hb fun w => absurd q (Int32.not_lt.mpr w.1))) (fun q => br_c (fun q2 => br_t rfl (hb fun w => absurd q2 (Int32.not_lt.mpr w.2))) (fun q2 => br_f am_10 (br_f (by decide) (hv ⟨am_nlt q, am_nlt q2⟩)))))))))))))))))))))))))
theorem ey_19 {post : Int32 → SY → Prop} {a : Nat} {y z : Int32} (ha : a ≤ 7) (hv : (0 ≤ y ∧ y ≤ 7) → wY_emit_144 post 19 (nI a) y z (nI N) (nI cap) (nI Q) (nI CS) (nI now) (nI cc) (nI tc) (nI kn) st gn lr pc wa dy tr par ce ct ca kd sg mx wd rs rg mon lk mc mk mf mv ms cel trd cnt) (hb : ¬ (0 ≤ y ∧ y ≤ 7) → post (-3) (nI N, nI cap, nI Q, nI CS, nI now, nI cc, nI tc, nI kn, st, gn, lr, pc, wa, dy, tr, par, ce, ct, ca, kd, sg, mx, wd, rs, rg, mon, lk, mc, mk, mf, mv, ms, cel, trd, cnt)) : wpY_emit post (nI N, nI cap, nI Q, nI CS, nI now, nI cc, nI tc, nI kn, st, gn, lr, pc, wa, dy, tr, par, ce, ct, ca, kd, sg, mx, wd, rs, rg, mon, lk, mc, mk, mf, mv, ms, cel, trd, cnt) 19 (nI a) y z := by
  unfold wpY_emit
  refine br_f (by decide) (br_t (by decide) (br_t rfl ?_))
  refine br_f (nI_pos (by omega)) (br_t (nI_le (b := 7) ha (by omega)) (br_t rfl ?_))
  exact br_f (by decide) (br_f (by decide) (br_f (by decide) (br_t rfl (yv_out (fun w => br_t rfl (br_f (by decide) (br_f (by decide) (br_f (by decide) (br_f (by decide) (br_f (by decide) (hv w))))))) (fun w => br_f am_10 (hb w))))))
theorem ex_20 {post : Int32 → SX → Prop} {a : Nat} {y z : Int32} (ha : a ≤ 7) (hv : (True) → wX_emit_57 post 20 (nI a) y z fl (nI N) (nI cap) (nI Q) (nI CS) (nI cc) (nI now) (nI tc) op oa ob oc st gn lr rg pc tr wt dl mc mk mf mv ms lm mon par ce ct ca sg mx wd cn cl rc rk tp tv cnt) (hb : ¬ (True) → post (-3) (fl, nI N, nI cap, nI Q, nI CS, nI cc, nI now, nI tc, op, oa, ob, oc, st, gn, lr, rg, pc, tr, wt, dl, mc, mk, mf, mv, ms, lm, mon, par, ce, ct, ca, sg, mx, wd, cn, cl, rc, rk, tp, tv, cnt)) : wpX_emit post (fl, nI N, nI cap, nI Q, nI CS, nI cc, nI now, nI tc, op, oa, ob, oc, st, gn, lr, rg, pc, tr, wt, dl, mc, mk, mf, mv, ms, lm, mon, par, ce, ct, ca, sg, mx, wd, cn, cl, rc, rk, tp, tv, cnt) 20 (nI a) y z := by
  refine br_f (by decide) (br_f (by decide) (br_f (nI_pos (by omega)) (br_t (nI_le (b := 7) ha (by omega)) ?_)))
  unfold wpX_goodB
  exact br_f (by decide) (br_t (by decide) (br_f am_10 (br_f (by decide) (hv trivial))))
theorem ey_20 {post : Int32 → SY → Prop} {a : Nat} {y z : Int32} (ha : a ≤ 7) (hv : (True) → wY_emit_144 post 20 (nI a) y z (nI N) (nI cap) (nI Q) (nI CS) (nI now) (nI cc) (nI tc) (nI kn) st gn lr pc wa dy tr par ce ct ca kd sg mx wd rs rg mon lk mc mk mf mv ms cel trd cnt) (hb : ¬ (True) → post (-3) (nI N, nI cap, nI Q, nI CS, nI now, nI cc, nI tc, nI kn, st, gn, lr, pc, wa, dy, tr, par, ce, ct, ca, kd, sg, mx, wd, rs, rg, mon, lk, mc, mk, mf, mv, ms, cel, trd, cnt)) : wpY_emit post (nI N, nI cap, nI Q, nI CS, nI now, nI cc, nI tc, nI kn, st, gn, lr, pc, wa, dy, tr, par, ce, ct, ca, kd, sg, mx, wd, rs, rg, mon, lk, mc, mk, mf, mv, ms, cel, trd, cnt) 20 (nI a) y z := by
  unfold wpY_emit
  refine br_f (by decide) (br_t (by decide) (br_t rfl ?_))
  refine br_f (nI_pos (by omega)) (br_t (nI_le (b := 7) ha (by omega)) (br_t rfl ?_))
  exact br_f (by decide) (br_f (by decide) (br_f (by decide) (br_f (by decide) (br_f (by decide) (br_f (by decide) (br_f (by decide) (br_f (by decide) (br_f (by decide) (hv trivial)))))))))
theorem ex_21 {post : Int32 → SX → Prop} {a : Nat} {y z : Int32} (ha : a ≤ 7) (hv : (True) → wX_emit_57 post 21 (nI a) y z fl (nI N) (nI cap) (nI Q) (nI CS) (nI cc) (nI now) (nI tc) op oa ob oc st gn lr rg pc tr wt dl mc mk mf mv ms lm mon par ce ct ca sg mx wd cn cl rc rk tp tv cnt) (hb : ¬ (True) → post (-3) (fl, nI N, nI cap, nI Q, nI CS, nI cc, nI now, nI tc, op, oa, ob, oc, st, gn, lr, rg, pc, tr, wt, dl, mc, mk, mf, mv, ms, lm, mon, par, ce, ct, ca, sg, mx, wd, cn, cl, rc, rk, tp, tv, cnt)) : wpX_emit post (fl, nI N, nI cap, nI Q, nI CS, nI cc, nI now, nI tc, op, oa, ob, oc, st, gn, lr, rg, pc, tr, wt, dl, mc, mk, mf, mv, ms, lm, mon, par, ce, ct, ca, sg, mx, wd, cn, cl, rc, rk, tp, tv, cnt) 21 (nI a) y z := by
  refine br_f (by decide) (br_f (by decide) (br_f (nI_pos (by omega)) (br_t (nI_le (b := 7) ha (by omega)) ?_)))
  unfold wpX_goodB
  exact br_f (by decide) (br_t (by decide) (br_f am_10 (br_f (by decide) (hv trivial))))
theorem ey_21 {post : Int32 → SY → Prop} {a : Nat} {y z : Int32} (ha : a ≤ 7) (hv : (True) → wY_emit_144 post 21 (nI a) y z (nI N) (nI cap) (nI Q) (nI CS) (nI now) (nI cc) (nI tc) (nI kn) st gn lr pc wa dy tr par ce ct ca kd sg mx wd rs rg mon lk mc mk mf mv ms cel trd cnt) (hb : ¬ (True) → post (-3) (nI N, nI cap, nI Q, nI CS, nI now, nI cc, nI tc, nI kn, st, gn, lr, pc, wa, dy, tr, par, ce, ct, ca, kd, sg, mx, wd, rs, rg, mon, lk, mc, mk, mf, mv, ms, cel, trd, cnt)) : wpY_emit post (nI N, nI cap, nI Q, nI CS, nI now, nI cc, nI tc, nI kn, st, gn, lr, pc, wa, dy, tr, par, ce, ct, ca, kd, sg, mx, wd, rs, rg, mon, lk, mc, mk, mf, mv, ms, cel, trd, cnt) 21 (nI a) y z := by
  unfold wpY_emit
  refine br_f (by decide) (br_t (by decide) (br_t rfl ?_))
  refine br_f (nI_pos (by omega)) (br_t (nI_le (b := 7) ha (by omega)) (br_t rfl ?_))
  exact br_f (by decide) (br_f (by decide) (br_f (by decide) (br_f (by decide) (br_f (by decide) (br_f (by decide) (br_f (by decide) (br_f (by decide) (br_f (by decide) (hv trivial)))))))))
theorem em_put {K : List Nat} {k a : Nat} {y z : Int32} (I : am_I K N cap Q CS cc now tc kn fl op oa ob oc st gn lr rg pc tr wt dl mc mk mf mv lm mon par ce ct ca sg mx wd cn cl rc rk tp tv wa dy kd rs lk cel trd ms cnt) (nf : ∀ j, j < 8 → ¬ st j = 3) (hk : k ≤ 21) (ha : a ≤ 7) (h12 : k = 12 → (0 ≤ y ∧ y ≤ 6) ∧ ((-1) ≤ z ∧ z ≤ 100)) : ∃ (r : Int32) (u' : SX) (v' : SY), am_R K u' v' ∧ (∀ j, j < 8 → ¬ xSt u' j = 3) ∧ (∀ post : Int32 → SX → Prop, post r u' → wX_emit_57 post (nI k) (nI a) y z fl (nI N) (nI cap) (nI Q) (nI CS) (nI cc) (nI now) (nI tc) op oa ob oc st gn lr rg pc tr wt dl mc mk mf mv ms lm mon par ce ct ca sg mx wd cn cl rc rk tp tv cnt) ∧ (∀ post : Int32 → SY → Prop, post r v' → wY_emit_144 post (nI k) (nI a) y z (nI N) (nI cap) (nI Q) (nI CS) (nI now) (nI cc) (nI tc) (nI kn) st gn lr pc wa dy tr par ce ct ca kd sg mx wd rs rg mon lk mc mk mf mv ms cel trd cnt) := by
  have hS := I.1
  unfold iS at hS
  by_cases c : cc < CS
  · have I' : am_I K N cap Q CS (cc + 1) now tc kn fl (upd op cc (nI k)) (upd oa cc (nI a)) (upd ob cc y) (upd oc cc z) st gn lr rg pc tr wt dl mc mk mf mv lm mon par ce ct ca sg mx wd cn cl rc rk tp tv wa dy kd rs lk (upd (upd (upd (upd cel (cc * 4) (nI k)) (cc * 4 + 1) (nI a)) (cc * 4 + 2) y) (cc * 4 + 3) z) trd ms cnt := by
      obtain ⟨h1, h2, h3⟩ := I
      refine ⟨?_, fun i hi => ?_, h3⟩
      · unfold iS; omega
      · by_cases e : i = cc
        · subst e
          refine ⟨⟨k, hk, pk_us⟩, ⟨a, ha, pk_us⟩, fun e12 => ?_, ?_, ?_, ?_, ?_⟩
          · rw [pk_us] at e12
            have k12 : k = 12 := am_im (b := 12) e12 (by omega) (by omega)
            obtain ⟨⟨y0, y6⟩, z1, z2⟩ := h12 k12
            rw [pk_us, pk_us]
            refine ⟨?_, ?_⟩
            · obtain ⟨j, hj, e⟩ := nI_of2 (x := y) (M := 6) (n := 6) (by decide) (Int32.not_lt.mpr y0) y6
              exact ⟨j, hj, e⟩
            · by_cases zn : z < 0
              · refine Or.inl ?_
                rw [Int32.le_iff_toInt_le] at z1
                rw [Int32.lt_iff_toInt_lt] at zn
                have q1 : (-1 : Int32).toInt = -1 := by decide
                have q0 : (0 : Int32).toInt = 0 := by decide
                rw [← Int32.toInt_inj]
                omega
              · obtain ⟨j, hj, e⟩ := nI_of2 (x := z) (M := 100) (n := 100) (by decide) zn z2
                exact Or.inr ⟨j, hj, e⟩
          · rw [pk_un (by omega), pk_un (by omega), pk_un (by omega), pk_us, pk_us]
          · rw [pk_un (by omega), pk_un (by omega), pk_us, pk_us]
          · rw [pk_un (by omega), pk_us, pk_us]
          · rw [pk_us, pk_us]
        · obtain ⟨a1, a2, a3, a4, a5, a6, a7⟩ := h2 i (by omega)
          rw [pk_un e, pk_un e, pk_un e, pk_un e]
          refine ⟨a1, a2, a3, ?_, ?_, ?_, ?_⟩
          · rw [pk_un (by omega), pk_un (by omega), pk_un (by omega), pk_un (by omega)]; exact a4
          · rw [pk_un (by omega), pk_un (by omega), pk_un (by omega), pk_un (by omega)]; exact a5
          · rw [pk_un (by omega), pk_un (by omega), pk_un (by omega), pk_un (by omega)]; exact a6
          · rw [pk_un (by omega), pk_un (by omega), pk_un (by omega), pk_un (by omega)]; exact a7
    have ip : vp_in (nI cc) 64 := vp_in_nI (by omega) (by omega)
    have ep : (nI cc).toNatClampNeg = cc := nI_clamp (by omega)
    refine ⟨nI cc, _, _, am_Ri I', nf, fun post p => ?_, fun post p => ?_⟩
    · exact br_t (nI_lt c (by omega)) ⟨ip, nm_r (by rw [ep]) ⟨ip, nm_r (by rw [ep]) ⟨ip, nm_r (by rw [ep]) ⟨ip, nm_r (by rw [ep]) (nm_r (nI_1 cc) p)⟩⟩⟩⟩
    · refine br_t (nI_lt c (by omega)) (nm_r (am_m4 cc) ⟨vp_in_nI (by omega) (by omega), nm_r (by rw [nI_clamp (by omega)]) ⟨pk_in (cc * 4 + 1) 256 (by omega) (nI_1 _), nm_r (by rw [nI_1, nI_clamp (by omega)]) ⟨pk_in (cc * 4 + 2) 256 (by omega) (am_p2 _), nm_r (by rw [am_p2, nI_clamp (by omega)]) ⟨pk_in (cc * 4 + 3) 256 (by omega) (am_p3 _), nm_r (by rw [am_p3, nI_clamp (by omega)]) (nm_r (nI_1 cc) ?_)⟩⟩⟩⟩)
      rw [nI_pred]
      exact p
  · exact ⟨-2, _, _, am_Ri I, nf, fun post p => br_f (nI_nlt (by omega) (by omega)) p, fun post p => br_f (nI_nlt (by omega) (by omega)) p⟩
theorem em_all {K : List Nat} {x1 x2 y z : Int32} (I : am_I K N cap Q CS cc now tc kn fl op oa ob oc st gn lr rg pc tr wt dl mc mk mf mv lm mon par ce ct ca sg mx wd cn cl rc rk tp tv wa dy kd rs lk cel trd ms cnt) (nf : ∀ j, j < 8 → ¬ st j = 3) : ∃ (r : Int32) (u' : SX) (v' : SY), am_R K u' v' ∧ (∀ j, j < 8 → ¬ xSt u' j = 3) ∧ (∀ post : Int32 → SX → Prop, post r u' → wpX_emit post (fl, nI N, nI cap, nI Q, nI CS, nI cc, nI now, nI tc, op, oa, ob, oc, st, gn, lr, rg, pc, tr, wt, dl, mc, mk, mf, mv, ms, lm, mon, par, ce, ct, ca, sg, mx, wd, cn, cl, rc, rk, tp, tv, cnt) x1 x2 y z) ∧ (∀ post : Int32 → SY → Prop, post r v' → wpY_emit post (nI N, nI cap, nI Q, nI CS, nI now, nI cc, nI tc, nI kn, st, gn, lr, pc, wa, dy, tr, par, ce, ct, ca, kd, sg, mx, wd, rs, rg, mon, lk, mc, mk, mf, mv, ms, cel, trd, cnt) x1 x2 y z) := by
  by_cases c1 : 0 ≤ x1 ∧ x1 ≤ 21
  · by_cases c2 : 0 ≤ x2 ∧ x2 ≤ 7
    · obtain ⟨k, hk, rfl⟩ := nI_of2 (M := 21) (n := 21) (by decide) (Int32.not_lt.mpr c1.1) c1.2
      obtain ⟨a, ha, rfl⟩ := nI_of2 (M := 7) (n := 7) (by decide) (Int32.not_lt.mpr c2.1) c2.2
      have Bad : ∀ g : Prop, ¬ g → (∀ post : Int32 → SX → Prop, (g → wX_emit_57 post (nI k) (nI a) y z fl (nI N) (nI cap) (nI Q) (nI CS) (nI cc) (nI now) (nI tc) op oa ob oc st gn lr rg pc tr wt dl mc mk mf mv ms lm mon par ce ct ca sg mx wd cn cl rc rk tp tv cnt) → (¬ g → post (-3) (fl, nI N, nI cap, nI Q, nI CS, nI cc, nI now, nI tc, op, oa, ob, oc, st, gn, lr, rg, pc, tr, wt, dl, mc, mk, mf, mv, ms, lm, mon, par, ce, ct, ca, sg, mx, wd, cn, cl, rc, rk, tp, tv, cnt)) → wpX_emit post (fl, nI N, nI cap, nI Q, nI CS, nI cc, nI now, nI tc, op, oa, ob, oc, st, gn, lr, rg, pc, tr, wt, dl, mc, mk, mf, mv, ms, lm, mon, par, ce, ct, ca, sg, mx, wd, cn, cl, rc, rk, tp, tv, cnt) (nI k) (nI a) y z) → (∀ post : Int32 → SY → Prop, (g → wY_emit_144 post (nI k) (nI a) y z (nI N) (nI cap) (nI Q) (nI CS) (nI now) (nI cc) (nI tc) (nI kn) st gn lr pc wa dy tr par ce ct ca kd sg mx wd rs rg mon lk mc mk mf mv ms cel trd cnt) → (¬ g → post (-3) (nI N, nI cap, nI Q, nI CS, nI now, nI cc, nI tc, nI kn, st, gn, lr, pc, wa, dy, tr, par, ce, ct, ca, kd, sg, mx, wd, rs, rg, mon, lk, mc, mk, mf, mv, ms, cel, trd, cnt)) → wpY_emit post (nI N, nI cap, nI Q, nI CS, nI now, nI cc, nI tc, nI kn, st, gn, lr, pc, wa, dy, tr, par, ce, ct, ca, kd, sg, mx, wd, rs, rg, mon, lk, mc, mk, mf, mv, ms, cel, trd, cnt) (nI k) (nI a) y z) → ∃ (r : Int32) (u' : SX) (v' : SY), am_R K u' v' ∧ (∀ j, j < 8 → ¬ xSt u' j = 3) ∧ (∀ post : Int32 → SX → Prop, post r u' → wpX_emit post (fl, nI N, nI cap, nI Q, nI CS, nI cc, nI now, nI tc, op, oa, ob, oc, st, gn, lr, rg, pc, tr, wt, dl, mc, mk, mf, mv, ms, lm, mon, par, ce, ct, ca, sg, mx, wd, cn, cl, rc, rk, tp, tv, cnt) (nI k) (nI a) y z) ∧ (∀ post : Int32 → SY → Prop, post r v' → wpY_emit post (nI N, nI cap, nI Q, nI CS, nI now, nI cc, nI tc, nI kn, st, gn, lr, pc, wa, dy, tr, par, ce, ct, ca, kd, sg, mx, wd, rs, rg, mon, lk, mc, mk, mf, mv, ms, cel, trd, cnt) (nI k) (nI a) y z) := fun g hg hX hY =>
        ⟨-3, _, _, am_Ri I, nf, fun post p => hX post (fun w => absurd w hg) (fun _ => p), fun post p => hY post (fun w => absurd w hg) (fun _ => p)⟩
      have Go : ∀ g : Prop, g → (k = 12 → (0 ≤ y ∧ y ≤ 6) ∧ ((-1) ≤ z ∧ z ≤ 100)) → (∀ post : Int32 → SX → Prop, (g → wX_emit_57 post (nI k) (nI a) y z fl (nI N) (nI cap) (nI Q) (nI CS) (nI cc) (nI now) (nI tc) op oa ob oc st gn lr rg pc tr wt dl mc mk mf mv ms lm mon par ce ct ca sg mx wd cn cl rc rk tp tv cnt) → (¬ g → post (-3) (fl, nI N, nI cap, nI Q, nI CS, nI cc, nI now, nI tc, op, oa, ob, oc, st, gn, lr, rg, pc, tr, wt, dl, mc, mk, mf, mv, ms, lm, mon, par, ce, ct, ca, sg, mx, wd, cn, cl, rc, rk, tp, tv, cnt)) → wpX_emit post (fl, nI N, nI cap, nI Q, nI CS, nI cc, nI now, nI tc, op, oa, ob, oc, st, gn, lr, rg, pc, tr, wt, dl, mc, mk, mf, mv, ms, lm, mon, par, ce, ct, ca, sg, mx, wd, cn, cl, rc, rk, tp, tv, cnt) (nI k) (nI a) y z) → (∀ post : Int32 → SY → Prop, (g → wY_emit_144 post (nI k) (nI a) y z (nI N) (nI cap) (nI Q) (nI CS) (nI now) (nI cc) (nI tc) (nI kn) st gn lr pc wa dy tr par ce ct ca kd sg mx wd rs rg mon lk mc mk mf mv ms cel trd cnt) → (¬ g → post (-3) (nI N, nI cap, nI Q, nI CS, nI now, nI cc, nI tc, nI kn, st, gn, lr, pc, wa, dy, tr, par, ce, ct, ca, kd, sg, mx, wd, rs, rg, mon, lk, mc, mk, mf, mv, ms, cel, trd, cnt)) → wpY_emit post (nI N, nI cap, nI Q, nI CS, nI now, nI cc, nI tc, nI kn, st, gn, lr, pc, wa, dy, tr, par, ce, ct, ca, kd, sg, mx, wd, rs, rg, mon, lk, mc, mk, mf, mv, ms, cel, trd, cnt) (nI k) (nI a) y z) → ∃ (r : Int32) (u' : SX) (v' : SY), am_R K u' v' ∧ (∀ j, j < 8 → ¬ xSt u' j = 3) ∧ (∀ post : Int32 → SX → Prop, post r u' → wpX_emit post (fl, nI N, nI cap, nI Q, nI CS, nI cc, nI now, nI tc, op, oa, ob, oc, st, gn, lr, rg, pc, tr, wt, dl, mc, mk, mf, mv, ms, lm, mon, par, ce, ct, ca, sg, mx, wd, cn, cl, rc, rk, tp, tv, cnt) (nI k) (nI a) y z) ∧ (∀ post : Int32 → SY → Prop, post r v' → wpY_emit post (nI N, nI cap, nI Q, nI CS, nI now, nI cc, nI tc, nI kn, st, gn, lr, pc, wa, dy, tr, par, ce, ct, ca, kd, sg, mx, wd, rs, rg, mon, lk, mc, mk, mf, mv, ms, cel, trd, cnt) (nI k) (nI a) y z) := fun g hg h12 hX hY => by
        obtain ⟨r, u', v', R, n1, aX, aY⟩ := em_put I nf hk ha h12
        exact ⟨r, u', v', R, n1, fun post p => hX post (fun _ => aX post p) (fun w => absurd hg w), fun post p => hY post (fun _ => aY post p) (fun w => absurd hg w)⟩
      rcases (by omega : k = 0 ∨ k = 1 ∨ k = 2 ∨ k = 3 ∨ k = 4 ∨ k = 5 ∨ k = 6 ∨ k = 7 ∨ k = 8 ∨ k = 9 ∨ k = 10 ∨ k = 11 ∨ k = 12 ∨ k = 13 ∨ k = 14 ∨ k = 15 ∨ k = 16 ∨ k = 17 ∨ k = 18 ∨ k = 19 ∨ k = 20 ∨ k = 21) with e | e | e | e | e | e | e | e | e | e | e | e | e | e | e | e | e | e | e | e | e | e <;> subst e
      · by_cases g : True
        · exact Go _ g (fun w => absurd w (by decide)) (fun post => ex_0 ha) (fun post => ey_0 ha)
        · exact Bad _ g (fun post => ex_0 ha) (fun post => ey_0 ha)
      · by_cases g : 0 ≤ y ∧ y ≤ 7
        · exact Go _ g (fun w => absurd w (by decide)) (fun post => ex_1 ha) (fun post => ey_1 ha)
        · exact Bad _ g (fun post => ex_1 ha) (fun post => ey_1 ha)
      · by_cases g : 0 ≤ y ∧ y ≤ 7
        · exact Go _ g (fun w => absurd w (by decide)) (fun post => ex_2 ha) (fun post => ey_2 ha)
        · exact Bad _ g (fun post => ex_2 ha) (fun post => ey_2 ha)
      · by_cases g : 0 ≤ y ∧ y ≤ 7
        · exact Go _ g (fun w => absurd w (by decide)) (fun post => ex_3 ha) (fun post => ey_3 ha)
        · exact Bad _ g (fun post => ex_3 ha) (fun post => ey_3 ha)
      · by_cases g : 0 ≤ y ∧ y ≤ 7
        · exact Go _ g (fun w => absurd w (by decide)) (fun post => ex_4 ha) (fun post => ey_4 ha)
        · exact Bad _ g (fun post => ex_4 ha) (fun post => ey_4 ha)
      · by_cases g : 0 ≤ y ∧ y ≤ 7
        · exact Go _ g (fun w => absurd w (by decide)) (fun post => ex_5 ha) (fun post => ey_5 ha)
        · exact Bad _ g (fun post => ex_5 ha) (fun post => ey_5 ha)
      · by_cases g : 0 ≤ y ∧ y ≤ 63
        · exact Go _ g (fun w => absurd w (by decide)) (fun post => ex_6 ha) (fun post => ey_6 ha)
        · exact Bad _ g (fun post => ex_6 ha) (fun post => ey_6 ha)
      · by_cases g : 0 ≤ y ∧ y ≤ 63
        · exact Go _ g (fun w => absurd w (by decide)) (fun post => ex_7 ha) (fun post => ey_7 ha)
        · exact Bad _ g (fun post => ex_7 ha) (fun post => ey_7 ha)
      · by_cases g : 0 ≤ y ∧ y ≤ 63
        · exact Go _ g (fun w => absurd w (by decide)) (fun post => ex_8 ha) (fun post => ey_8 ha)
        · exact Bad _ g (fun post => ex_8 ha) (fun post => ey_8 ha)
      · by_cases g : True
        · exact Go _ g (fun w => absurd w (by decide)) (fun post => ex_9 ha) (fun post => ey_9 ha)
        · exact Bad _ g (fun post => ex_9 ha) (fun post => ey_9 ha)
      · by_cases g : 0 ≤ y ∧ y ≤ 63
        · exact Go _ g (fun w => absurd w (by decide)) (fun post => ex_10 ha) (fun post => ey_10 ha)
        · exact Bad _ g (fun post => ex_10 ha) (fun post => ey_10 ha)
      · by_cases g : 0 ≤ y ∧ y ≤ 7
        · exact Go _ g (fun w => absurd w (by decide)) (fun post => ex_11 ha) (fun post => ey_11 ha)
        · exact Bad _ g (fun post => ex_11 ha) (fun post => ey_11 ha)
      · by_cases g : (0 ≤ y ∧ y ≤ 6) ∧ ((-1) ≤ z ∧ z ≤ 100)
        · exact Go _ g (fun _ => g) (fun post => ex_12 ha) (fun post => ey_12 ha)
        · exact Bad _ g (fun post => ex_12 ha) (fun post => ey_12 ha)
      · by_cases g : True
        · exact Go _ g (fun w => absurd w (by decide)) (fun post => ex_13 ha) (fun post => ey_13 ha)
        · exact Bad _ g (fun post => ex_13 ha) (fun post => ey_13 ha)
      · by_cases g : True
        · exact Go _ g (fun w => absurd w (by decide)) (fun post => ex_14 ha) (fun post => ey_14 ha)
        · exact Bad _ g (fun post => ex_14 ha) (fun post => ey_14 ha)
      · by_cases g : True
        · exact Go _ g (fun w => absurd w (by decide)) (fun post => ex_15 ha) (fun post => ey_15 ha)
        · exact Bad _ g (fun post => ex_15 ha) (fun post => ey_15 ha)
      · by_cases g : True
        · exact Go _ g (fun w => absurd w (by decide)) (fun post => ex_16 ha) (fun post => ey_16 ha)
        · exact Bad _ g (fun post => ex_16 ha) (fun post => ey_16 ha)
      · by_cases g : 0 ≤ y ∧ y ≤ 1
        · exact Go _ g (fun w => absurd w (by decide)) (fun post => ex_17 ha) (fun post => ey_17 ha)
        · exact Bad _ g (fun post => ex_17 ha) (fun post => ey_17 ha)
      · by_cases g : True
        · exact Go _ g (fun w => absurd w (by decide)) (fun post => ex_18 ha) (fun post => ey_18 ha)
        · exact Bad _ g (fun post => ex_18 ha) (fun post => ey_18 ha)
      · by_cases g : 0 ≤ y ∧ y ≤ 7
        · exact Go _ g (fun w => absurd w (by decide)) (fun post => ex_19 ha) (fun post => ey_19 ha)
        · exact Bad _ g (fun post => ex_19 ha) (fun post => ey_19 ha)
      · by_cases g : True
        · exact Go _ g (fun w => absurd w (by decide)) (fun post => ex_20 ha) (fun post => ey_20 ha)
        · exact Bad _ g (fun post => ex_20 ha) (fun post => ey_20 ha)
      · by_cases g : True
        · exact Go _ g (fun w => absurd w (by decide)) (fun post => ex_21 ha) (fun post => ey_21 ha)
        · exact Bad _ g (fun post => ex_21 ha) (fun post => ey_21 ha)
    · refine ⟨-3, _, _, am_Ri I, nf, fun post p => ?_, fun post p => ?_⟩
      · refine br_f (Int32.not_lt.mpr c1.1) (br_f (Int32.not_lt.mpr c1.2) (br_c (fun _ => p) (fun q => br_f (fun w => c2 ⟨am_nlt q, w⟩) p)))
      · unfold wpY_emit
        refine yv_out (fun _ => br_t rfl ?_) (fun w => absurd c1 w)
        exact yv_out (fun w => absurd w c2) (fun _ => br_f am_10 p)
  · refine ⟨-3, _, _, am_Ri I, nf, fun post p => ?_, fun post p => ?_⟩
    · exact br_c (fun _ => p) (fun q => br_t (Int32.not_le.mp fun w => c1 ⟨am_nlt q, w⟩) p)
    · unfold wpY_emit
      exact yv_out (fun w => absurd w c1) (fun _ => br_f am_10 p)
end EM
end
section
/-! 36: spawn, supervisor, addChild, signal, relate, setTrap -/
def am_z1 (rs : Nat → Int32) (f t : Nat) : Nat → Int32 := fun j => if f * 1001 ≤ j ∧ j < f * 1001 + t then 0 else rs j
theorem am_z10 (rs : Nat → Int32) (f : Nat) : am_z1 rs f 0 = rs := funext fun j => if_neg (by omega)
theorem am_z1s (rs : Nat → Int32) (f t : Nat) : upd (am_z1 rs f t) (f * 1001 + t) 0 = am_z1 rs f (t + 1) := by
  funext j
  unfold upd am_z1
  by_cases h : j = f * 1001 + t
  · rw [if_pos h, if_pos (by omega)]
  · rw [if_neg h]
    by_cases h2 : f * 1001 ≤ j ∧ j < f * 1001 + t
    · rw [if_pos h2, if_pos (by omega)]
    · rw [if_neg h2, if_neg (by omega)]
section CA
variable {N cap Q CS cc now tc kn : Nat} {fl : Int32} {op oa ob oc st gn lr rg pc tr wt dl mc mk mf mv lm mon par ce ct ca sg mx wd cn cl rc rk tp tv wa dy kd rs lk cel trd : Nat → Int32} {ms cnt : Nat → Int64}
theorem nf_1 {f : Nat} (nf : ∀ j, j < 8 → ¬ st j = 3) {x : Int32} (hx : ¬ x = 3) : ∀ j, j < 8 → ¬ upd st f x j = 3 := fun j hj => by
  by_cases e : j = f
  · subst e; rw [pk_us]; exact hx
  · rw [pk_un e]; exact nf j hj
theorem ca_spawn {K : List Nat} {x y : Int32} (I : am_I K N cap Q CS cc now tc kn fl op oa ob oc st gn lr rg pc tr wt dl mc mk mf mv lm mon par ce ct ca sg mx wd cn cl rc rk tp tv wa dy kd rs lk cel trd ms cnt) (nf : ∀ j, j < 8 → ¬ st j = 3) : ∃ (r : Int32) (K' : List Nat) (u' : SX) (v' : SY), am_R K' u' v' ∧ (∀ j, j < 8 → ¬ xSt u' j = 3) ∧ (∀ post : Int32 → SX → Prop, post r u' → wpX_spawn post (fl, nI N, nI cap, nI Q, nI CS, nI cc, nI now, nI tc, op, oa, ob, oc, st, gn, lr, rg, pc, tr, wt, dl, mc, mk, mf, mv, ms, lm, mon, par, ce, ct, ca, sg, mx, wd, cn, cl, rc, rk, tp, tv, cnt) x y) ∧ (∀ post : Int32 → SY → Prop, post r v' → wpY_spawn post (nI N, nI cap, nI Q, nI CS, nI now, nI cc, nI tc, nI kn, st, gn, lr, pc, wa, dy, tr, par, ce, ct, ca, kd, sg, mx, wd, rs, rg, mon, lk, mc, mk, mf, mv, ms, cel, trd, cnt) x y) := by
  have hN : N ≤ 8 := I.1.2.1
  by_cases c : 0 ≤ x ∧ x ≤ 63
  · cases e : am_fs st 0 N with
    | none =>
      refine ⟨-2, K, _, _, am_Ri I, nf, fun post p => ?_, fun post p => ?_⟩
      · refine br_f (Int32.not_lt.mpr c.1) (br_t c.2 ?_)
        refine xv_free hN ?_
        rw [e]; exact br_f am_n1le p
      · unfold wpY_spawn
        refine yv_out (fun _ => br_t rfl ?_) (fun w => absurd c w)
        refine yv_free hN ?_
        rw [e]; exact br_f am_n1le p
    | some f =>
      obtain ⟨fN, f0⟩ := am_fs_some e
      have f8 : f < 8 := by omega
      obtain ⟨g, g1, g2⟩ := I.2.2.2.2.1 f f8
      have I' := st_I (en := x) (ar := y) (pa := 0) I (by omega) f0
      refine ⟨am_nx (gn f) * 8 + nI f, K, _, _, am_Ri I', nf_1 nf (by decide), fun post p => ?_, fun post p => ?_⟩
      · refine br_f (Int32.not_lt.mpr c.1) (br_t c.2 ?_)
        refine xv_free hN ?_
        rw [e]
        exact br_t (nI_pos' (by omega)) (xs_start f8 p)
      · unfold wpY_spawn
        refine yv_out (fun _ => br_t rfl ?_) (fun w => absurd c w)
        refine yv_free hN ?_
        rw [e]
        refine br_t (nI_pos' (by omega)) (ys_start f8 g2 g1 ?_)
        refine yv_pid f8 ?_
        rw [pk_us]
        exact p
  · refine ⟨-3, K, _, _, am_Ri I, nf, fun post p => ?_, fun post p => ?_⟩
    · exact br_c (fun _ => p) (fun q => br_f (fun w => c ⟨am_nlt q, w⟩) p)
    · unfold wpY_spawn
      exact yv_out (fun w => absurd w c) (fun _ => br_f am_10 p)
theorem su_I {K : List Nat} {f m w : Nat} {x : Int32} (I : am_I K N cap Q CS cc now tc kn fl op oa ob oc st gn lr rg pc tr wt dl mc mk mf mv lm mon par ce ct ca sg mx wd cn cl rc rk tp tv wa dy kd rs lk cel trd ms cnt) (hf : f < N) (h0 : st f = 0) (hx : x = 0 ∨ x = 1 ∨ x = 2) (hm : m ≤ 5) (hw1 : 1 ≤ w) (hw : w ≤ 100) : am_I K N cap Q CS cc now tc kn fl op oa ob oc (upd st f 2) (upd gn f (am_nx (gn f))) lr rg pc tr wt dl mc mk mf mv lm mon par ce ct ca (upd sg f x) (upd mx f (nI m)) (upd wd f (nI w)) (upd cn f 0) cl (upd rc f 0) rk tp tv wa dy kd (am_z1 rs f 1001) lk cel trd ms (vp_updL cnt 7 (cnt 7 + 1)) := by
  obtain ⟨h1, h2, h3, h4, h5, h6, h7, h8, h9, h10, h11, h12, h13⟩ := I
  have f8 : f < 8 := by have := h1.2.1; omega
  have fK : ¬ f ∈ K := fun z => by
    rcases (h11.1 f z).2.1 with e | e <;> rw [h0] at e <;> exact absurd e (by decide)
  have u1 : ∀ j, j < 8 → (upd st f 2 j = 1 ↔ st j = 1) := fun j _ => by
    by_cases e : j = f
    · subst e; rw [pk_us, h0]; decide
    · rw [pk_un e]
  have u2 : ∀ j, j < 8 → st j = 2 → upd st f 2 j = 2 := fun j _ z => by
    by_cases e : j = f
    · subst e; exact pk_us
    · rw [pk_un e]; exact z
  refine ⟨h1, h2, h3, fun j hj => ?_, fun j hj => ?_, am_tM h6 u1, am_tW h7 (fun j hj z => (u1 j hj).mp z), am_tL h8 (fun j hj z => (u1 j hj).mpr z), am_tMo h9 (fun j hj z => (u1 j hj).mpr z) u2, h10, ⟨fun y hy => ?_, fun j hj hn => ?_⟩, fun t ht e => ?_, fun t ht e => ?_⟩
  · by_cases e : j = f
    · subst e; rw [pk_us]; exact ⟨Or.inr (Or.inr (Or.inl rfl)), fun z => absurd z (by omega)⟩
    · rw [pk_un e]; exact h4 j hj
  · by_cases e : j = f
    · subst e
      obtain ⟨g, g1, g2⟩ := h5 j hj
      rw [pk_us, g2]
      obtain ⟨g', x1, x2, -⟩ := am_nx_le g1
      exact ⟨g', x1, x2⟩
    · rw [pk_un e]; exact h5 j hj
  · have yf : y ≠ f := fun e => fK (e ▸ hy)
    obtain ⟨a1, a2, p, a3, a4, a5⟩ := h11.1 y hy
    rw [pk_un yf]
    exact ⟨a1, a2, p, a3, a4, u2 p a3 a5⟩
  · obtain ⟨a1, a2⟩ := h11.2 j hj hn
    refine ⟨a1, ?_⟩
    by_cases e : j = f
    · subst e; rw [pk_us]; decide
    · rw [pk_un e]; exact a2
  · by_cases q : t = f
    · subst q
      have ec : am_CL K par t = [] := by
        unfold am_CL
        rw [List.filter_eq_nil_iff]
        intro y hy
        obtain ⟨-, -, p, p1, p2, p3⟩ := h11.1 y hy
        rw [decide_eq_true_eq]
        intro z
        have : p = t := am_im (by rw [← p2, z]) (by omega) (by omega)
        rw [this, h0] at p3
        exact absurd p3 (by decide)
      rw [ec]
      exact ⟨pk_us, fun i y h => absurd h (by simp)⟩
    · rw [pk_un q] at e
      obtain ⟨b1, b2⟩ := h12 t ht e
      exact ⟨(pk_un q).trans b1, b2⟩
  · by_cases q : t = f
    · subst q
      rw [pk_us, pk_us]
      refine ⟨hx, ⟨m, hm, rfl⟩, w, 0, fun _ => 0, hw1, hw, pk_us, by omega, pk_us, fun i hi => absurd hi (by omega), fun i hi => absurd hi (by omega), fun k hk _ => ?_⟩
      exact if_pos (by omega)
    · rw [pk_un q] at e
      obtain ⟨x1, x2, w', c', f', y1, y2, y3, y4, y5, y6, y7, y8⟩ := h13 t ht e
      rw [pk_un q, pk_un q]
      refine ⟨x1, x2, w', c', f', y1, y2, (pk_un q).trans y3, y4, (pk_un q).trans y5, y6, y7, fun k hk hk2 => ?_⟩
      exact (if_neg (by omega)).trans (y8 k hk hk2)
theorem yc_82 {post : Int32 → SY → Prop} {f : Nat} (hf : f < 8) (h : post (gn f * 8 + nI f) (nI N, nI cap, nI Q, nI CS, nI now, nI cc, nI tc, nI kn, st, gn, lr, pc, wa, dy, tr, par, ce, ct, ca, kd, sg, mx, wd, am_z1 rs f 1001, rg, mon, lk, mc, mk, mf, mv, ms, cel, trd, cnt)) : ∀ d t n, t + d = 1001 → d < n → wY_supervisor_82 post (nI f) (nI N) (nI cap) (nI Q) (nI CS) (nI now) (nI cc) (nI tc) (nI kn) n (nI t) st gn lr pc wa dy tr par ce ct ca kd sg mx wd (am_z1 rs f t) rg mon lk mc mk mf mv ms cel trd cnt := by
  intro d
  induction d with
  | zero =>
    intro t n ht hn
    obtain ⟨m, rfl⟩ : ∃ m, n = m + 1 := ⟨n - 1, by omega⟩
    obtain rfl : t = 1001 := ht
    refine br_t (by decide) ?_
    exact yv_pid hf h
  | succ d ih =>
    intro t n ht hn
    obtain ⟨m, rfl⟩ : ∃ m, n = m + 1 := ⟨n - 1, by omega⟩
    refine br_f (nI_ge (b := 1001) (by omega) (by omega)) ⟨pk_in (f * 1001 + t) 8008 (by omega) (am_1001 f t), nm_r (e' := am_z1 rs f (t + 1)) (by rw [am_1001, nI_clamp (by omega), am_z1s]) (nm_r (nI_1 t) (ih (t + 1) m (by omega) (by omega)))⟩
theorem ca_sup {K : List Nat} {x y z : Int32} (I : am_I K N cap Q CS cc now tc kn fl op oa ob oc st gn lr rg pc tr wt dl mc mk mf mv lm mon par ce ct ca sg mx wd cn cl rc rk tp tv wa dy kd rs lk cel trd ms cnt) (nf : ∀ j, j < 8 → ¬ st j = 3) : ∃ (r : Int32) (K' : List Nat) (u' : SX) (v' : SY), am_R K' u' v' ∧ (∀ j, j < 8 → ¬ xSt u' j = 3) ∧ (∀ post : Int32 → SX → Prop, post r u' → wpX_supervisor post (fl, nI N, nI cap, nI Q, nI CS, nI cc, nI now, nI tc, op, oa, ob, oc, st, gn, lr, rg, pc, tr, wt, dl, mc, mk, mf, mv, ms, lm, mon, par, ce, ct, ca, sg, mx, wd, cn, cl, rc, rk, tp, tv, cnt) x y z) ∧ (∀ post : Int32 → SY → Prop, post r v' → wpY_supervisor post (nI N, nI cap, nI Q, nI CS, nI now, nI cc, nI tc, nI kn, st, gn, lr, pc, wa, dy, tr, par, ce, ct, ca, kd, sg, mx, wd, rs, rg, mon, lk, mc, mk, mf, mv, ms, cel, trd, cnt) x y z) := by
  have hN : N ≤ 8 := I.1.2.1
  by_cases c1 : 0 ≤ x ∧ x ≤ 2
  · by_cases c2 : 0 ≤ y ∧ y ≤ 5
    · by_cases c3 : 1 ≤ z ∧ z ≤ 100
      · cases e : am_fs st 0 N with
        | none =>
          refine ⟨-2, K, _, _, am_Ri I, nf, fun post p => ?_, fun post p => ?_⟩
          · refine br_f (Int32.not_lt.mpr c1.1) (br_t c1.2 (br_f (Int32.not_lt.mpr c2.1) (br_t c2.2 (br_f (Int32.not_lt.mpr c3.1) (br_t c3.2 ?_)))))
            refine xv_free hN ?_
            rw [e]; exact br_f am_n1le p
          · unfold wpY_supervisor
            refine yv_out (fun _ => br_t rfl ?_) (fun w => absurd c1 w)
            refine yv_out (fun _ => br_t rfl ?_) (fun w => absurd c2 w)
            refine yv_out (fun _ => br_t rfl ?_) (fun w => absurd c3 w)
            refine yv_free hN ?_
            rw [e]; exact br_f am_n1le p
        | some f =>
          obtain ⟨fN, f0⟩ := am_fs_some e
          have f8 : f < 8 := by omega
          obtain ⟨g, g1, g2⟩ := I.2.2.2.2.1 f f8
          obtain ⟨xx, hxx, ex⟩ := nI_of2 (x := x) (M := 2) (n := 2) (by decide) (Int32.not_lt.mpr c1.1) c1.2
          obtain ⟨m, hm, rfl⟩ := nI_of2 (x := y) (M := 5) (n := 5) (by decide) (Int32.not_lt.mpr c2.1) c2.2
          obtain ⟨w, hw, rfl⟩ := nI_of2 (x := z) (M := 100) (n := 100) (by decide) (Int32.not_lt.mpr (Int32.le_trans (by decide) c3.1)) c3.2
          have hw1 : 1 ≤ w := (nI_leI (a := 1) (by omega) (by omega)).mp c3.1
          have hx3 : x = 0 ∨ x = 1 ∨ x = 2 := by
            rw [ex]
            rcases (by omega : xx = 0 ∨ xx = 1 ∨ xx = 2) with q | q | q <;> subst q
            · exact Or.inl rfl
            · exact Or.inr (Or.inl rfl)
            · exact Or.inr (Or.inr rfl)
          have I' := su_I I (by omega) f0 hx3 hm hw1 hw
          have i1 : vp_in (nI f) 8 := vp_in_nI f8 (by omega)
          have e1 : (nI f).toNatClampNeg = f := nI_clamp (by omega)
          refine ⟨am_nx (gn f) * 8 + nI f, K, _, _, am_Ri I', nf_1 nf (by decide), fun post p => ?_, fun post p => ?_⟩
          · refine br_f (Int32.not_lt.mpr c1.1) (br_t c1.2 (br_f (Int32.not_lt.mpr c2.1) (br_t c2.2 (br_f (Int32.not_lt.mpr c3.1) (br_t c3.2 ?_)))))
            refine xv_free hN ?_
            rw [e]
            refine br_t (nI_pos' (by omega)) (xs_gen f8 ⟨i1, nm_r (e' := upd st f 2) (by show upd st (nI f).toNatClampNeg 2 = _; rw [e1]) ⟨i1, nm_r (e' := upd sg f x) (by show upd sg (nI f).toNatClampNeg x = _; rw [e1]) ⟨i1, nm_r (e' := upd mx f (nI m)) (by show upd mx (nI f).toNatClampNeg _ = _; rw [e1]) ⟨i1, nm_r (e' := upd wd f (nI w)) (by show upd wd (nI f).toNatClampNeg _ = _; rw [e1]) ⟨i1, nm_r (e' := upd cn f 0) (by show upd cn (nI f).toNatClampNeg _ = _; rw [e1]) ⟨i1, nm_r (e' := upd rc f 0) (by show upd rc (nI f).toNatClampNeg _ = _; rw [e1]) ?_⟩⟩⟩⟩⟩⟩)
            refine xv_pid f8 ?_
            rw [pk_us]
            exact p
          · unfold wpY_supervisor
            refine yv_out (fun _ => br_t rfl ?_) (fun w => absurd c1 w)
            refine yv_out (fun _ => br_t rfl ?_) (fun w => absurd c2 w)
            refine yv_out (fun _ => br_t rfl ?_) (fun w => absurd c3 w)
            refine yv_free hN ?_
            rw [e]
            refine br_t (nI_pos' (by omega)) (ys_begin f8 g2 g1 ⟨i1, nm_r (e' := upd sg f x) (by show upd sg (nI f).toNatClampNeg x = _; rw [e1]) ⟨i1, nm_r (e' := upd mx f (nI m)) (by show upd mx (nI f).toNatClampNeg _ = _; rw [e1]) ⟨i1, nm_r (e' := upd wd f (nI w)) (by show upd wd (nI f).toNatClampNeg _ = _; rw [e1]) ⟨1002, ?_⟩⟩⟩⟩)
            have z := yc_82 (N := N) (cap := cap) (Q := Q) (CS := CS) (now := now) (cc := cc) (tc := tc) (kn := kn) (st := upd st f 2) (gn := upd gn f (am_nx (gn f))) (lr := lr) (pc := pc) (wa := wa) (dy := dy) (tr := tr) (par := par) (ce := ce) (ct := ct) (ca := ca) (kd := kd) (sg := upd sg f x) (mx := upd mx f (nI m)) (wd := upd wd f (nI w)) (rs := rs) (rg := rg) (mon := mon) (lk := lk) (mc := mc) (mk := mk) (mf := mf) (mv := mv) (ms := ms) (cel := cel) (trd := trd) (cnt := vp_updL cnt 7 (cnt 7 + 1)) (post := post) f8 (by rw [pk_us]; exact p) 1001 0 1002 (by omega) (by omega)
            rw [am_z10] at z
            exact z
      · refine ⟨-3, K, _, _, am_Ri I, nf, fun post p => ?_, fun post p => ?_⟩
        · exact br_f (Int32.not_lt.mpr c1.1) (br_t c1.2 (br_f (Int32.not_lt.mpr c2.1) (br_t c2.2 (br_c (fun _ => p) (fun q => br_f (fun w => c3 ⟨am_nlt q, w⟩) p)))))
        · unfold wpY_supervisor
          refine yv_out (fun _ => br_t rfl ?_) (fun w => absurd c1 w)
          refine yv_out (fun _ => br_t rfl ?_) (fun w => absurd c2 w)
          exact yv_out (fun w => absurd w c3) (fun _ => br_f am_10 p)
    · refine ⟨-3, K, _, _, am_Ri I, nf, fun post p => ?_, fun post p => ?_⟩
      · exact br_f (Int32.not_lt.mpr c1.1) (br_t c1.2 (br_c (fun _ => p) (fun q => br_f (fun w => c2 ⟨am_nlt q, w⟩) p)))
      · unfold wpY_supervisor
        refine yv_out (fun _ => br_t rfl ?_) (fun w => absurd c1 w)
        exact yv_out (fun w => absurd w c2) (fun _ => br_f am_10 p)
  · refine ⟨-3, K, _, _, am_Ri I, nf, fun post p => ?_, fun post p => ?_⟩
    · exact br_c (fun _ => p) (fun q => br_f (fun w => c1 ⟨am_nlt q, w⟩) p)
    · unfold wpY_supervisor
      exact yv_out (fun w => absurd w c1) (fun _ => br_f am_10 p)
theorem ac_I {K : List Nat} {f s : Nat} {x y z : Int32} (I : am_I K N cap Q CS cc now tc kn fl op oa ob oc st gn lr rg pc tr wt dl mc mk mf mv lm mon par ce ct ca sg mx wd cn cl rc rk tp tv wa dy kd rs lk cel trd ms cnt) (hf : f < 8) (h1f : st f = 1) (fK : ¬ f ∈ K) (hs : s < 8) (hs2 : st s = 2) : am_I (K ++ [f]) N cap Q CS cc now tc (K.length + 1) fl op oa ob oc st gn lr rg pc tr wt dl mc mk mf mv lm mon (upd par f (nI s)) (upd ce f x) (upd ct f y) (upd ca f z) sg mx wd (upd cn s (nI ((am_CL K par s).length + 1))) (upd cl (s * 8 + (am_CL K par s).length) (nI f)) rc rk tp tv wa dy (upd kd K.length (nI f)) rs lk cel trd ms cnt := by
  obtain ⟨h1, h2, h3, h4, h5, h6, h7, h8, h9, ⟨k1, k2, k3⟩, h11, h12, h13⟩ := I
  have k8 : ∀ x, x ∈ K → x < 8 := fun x hx => (h11.1 x hx).1
  have nd : (f :: K).Nodup := List.nodup_cons.mpr ⟨fK, k1⟩
  have l7 : K.length + 1 ≤ 8 := by
    have := am_len 8 (f :: K) nd (fun x hx => (List.mem_cons.mp hx).elim (fun e => e ▸ hf) (k8 x))
    rw [List.length_cons] at this; exact this
  have c7 : (am_CL K par s).length + 1 ≤ 8 := by
    have := am_CL8 (K := K) (par := par) (s := s); omega
  have pu : ∀ x, x ∈ K → upd par f (nI s) x = par x := fun x hx => pk_un fun e => fK (e ▸ hx)
  have es : am_CL (K ++ [f]) (upd par f (nI s)) s = am_CL K par s ++ [f] := by
    unfold am_CL
    rw [List.filter_append, List.filter_cons_of_pos (by rw [pk_us]; simp), List.filter_nil]
    exact congrArg (· ++ [f]) (List.filter_congr fun x hx => by rw [pu x hx])
  have et : ∀ t, t < 8 → t ≠ s → am_CL (K ++ [f]) (upd par f (nI s)) t = am_CL K par t := fun t ht e => by
    unfold am_CL
    rw [List.filter_append, List.filter_cons_of_neg (by rw [pk_us, decide_eq_true_eq]; exact fun z => e (am_im z (by omega) (by omega)).symm), List.filter_nil, List.append_nil]
    exact List.filter_congr fun x hx => by rw [pu x hx]
  refine ⟨h1, h2, h3, h4, h5, h6, h7, h8, h9, ⟨?_, ?_, fun i x hx => ?_⟩, ⟨fun x hx => ?_, fun j hj hn => ?_⟩, fun t ht e => ?_, h13⟩
  · refine List.nodup_append.mpr ⟨k1, List.nodup_cons.mpr ⟨List.not_mem_nil, List.nodup_nil⟩, fun a ha b hb e => ?_⟩
    rw [List.mem_singleton] at hb
    exact fK (by rw [← hb, ← e]; exact ha)
  · rw [List.length_append, List.length_singleton]
  · rcases am_get_app hx with q | ⟨q1, q2⟩
    · have hi : i < K.length := by
        refine Classical.byContradiction fun no => ?_
        rw [List.getElem?_eq_none (by omega)] at q
        exact absurd q (by simp)
      rw [pk_un (by omega)]; exact k3 i x q
    · rw [q1, pk_us, q2]
  · rcases List.mem_append.mp hx with q | q
    · rw [pu x q]; exact h11.1 x q
    · rw [List.mem_singleton] at q
      rw [q]
      exact ⟨hf, Or.inl h1f, s, hs, pk_us, hs2⟩
  · have jf : j ≠ f := fun e => hn (List.mem_append_right _ (by rw [e]; exact List.mem_singleton.mpr rfl))
    rw [pk_un jf]
    exact h11.2 j hj fun z => hn (List.mem_append_left _ z)
  · by_cases q : t = s
    · subst q
      rw [es]
      obtain ⟨b1, b2⟩ := h12 t ht e
      refine ⟨by rw [pk_us, List.length_append, List.length_singleton], fun i x hx => ?_⟩
      rcases am_get_app hx with w | ⟨w1, w2⟩
      · have hi : i < (am_CL K par t).length := by
          refine Classical.byContradiction fun no => ?_
          rw [List.getElem?_eq_none (by omega)] at w
          exact absurd w (by simp)
        rw [pk_un (by omega)]; exact b2 i x w
      · rw [w1, pk_us, w2]
    · rw [et t ht q]
      obtain ⟨b1, b2⟩ := h12 t ht e
      refine ⟨(pk_un q).trans b1, fun i x hx => ?_⟩
      have il : i < 8 := by
        refine Classical.byContradiction fun no => ?_
        have w := am_CL8 (K := K) (par := par) (s := t)
        rw [List.getElem?_eq_none (by omega)] at hx
        exact absurd hx (by simp)
      rw [pk_un (by omega)]; exact b2 i x hx
theorem ca_add {K : List Nat} {pS x y z : Int32} (I : am_I K N cap Q CS cc now tc kn fl op oa ob oc st gn lr rg pc tr wt dl mc mk mf mv lm mon par ce ct ca sg mx wd cn cl rc rk tp tv wa dy kd rs lk cel trd ms cnt) (nf : ∀ j, j < 8 → ¬ st j = 3) : ∃ (r : Int32) (K' : List Nat) (u' : SX) (v' : SY), am_R K' u' v' ∧ (∀ j, j < 8 → ¬ xSt u' j = 3) ∧ (∀ post : Int32 → SX → Prop, post r u' → wpX_addChild post (fl, nI N, nI cap, nI Q, nI CS, nI cc, nI now, nI tc, op, oa, ob, oc, st, gn, lr, rg, pc, tr, wt, dl, mc, mk, mf, mv, ms, lm, mon, par, ce, ct, ca, sg, mx, wd, cn, cl, rc, rk, tp, tv, cnt) pS x y z) ∧ (∀ post : Int32 → SY → Prop, post r v' → wpY_addChild post (nI N, nI cap, nI Q, nI CS, nI now, nI cc, nI tc, nI kn, st, gn, lr, pc, wa, dy, tr, par, ce, ct, ca, kd, sg, mx, wd, rs, rg, mon, lk, mc, mk, mf, mv, ms, cel, trd, cnt) pS x y z) := by
  have hN : N ≤ 8 := I.1.2.1
  cases es : am_fd N st gn pS with
  | none =>
    refine ⟨-1, K, _, _, am_Ri I, nf, fun post p => ?_, fun post p => ?_⟩
    · unfold wpX_addChild
      refine xv_live hN ?_
      rw [es]; exact br_t am_n1lt p
    · unfold wpY_addChild
      refine yv_live hN ?_
      rw [es]; exact br_t am_n1lt p
  | some s =>
    obtain ⟨sN, s8, -, -⟩ := am_fd_some es
    have i1 : vp_in (nI s) 8 := vp_in_nI s8 (by omega)
    have e1 : (nI s).toNatClampNeg = s := nI_clamp (by omega)
    have p0 : ¬ nI s < 0 := nI_pos (by omega)
    by_cases hs2 : st s = 2
    · by_cases c1 : 0 ≤ x ∧ x ≤ 63
      · by_cases c2 : 0 ≤ y ∧ y ≤ 2
        · cases e : am_fs st 0 N with
          | none =>
            refine ⟨-2, K, _, _, am_Ri I, nf, fun post p => ?_, fun post p => ?_⟩
            · unfold wpX_addChild
              refine xv_live hN ?_
              rw [es]
              refine br_f p0 ⟨i1, br_t (by show st (nI s).toNatClampNeg = 2; rw [e1]; exact hs2) (br_f (Int32.not_lt.mpr c1.1) (br_t c1.2 (br_f (Int32.not_lt.mpr c2.1) (br_t c2.2 ?_))))⟩
              refine xv_free hN ?_
              rw [e]; exact br_t am_n1lt p
            · unfold wpY_addChild
              refine yv_live hN ?_
              rw [es]
              refine br_f p0 ⟨i1, br_t (by show st (nI s).toNatClampNeg = 2; rw [e1]; exact hs2) ?_⟩
              refine yv_out (fun _ => br_t rfl ?_) (fun w => absurd c1 w)
              refine yv_out (fun _ => br_t rfl ?_) (fun w => absurd c2 w)
              refine yv_free hN ?_
              rw [e]; exact br_t am_n1lt p
          | some f =>
            obtain ⟨fN, f0⟩ := am_fs_some e
            have f8 : f < 8 := by omega
            have fp : ¬ nI f < 0 := nI_pos (by omega)
            obtain ⟨g, g1, g2⟩ := I.2.2.2.2.1 f f8
            have hKs := I.2.2.2.2.2.2.2.2.2.2.1
            have hKy := I.2.2.2.2.2.2.2.2.2.1
            have hX := I.2.2.2.2.2.2.2.2.2.2.2.1 s s8 hs2
            have fK : ¬ f ∈ K := fun w => by
              rcases (hKs.1 f w).2.1 with q | q <;> rw [f0] at q <;> exact absurd q (by decide)
            have k8 : ∀ x, x ∈ K → x < 8 := fun x hx => (hKs.1 x hx).1
            have l7 : K.length + 1 ≤ 8 := by
              have := am_len 8 (f :: K) (List.nodup_cons.mpr ⟨fK, hKy.1⟩) (fun x hx => (List.mem_cons.mp hx).elim (fun q => q ▸ f8) (k8 x))
              rw [List.length_cons] at this; exact this
            have c7 : (am_CL K par s).length + 1 ≤ 8 := by
              have := am_CL8 (K := K) (par := par) (s := s); omega
            have sf : s ≠ f := fun q => by rw [q, f0] at hs2; exact absurd hs2 (by decide)
            have I1 := st_I (en := x) (ar := z) (pa := pS) I (by omega) f0
            have I' := ac_I (f := f) (s := s) (x := x) (y := y) (z := z) I1 f8 pk_us fK s8 (by rw [pk_un sf]; exact hs2)
            have j1 : vp_in (nI f) 8 := vp_in_nI f8 (by omega)
            have d1 : (nI f).toNatClampNeg = f := nI_clamp (by omega)
            have kl : kn = K.length := hKy.2.1
            refine ⟨am_nx (gn f) * 8 + nI f, K ++ [f], _, _, am_Ri I', nf_1 nf (by decide), fun post p => ?_, fun post p => ?_⟩
            · unfold wpX_addChild
              refine xv_live hN ?_
              rw [es]
              refine br_f p0 ⟨i1, br_t (by show st (nI s).toNatClampNeg = 2; rw [e1]; exact hs2) (br_f (Int32.not_lt.mpr c1.1) (br_t c1.2 (br_f (Int32.not_lt.mpr c2.1) (br_t c2.2 ?_))))⟩
              refine xv_free hN ?_
              rw [e]
              have ec : cn (am_o (some s)).toNatClampNeg = nI (am_CL K par s).length := by
                show cn (nI s).toNatClampNeg = _
                rw [e1]; exact hX.1
              have e8 : am_o (some s) * 8 + nI (am_CL K par s).length = nI (s * 8 + (am_CL K par s).length) := am_8 s _
              refine br_f fp ⟨i1, ?_⟩
              rw [ec]
              refine br_t (nI_lt (b := 8) (by omega) (by omega)) ⟨i1, ?_⟩
              rw [e8]
              refine ⟨vp_in_nI (by omega) (by omega), nm_r (e' := upd cl (s * 8 + (am_CL K par s).length) (nI f)) (by rw [nI_clamp (by omega)]; rfl) ⟨i1, i1, nm_r (e' := upd cn s (nI ((am_CL K par s).length + 1))) (by rw [nI_1]; show upd cn (nI s).toNatClampNeg _ = _; rw [e1]) ⟨j1, nm_r (e' := upd par f (nI s)) (by show upd par (nI f).toNatClampNeg _ = _; rw [d1]; rfl) ⟨j1, nm_r (e' := upd ce f x) (by show upd ce (nI f).toNatClampNeg _ = _; rw [d1]) ⟨j1, nm_r (e' := upd ct f y) (by show upd ct (nI f).toNatClampNeg _ = _; rw [d1]) ⟨j1, nm_r (e' := upd ca f z) (by show upd ca (nI f).toNatClampNeg _ = _; rw [d1]) (xs_start f8 p)⟩⟩⟩⟩⟩⟩
            · unfold wpY_addChild
              refine yv_live hN ?_
              rw [es]
              refine br_f p0 ⟨i1, br_t (by show st (nI s).toNatClampNeg = 2; rw [e1]; exact hs2) ?_⟩
              refine yv_out (fun _ => br_t rfl ?_) (fun w => absurd c1 w)
              refine yv_out (fun _ => br_t rfl ?_) (fun w => absurd c2 w)
              refine yv_free hN ?_
              rw [e, kl]
              refine br_f fp (br_t (nI_lt (b := 8) (by omega) (by omega)) ⟨vp_in_nI (by omega) (by omega), nm_r (e' := upd kd K.length (nI f)) (by rw [nI_clamp (by omega)]; rfl) (nm_r (nI_1 _) ⟨j1, nm_r (e' := upd par f (nI s)) (by show upd par (nI f).toNatClampNeg _ = _; rw [d1]; rfl) ⟨j1, nm_r (e' := upd ce f x) (by show upd ce (nI f).toNatClampNeg _ = _; rw [d1]) ⟨j1, nm_r (e' := upd ct f y) (by show upd ct (nI f).toNatClampNeg _ = _; rw [d1]) ⟨j1, nm_r (e' := upd ca f z) (by show upd ca (nI f).toNatClampNeg _ = _; rw [d1]) (ys_start f8 g2 g1 ?_)⟩⟩⟩⟩)⟩)
              refine yv_pid f8 ?_
              rw [pk_us]
              exact p
        · refine ⟨-3, K, _, _, am_Ri I, nf, fun post p => ?_, fun post p => ?_⟩
          · unfold wpX_addChild
            refine xv_live hN ?_
            rw [es]
            exact br_f p0 ⟨i1, br_t (by show st (nI s).toNatClampNeg = 2; rw [e1]; exact hs2) (br_f (Int32.not_lt.mpr c1.1) (br_t c1.2 (br_c (fun _ => p) (fun q => br_f (fun w => c2 ⟨am_nlt q, w⟩) p))))⟩
          · unfold wpY_addChild
            refine yv_live hN ?_
            rw [es]
            refine br_f p0 ⟨i1, br_t (by show st (nI s).toNatClampNeg = 2; rw [e1]; exact hs2) ?_⟩
            refine yv_out (fun _ => br_t rfl ?_) (fun w => absurd c1 w)
            exact yv_out (fun w => absurd w c2) (fun _ => br_f am_10 p)
      · refine ⟨-3, K, _, _, am_Ri I, nf, fun post p => ?_, fun post p => ?_⟩
        · unfold wpX_addChild
          refine xv_live hN ?_
          rw [es]
          exact br_f p0 ⟨i1, br_t (by show st (nI s).toNatClampNeg = 2; rw [e1]; exact hs2) (br_c (fun _ => p) (fun q => br_f (fun w => c1 ⟨am_nlt q, w⟩) p))⟩
        · unfold wpY_addChild
          refine yv_live hN ?_
          rw [es]
          refine br_f p0 ⟨i1, br_t (by show st (nI s).toNatClampNeg = 2; rw [e1]; exact hs2) ?_⟩
          exact yv_out (fun w => absurd w c1) (fun _ => br_f am_10 p)
    · refine ⟨-1, K, _, _, am_Ri I, nf, fun post p => ?_, fun post p => ?_⟩
      · unfold wpX_addChild
        refine xv_live hN ?_
        rw [es]
        exact br_f p0 ⟨i1, br_f (by show ¬ st (nI s).toNatClampNeg = 2; rw [e1]; exact hs2) p⟩
      · unfold wpY_addChild
        refine yv_live hN ?_
        rw [es]
        exact br_f p0 ⟨i1, br_f (by show ¬ st (nI s).toNatClampNeg = 2; rw [e1]; exact hs2) p⟩
theorem ca_sig {K : List Nat} {x y : Int32} (I : am_I K N cap Q CS cc now tc kn fl op oa ob oc st gn lr rg pc tr wt dl mc mk mf mv lm mon par ce ct ca sg mx wd cn cl rc rk tp tv wa dy kd rs lk cel trd ms cnt) : ∃ (r : Int32) (K' : List Nat) (u' : SX) (v' : SY), am_R K' u' v' ∧ (∀ j, j < 8 → ¬ xSt u' j = 3) ∧ (∀ post : Int32 → SX → Prop, post r u' → wpX_signal post (fl, nI N, nI cap, nI Q, nI CS, nI cc, nI now, nI tc, op, oa, ob, oc, st, gn, lr, rg, pc, tr, wt, dl, mc, mk, mf, mv, ms, lm, mon, par, ce, ct, ca, sg, mx, wd, cn, cl, rc, rk, tp, tv, cnt) x y) ∧ (∀ post : Int32 → SY → Prop, post r v' → wpY_signal post (nI N, nI cap, nI Q, nI CS, nI now, nI cc, nI tc, nI kn, st, gn, lr, pc, wa, dy, tr, par, ce, ct, ca, kd, sg, mx, wd, rs, rg, mon, lk, mc, mk, mf, mv, ms, cel, trd, cnt) x y) := by
  obtain ⟨r, K1, u1, v1, R1, -, aX, aY⟩ := ds_sig (p := x) (fr := 0) (r := y) I
  obtain ⟨K2, u2, v2, R2, b1, -, -, bX, bY⟩ := sp_join R1
  refine ⟨r, K2, u2, v2, R2, b1, fun post p => ?_, fun post p => ?_⟩
  · unfold wpX_signal
    exact aX _ (bX _ p)
  · unfold wpY_signal
    exact aY _ (bY _ p)
theorem ca_rel {K : List Nat} {x pA pB : Int32} (I : am_I K N cap Q CS cc now tc kn fl op oa ob oc st gn lr rg pc tr wt dl mc mk mf mv lm mon par ce ct ca sg mx wd cn cl rc rk tp tv wa dy kd rs lk cel trd ms cnt) (nf : ∀ j, j < 8 → ¬ st j = 3) : ∃ (r : Int32) (K' : List Nat) (u' : SX) (v' : SY), am_R K' u' v' ∧ (∀ j, j < 8 → ¬ xSt u' j = 3) ∧ (∀ post : Int32 → SX → Prop, post r u' → wpX_relate post (fl, nI N, nI cap, nI Q, nI CS, nI cc, nI now, nI tc, op, oa, ob, oc, st, gn, lr, rg, pc, tr, wt, dl, mc, mk, mf, mv, ms, lm, mon, par, ce, ct, ca, sg, mx, wd, cn, cl, rc, rk, tp, tv, cnt) x pA pB) ∧ (∀ post : Int32 → SY → Prop, post r v' → wpY_relate post (nI N, nI cap, nI Q, nI CS, nI now, nI cc, nI tc, nI kn, st, gn, lr, pc, wa, dy, tr, par, ce, ct, ca, kd, sg, mx, wd, rs, rg, mon, lk, mc, mk, mf, mv, ms, cel, trd, cnt) x pA pB) := by
  have hN : N ≤ 8 := I.1.2.1
  by_cases c : 0 ≤ x ∧ x ≤ 3
  · obtain ⟨w, hw, rfl⟩ := nI_of2 (x := x) (M := 3) (n := 3) (by decide) (Int32.not_lt.mpr c.1) c.2
    cases e : am_fw N st gn pA with
    | none =>
      refine ⟨-1, K, _, _, am_Ri I, nf, fun post p => ?_, fun post p => ?_⟩
      · refine br_f (nI_pos (by omega)) (br_t c.2 ?_)
        refine xv_worker hN ?_
        rw [e]; exact br_f am_n1le p
      · unfold wpY_relate
        refine yv_out (fun _ => br_t rfl ?_) (fun w => absurd c w)
        refine yv_worker hN ?_
        refine yv_live hN ?_
        rw [e]; exact br_f am_n1le p
    | some a =>
      obtain ⟨aN, a8, a1, ae⟩ := am_fw_some e
      obtain ⟨r, K1, u1, v1, R1, t1, aX, aY⟩ := rl_from (a := a) (w := w) (pB := pB) I aN a1 hw
      rw [ae] at aY
      have X' : ∀ u2 : SX, (∀ post : SX → Prop, post u2 → wpX_settle post u1) → ∀ post : Int32 → SX → Prop, post r u2 → wpX_relate post (fl, nI N, nI cap, nI Q, nI CS, nI cc, nI now, nI tc, op, oa, ob, oc, st, gn, lr, rg, pc, tr, wt, dl, mc, mk, mf, mv, ms, lm, mon, par, ce, ct, ca, sg, mx, wd, cn, cl, rc, rk, tp, tv, cnt) (nI w) pA pB := fun u2 bX post p => by
        refine br_f (nI_pos (by omega)) (br_t c.2 ?_)
        refine xv_worker hN ?_
        rw [e]
        exact br_t (nI_pos' (by omega)) (aX _ (bX _ p))
      rcases aY with ⟨es, aY⟩ | aY
      · have nf1 : ∀ j, j < 8 → ¬ xSt u1 j = 3 := fun j hj => by rw [es]; exact nf j hj
        have n2 := sp_nf R1 nf1
        exact ⟨r, K1, u1, v1, R1, nf1, X' u1 n2.1, aY⟩
      · obtain ⟨K2, u2, v2, R2, b1, -, -, bX, bY⟩ := sp_join R1
        exact ⟨r, K2, u2, v2, R2, b1, X' u2 bX, fun post p => aY post (bY _ p)⟩
  · refine ⟨-3, K, _, _, am_Ri I, nf, fun post p => ?_, fun post p => ?_⟩
    · exact br_c (fun _ => p) (fun q => br_f (fun w => c ⟨am_nlt q, w⟩) p)
    · unfold wpY_relate
      exact yv_out (fun w => absurd w c) (fun _ => br_f am_10 p)
theorem ca_trap {K : List Nat} {pA x : Int32} (I : am_I K N cap Q CS cc now tc kn fl op oa ob oc st gn lr rg pc tr wt dl mc mk mf mv lm mon par ce ct ca sg mx wd cn cl rc rk tp tv wa dy kd rs lk cel trd ms cnt) (nf : ∀ j, j < 8 → ¬ st j = 3) : ∃ (r : Int32) (K' : List Nat) (u' : SX) (v' : SY), am_R K' u' v' ∧ (∀ j, j < 8 → ¬ xSt u' j = 3) ∧ (∀ post : Int32 → SX → Prop, post r u' → wpX_setTrap post (fl, nI N, nI cap, nI Q, nI CS, nI cc, nI now, nI tc, op, oa, ob, oc, st, gn, lr, rg, pc, tr, wt, dl, mc, mk, mf, mv, ms, lm, mon, par, ce, ct, ca, sg, mx, wd, cn, cl, rc, rk, tp, tv, cnt) pA x) ∧ (∀ post : Int32 → SY → Prop, post r v' → wpY_setTrap post (nI N, nI cap, nI Q, nI CS, nI now, nI cc, nI tc, nI kn, st, gn, lr, pc, wa, dy, tr, par, ce, ct, ca, kd, sg, mx, wd, rs, rg, mon, lk, mc, mk, mf, mv, ms, cel, trd, cnt) pA x) := by
  have hN : N ≤ 8 := I.1.2.1
  cases e : am_fw N st gn pA with
  | none =>
    refine ⟨-1, K, _, _, am_Ri I, nf, fun post p => ?_, fun post p => ?_⟩
    · unfold wpX_setTrap
      refine xv_worker hN ?_
      rw [e]; exact br_f am_n1le p
    · unfold wpY_setTrap
      refine yv_worker hN ?_
      rw [e]; exact br_f am_n1le p
  | some a =>
    obtain ⟨-, a8, -, -⟩ := am_fw_some e
    have i1 : vp_in (nI a) 8 := vp_in_nI a8 (by omega)
    have e1 : (nI a).toNatClampNeg = a := nI_clamp (by omega)
    have I' : am_I K N cap Q CS cc now tc kn fl op oa ob oc st gn lr rg pc (upd tr a (vp_nar .boolean x)) wt dl mc mk mf mv lm mon par ce ct ca sg mx wd cn cl rc rk tp tv wa dy kd rs lk cel trd ms cnt := I
    refine ⟨1, K, _, _, am_Ri I', nf, fun post p => ?_, fun post p => ?_⟩
    · unfold wpX_setTrap
      refine xv_worker hN ?_
      rw [e]
      exact br_t (nI_pos' (by omega)) ⟨i1, nm_r (e' := upd tr a (vp_nar .boolean x)) (by show upd tr (nI a).toNatClampNeg _ = _; rw [e1]) p⟩
    · unfold wpY_setTrap
      refine yv_worker hN ?_
      rw [e]
      exact br_t (nI_pos' (by omega)) ⟨i1, nm_r (e' := upd tr a (vp_nar .boolean x)) (by show upd tr (nI a).toNatClampNeg _ = _; rw [e1]) p⟩
end CA
end
section
/-! 37: what is only read -/
theorem am_cn_len {f : Nat → Bool} : ∀ (n : Nat) (l : List Nat), l.Nodup → (∀ x, x ∈ l ↔ x < n ∧ f x = true) → am_cn f n = l.length := by
  intro n
  induction n with
  | zero =>
    intro l _ h
    cases l with
    | nil => rfl
    | cons a l => exact absurd ((h a).mp List.mem_cons_self).1 (by omega)
  | succ n ih =>
    intro l hl h
    unfold am_cn
    by_cases c : f n = true
    · have hm : n ∈ l := (h n).mpr ⟨by omega, c⟩
      rw [if_pos c, ih (l.erase n) (hl.erase n) (fun x => by
        rw [hl.mem_erase_iff, h x]
        exact ⟨fun z => ⟨by have := z.1; have := z.2.1; omega, z.2.2⟩, fun z => ⟨by omega, by omega, z.2⟩⟩), List.length_erase_of_mem hm]
      have := List.length_pos_of_mem hm
      omega
    · rw [if_neg c]
      refine ih l hl fun x => ?_
      rw [h x]
      refine ⟨fun z => ⟨?_, z.2⟩, fun z => ⟨by omega, z.2⟩⟩
      have : x ≠ n := fun e => c (e ▸ z.2)
      omega
section GT
variable {N cap Q CS cc now tc kn : Nat} {fl : Int32} {op oa ob oc st gn lr rg pc tr wt dl mc mk mf mv lm mon par ce ct ca sg mx wd cn cl rc rk tp tv wa dy kd rs lk cel trd : Nat → Int32} {ms cnt : Nat → Int64}
theorem xh_w {F : Int32 → Prop} {x : Int32} (hN : N ≤ 8) (h0 : (x < 0 ∨ nI N ≤ x) → F 0) (h1 : ∀ j, j < N → x = nI j → (st j = 1 → F 1) ∧ (¬ st j = 1 → F 0)) : wpX_holdsWorker F (fl, nI N, nI cap, nI Q, nI CS, nI cc, nI now, nI tc, op, oa, ob, oc, st, gn, lr, rg, pc, tr, wt, dl, mc, mk, mf, mv, ms, lm, mon, par, ce, ct, ca, sg, mx, wd, cn, cl, rc, rk, tp, tv, cnt) x := by
  rcases pk_ix x (n := N) (by omega) with c | c | ⟨j, hj, rfl⟩
  · exact br_t c (h0 (Or.inl c))
  · exact br_c (fun _ => h0 (Or.inr c)) (fun _ => br_t c (h0 (Or.inr c)))
  · refine br_f (nI_pos (by omega)) (br_f (nI_ge hj (by omega)) ⟨vp_in_nI (by omega) (by omega), ?_⟩)
    rw [nI_clamp (by omega)]
    exact h1 j hj rfl
theorem xh_s {F : Int32 → Prop} {x : Int32} (hN : N ≤ 8) (h0 : (x < 0 ∨ nI N ≤ x) → F 0) (h1 : ∀ j, j < N → x = nI j → (st j = 2 → F 1) ∧ (¬ st j = 2 → F 0)) : wpX_holdsSupervisor F (fl, nI N, nI cap, nI Q, nI CS, nI cc, nI now, nI tc, op, oa, ob, oc, st, gn, lr, rg, pc, tr, wt, dl, mc, mk, mf, mv, ms, lm, mon, par, ce, ct, ca, sg, mx, wd, cn, cl, rc, rk, tp, tv, cnt) x := by
  rcases pk_ix x (n := N) (by omega) with c | c | ⟨j, hj, rfl⟩
  · exact br_t c (h0 (Or.inl c))
  · exact br_c (fun _ => h0 (Or.inr c)) (fun _ => br_t c (h0 (Or.inr c)))
  · refine br_f (nI_pos (by omega)) (br_f (nI_ge hj (by omega)) ⟨vp_in_nI (by omega) (by omega), ?_⟩)
    rw [nI_clamp (by omega)]
    exact h1 j hj rfl
theorem yh_h {F : Int32 → Prop} {x w : Int32} (hN : N ≤ 8) (h0 : (x < 0 ∨ nI N ≤ x) → F 0) (h1 : ∀ j, j < N → x = nI j → (st j = w → F 1) ∧ (¬ st j = w → F 0)) : wpY_holds F (nI N, nI cap, nI Q, nI CS, nI now, nI cc, nI tc, nI kn, st, gn, lr, pc, wa, dy, tr, par, ce, ct, ca, kd, sg, mx, wd, rs, rg, mon, lk, mc, mk, mf, mv, ms, cel, trd, cnt) x w := by
  rcases pk_ix x (n := N) (by omega) with c | c | ⟨j, hj, rfl⟩
  · exact br_t c (h0 (Or.inl c))
  · exact br_c (fun _ => h0 (Or.inr c)) (fun _ => br_t c (h0 (Or.inr c)))
  · refine br_f (nI_pos (by omega)) (br_f (nI_ge hj (by omega)) ⟨vp_in_nI (by omega) (by omega), ?_⟩)
    rw [nI_clamp (by omega)]
    exact h1 j hj rfl
theorem am_out {x : Int32} {j : Nat} (h : x < 0 ∨ nI N ≤ x) (hj : j < N) (hN : N ≤ 8) (e : x = nI j) : False := by
  rw [e] at h
  exact h.elim (fun z => nI_pos (by omega) z) (fun z => nI_ge hj (by omega) z)
theorem gt_code {K : List Nat} {x y : Int32} (I : am_I K N cap Q CS cc now tc kn fl op oa ob oc st gn lr rg pc tr wt dl mc mk mf mv lm mon par ce ct ca sg mx wd cn cl rc rk tp tv wa dy kd rs lk cel trd ms cnt) : ∃ r : Int32, (∀ post : Int32 → Prop, post r → wpX_code post (fl, nI N, nI cap, nI Q, nI CS, nI cc, nI now, nI tc, op, oa, ob, oc, st, gn, lr, rg, pc, tr, wt, dl, mc, mk, mf, mv, ms, lm, mon, par, ce, ct, ca, sg, mx, wd, cn, cl, rc, rk, tp, tv, cnt) x y) ∧ (∀ post : Int32 → Prop, post r → wpY_code post (nI N, nI cap, nI Q, nI CS, nI now, nI cc, nI tc, nI kn, st, gn, lr, pc, wa, dy, tr, par, ce, ct, ca, kd, sg, mx, wd, rs, rg, mon, lk, mc, mk, mf, mv, ms, cel, trd, cnt) x y) := by
  have hcc : cc ≤ 64 := by have := I.1; unfold iS at this; omega
  rcases pk_ix x (n := cc) (by omega) with c | c | ⟨i, hi, rfl⟩
  · exact ⟨0, fun post p => br_t c p, fun post p => br_t c p⟩
  · exact ⟨0, fun post p => br_c (fun _ => p) (fun _ => br_f (Int32.not_lt.mpr c) p), fun post p => br_c (fun _ => p) (fun _ => br_t c p)⟩
  · obtain ⟨-, -, -, c0, c1, c2, c3⟩ := I.2.1 i hi
    have ip : vp_in (nI i) 64 := vp_in_nI (by omega) (by omega)
    have ep : (nI i).toNatClampNeg = i := nI_clamp (by omega)
    have n0 : ¬ nI i < 0 := nI_pos (by omega)
    have l1 : nI i < nI cc := nI_lt hi (by omega)
    have l2 : ¬ nI cc ≤ nI i := nI_ge hi (by omega)
    have e4 : ∀ f, nI i * 4 + nI f = nI (i * 4 + f) := fun f => by rw [am_m4, nI_add]
    by_cases cy : 0 ≤ y ∧ y ≤ 3
    · obtain ⟨f, hf, rfl⟩ := nI_of2 (x := y) (M := 3) (n := 3) (by decide) (Int32.not_lt.mpr cy.1) cy.2
      have Y : ∀ post : Int32 → Prop, post (cel (i * 4 + f)) → wpY_code post (nI N, nI cap, nI Q, nI CS, nI now, nI cc, nI tc, nI kn, st, gn, lr, pc, wa, dy, tr, par, ce, ct, ca, kd, sg, mx, wd, rs, rg, mon, lk, mc, mk, mf, mv, ms, cel, trd, cnt) (nI i) (nI f) := fun post p => by
        refine br_f n0 (br_f l2 (br_f (nI_pos (by omega)) (br_t cy.2 ⟨pk_in (i * 4 + f) 256 (by omega) (e4 f), ?_⟩)))
        rw [e4, nI_clamp (by omega)]
        exact p
      rcases (by omega : f = 0 ∨ f = 1 ∨ f = 2 ∨ f = 3) with e | e | e | e <;> subst e
      · refine ⟨op i, fun post p => ?_, fun post p => Y post (by rw [← c0] at p; exact p)⟩
        exact br_f n0 (br_t l1 (br_f (by decide) (br_f (by decide) (br_t rfl ⟨ip, by rw [ep]; exact p⟩))))
      · refine ⟨oa i, fun post p => ?_, fun post p => Y post (by rw [← c1] at p; exact p)⟩
        exact br_f n0 (br_t l1 (br_f (by decide) (br_f (by decide) (br_f (by decide) (br_t rfl ⟨ip, by rw [ep]; exact p⟩)))))
      · refine ⟨ob i, fun post p => ?_, fun post p => Y post (by rw [← c2] at p; exact p)⟩
        exact br_f n0 (br_t l1 (br_f (by decide) (br_f (by decide) (br_f (by decide) (br_f (by decide) (br_t rfl ⟨ip, by rw [ep]; exact p⟩))))))
      · refine ⟨oc i, fun post p => ?_, fun post p => Y post (by rw [← c3] at p; exact p)⟩
        exact br_f n0 (br_t l1 (br_f (by decide) (br_f (by decide) (br_f (by decide) (br_f (by decide) (br_f (by decide) (br_t rfl ⟨ip, by rw [ep]; exact p⟩)))))))
    · refine ⟨0, fun post p => ?_, fun post p => ?_⟩
      · exact br_f n0 (br_t l1 (br_c (fun _ => p) (fun q => br_t (Int32.not_le.mp fun w => cy ⟨am_nlt q, w⟩) p)))
      · exact br_f n0 (br_f l2 (br_c (fun _ => p) (fun q => br_f (fun w => cy ⟨am_nlt q, w⟩) p)))
theorem gt_reg {K : List Nat} {x y : Int32} (I : am_I K N cap Q CS cc now tc kn fl op oa ob oc st gn lr rg pc tr wt dl mc mk mf mv lm mon par ce ct ca sg mx wd cn cl rc rk tp tv wa dy kd rs lk cel trd ms cnt) : ∃ r : Int32, (∀ post : Int32 → Prop, post r → wpX_register post (fl, nI N, nI cap, nI Q, nI CS, nI cc, nI now, nI tc, op, oa, ob, oc, st, gn, lr, rg, pc, tr, wt, dl, mc, mk, mf, mv, ms, lm, mon, par, ce, ct, ca, sg, mx, wd, cn, cl, rc, rk, tp, tv, cnt) x y) ∧ (∀ post : Int32 → Prop, post r → wpY_register post (nI N, nI cap, nI Q, nI CS, nI now, nI cc, nI tc, nI kn, st, gn, lr, pc, wa, dy, tr, par, ce, ct, ca, kd, sg, mx, wd, rs, rg, mon, lk, mc, mk, mf, mv, ms, cel, trd, cnt) x y) := by
  have hN : N ≤ 8 := I.1.2.1
  by_cases c : ∃ j, j < N ∧ x = nI j ∧ st j = 1
  · obtain ⟨j, hj, rfl, h1⟩ := c
    have W : ∀ F : Int32 → Prop, F 1 → wpX_holdsWorker F (fl, nI N, nI cap, nI Q, nI CS, nI cc, nI now, nI tc, op, oa, ob, oc, st, gn, lr, rg, pc, tr, wt, dl, mc, mk, mf, mv, ms, lm, mon, par, ce, ct, ca, sg, mx, wd, cn, cl, rc, rk, tp, tv, cnt) (nI j) := fun F h => xh_w hN (fun w => (am_out w hj hN rfl).elim) (fun i hi e => by
      have : j = i := am_im e (by omega) (by omega)
      subst this; exact br_t h1 h)
    have V : ∀ F : Int32 → Prop, F 1 → wpY_holds F (nI N, nI cap, nI Q, nI CS, nI now, nI cc, nI tc, nI kn, st, gn, lr, pc, wa, dy, tr, par, ce, ct, ca, kd, sg, mx, wd, rs, rg, mon, lk, mc, mk, mf, mv, ms, cel, trd, cnt) (nI j) 1 := fun F h => yh_h hN (fun w => (am_out w hj hN rfl).elim) (fun i hi e => by
      have : j = i := am_im e (by omega) (by omega)
      subst this; exact br_t h1 h)
    by_cases cy : 0 ≤ y ∧ y ≤ 7
    · obtain ⟨f, hf, rfl⟩ := nI_of2 (x := y) (M := 7) (n := 7) (by decide) (Int32.not_lt.mpr cy.1) cy.2
      refine ⟨rg (j * 8 + f), fun post p => ?_, fun post p => ?_⟩
      · unfold wpX_register
        refine W _ (br_f am_10 (br_f (nI_pos (by omega)) (br_t cy.2 ⟨pk_in (j * 8 + f) 64 (by omega) (am_8 j f), ?_⟩)))
        rw [am_8, nI_clamp (by omega)]; exact p
      · unfold wpY_register
        refine V _ (br_f am_10 (br_f (nI_pos (by omega)) (br_t cy.2 ⟨pk_in (j * 8 + f) 64 (by omega) (am_8 j f), ?_⟩)))
        rw [am_8, nI_clamp (by omega)]; exact p
    · refine ⟨0, fun post p => ?_, fun post p => ?_⟩
      · unfold wpX_register
        exact W _ (br_f am_10 (br_c (fun _ => p) (fun q => br_f (fun w => cy ⟨am_nlt q, w⟩) p)))
      · unfold wpY_register
        exact V _ (br_f am_10 (br_c (fun _ => p) (fun q => br_f (fun w => cy ⟨am_nlt q, w⟩) p)))
  · refine ⟨0, fun post p => ?_, fun post p => ?_⟩
    · unfold wpX_register
      exact xh_w hN (fun _ => br_t rfl p) (fun j hj e => ⟨fun z => absurd ⟨j, hj, e, z⟩ c, fun _ => br_t rfl p⟩)
    · unfold wpY_register
      exact yh_h hN (fun _ => br_t rfl p) (fun j hj e => ⟨fun z => absurd ⟨j, hj, e, z⟩ c, fun _ => br_t rfl p⟩)
/-- is there such a message? -/
theorem gt_hm {K : List Nat} {x y : Int32} (I : am_I K N cap Q CS cc now tc kn fl op oa ob oc st gn lr rg pc tr wt dl mc mk mf mv lm mon par ce ct ca sg mx wd cn cl rc rk tp tv wa dy kd rs lk cel trd ms cnt) : (∃ j i, j < N ∧ i < 12 ∧ x = nI j ∧ y = nI i ∧ (∀ F : Int32 → Prop, F 1 → wpX_hasMessage F (fl, nI N, nI cap, nI Q, nI CS, nI cc, nI now, nI tc, op, oa, ob, oc, st, gn, lr, rg, pc, tr, wt, dl, mc, mk, mf, mv, ms, lm, mon, par, ce, ct, ca, sg, mx, wd, cn, cl, rc, rk, tp, tv, cnt) x y) ∧ (∀ F : Int32 → Prop, F 1 → wpY_holds F (nI N, nI cap, nI Q, nI CS, nI now, nI cc, nI tc, nI kn, st, gn, lr, pc, wa, dy, tr, par, ce, ct, ca, kd, sg, mx, wd, rs, rg, mon, lk, mc, mk, mf, mv, ms, cel, trd, cnt) x 1) ∧ mc j ≤ mc j ∧ ¬ mc j ≤ nI i ∧ nI i < mc j) ∨ ((∀ F : Int32 → Prop, F 0 → wpX_hasMessage F (fl, nI N, nI cap, nI Q, nI CS, nI cc, nI now, nI tc, op, oa, ob, oc, st, gn, lr, rg, pc, tr, wt, dl, mc, mk, mf, mv, ms, lm, mon, par, ce, ct, ca, sg, mx, wd, cn, cl, rc, rk, tp, tv, cnt) x y) ∧ (∀ F : Int32 → Prop, F 0 → (F 1 ∨ True) → (¬ (∃ j, j < N ∧ x = nI j ∧ st j = 1) → wpY_holds F (nI N, nI cap, nI Q, nI CS, nI now, nI cc, nI tc, nI kn, st, gn, lr, pc, wa, dy, tr, par, ce, ct, ca, kd, sg, mx, wd, rs, rg, mon, lk, mc, mk, mf, mv, ms, cel, trd, cnt) x 1)) ∧ (∀ j, j < N → x = nI j → st j = 1 → (∀ F : Int32 → Prop, F 1 → wpY_holds F (nI N, nI cap, nI Q, nI CS, nI now, nI cc, nI tc, nI kn, st, gn, lr, pc, wa, dy, tr, par, ce, ct, ca, kd, sg, mx, wd, rs, rg, mon, lk, mc, mk, mf, mv, ms, cel, trd, cnt) x 1) ∧ (y < 0 ∨ (mc j ≤ y ∧ ¬ y < mc j)))) := by
  have hN : N ≤ 8 := I.1.2.1
  have hc : cap ≤ 12 := I.1.2.2.2.1
  by_cases c : ∃ j, j < N ∧ x = nI j ∧ st j = 1
  · obtain ⟨j, hj, rfl, h1⟩ := c
    obtain ⟨n, n1, n2, -⟩ := I.2.2.2.2.2.1 j (by omega)
    have W : ∀ F : Int32 → Prop, F 1 → wpX_holdsWorker F (fl, nI N, nI cap, nI Q, nI CS, nI cc, nI now, nI tc, op, oa, ob, oc, st, gn, lr, rg, pc, tr, wt, dl, mc, mk, mf, mv, ms, lm, mon, par, ce, ct, ca, sg, mx, wd, cn, cl, rc, rk, tp, tv, cnt) (nI j) := fun F h => xh_w hN (fun w => (am_out w hj hN rfl).elim) (fun i hi e => by
      have : j = i := am_im e (by omega) (by omega)
      subst this; exact br_t h1 h)
    have V : ∀ F : Int32 → Prop, F 1 → wpY_holds F (nI N, nI cap, nI Q, nI CS, nI now, nI cc, nI tc, nI kn, st, gn, lr, pc, wa, dy, tr, par, ce, ct, ca, kd, sg, mx, wd, rs, rg, mon, lk, mc, mk, mf, mv, ms, cel, trd, cnt) (nI j) 1 := fun F h => yh_h hN (fun w => (am_out w hj hN rfl).elim) (fun i hi e => by
      have : j = i := am_im e (by omega) (by omega)
      subst this; exact br_t h1 h)
    have i1 : vp_in (nI j) 8 := vp_in_nI (by omega) (by omega)
    have e1 : (nI j).toNatClampNeg = j := nI_clamp (by omega)
    rcases pk_ix y (n := n) (by omega) with d | d | ⟨i, hi, rfl⟩
    · refine Or.inr ⟨fun F h => ?_, fun F h _ z => absurd ⟨j, hj, rfl, h1⟩ z, fun j' hj' e' _ => ⟨V, Or.inl d⟩⟩
      unfold wpX_hasMessage
      exact W _ (br_f am_10 (br_t d h))
    · refine Or.inr ⟨fun F h => ?_, fun F h _ z => absurd ⟨j, hj, rfl, h1⟩ z, fun j' hj' e' _ => ⟨V, Or.inr ?_⟩⟩
      · unfold wpX_hasMessage
        exact W _ (br_f am_10 (br_c (fun _ => h) (fun _ => ⟨i1, br_t (by rw [e1, n2]; exact d) h⟩)))
      · have : j = j' := am_im e' (by omega) (by omega)
        subst this
        rw [n2]; exact ⟨d, Int32.not_lt.mpr d⟩
    · refine Or.inl ⟨j, i, hj, by omega, rfl, rfl, fun F h => ?_, V, Int32.le_refl _, by rw [n2]; exact nI_ge hi (by omega), by rw [n2]; exact nI_lt hi (by omega)⟩
      unfold wpX_hasMessage
      exact W _ (br_f am_10 (br_f (nI_pos (by omega)) ⟨i1, br_f (by rw [e1, n2]; exact nI_ge hi (by omega)) h⟩))
  · refine Or.inr ⟨fun F h => ?_, fun F h _ _ => ?_, fun j hj e z => absurd ⟨j, hj, e, z⟩ c⟩
    · unfold wpX_hasMessage
      exact xh_w hN (fun _ => br_t rfl h) (fun j hj e => ⟨fun z => absurd ⟨j, hj, e, z⟩ c, fun _ => br_t rfl h⟩)
    · exact yh_h hN (fun _ => h) (fun j hj e => ⟨fun z => absurd ⟨j, hj, e, z⟩ c, fun _ => h⟩)
theorem gt_msg {K : List Nat} {x y z : Int32} (I : am_I K N cap Q CS cc now tc kn fl op oa ob oc st gn lr rg pc tr wt dl mc mk mf mv lm mon par ce ct ca sg mx wd cn cl rc rk tp tv wa dy kd rs lk cel trd ms cnt) : ∃ r : Int32, (∀ post : Int32 → Prop, post r → wpX_message post (fl, nI N, nI cap, nI Q, nI CS, nI cc, nI now, nI tc, op, oa, ob, oc, st, gn, lr, rg, pc, tr, wt, dl, mc, mk, mf, mv, ms, lm, mon, par, ce, ct, ca, sg, mx, wd, cn, cl, rc, rk, tp, tv, cnt) x y z) ∧ (∀ post : Int32 → Prop, post r → wpY_message post (nI N, nI cap, nI Q, nI CS, nI now, nI cc, nI tc, nI kn, st, gn, lr, pc, wa, dy, tr, par, ce, ct, ca, kd, sg, mx, wd, rs, rg, mon, lk, mc, mk, mf, mv, ms, cel, trd, cnt) x y z) := by
  have hN : N ≤ 8 := I.1.2.1
  rcases gt_hm (x := x) (y := y) I with ⟨j, i, hj, hi, rfl, rfl, W, V, -, l1, l2⟩ | ⟨W, V0, V1⟩
  · have i1 : vp_in (nI j) 8 := vp_in_nI (by omega) (by omega)
    have e1 : (nI j).toNatClampNeg = j := nI_clamp (by omega)
    have ic : vp_in (nI (j * 12 + i)) 96 := vp_in_nI (by omega) (by omega)
    have ec : (nI (j * 12 + i)).toNatClampNeg = j * 12 + i := nI_clamp (by omega)
    by_cases cz : 0 ≤ z ∧ z ≤ 2
    · obtain ⟨f, hf, rfl⟩ := nI_of2 (x := z) (M := 2) (n := 2) (by decide) (Int32.not_lt.mpr cz.1) cz.2
      rcases (by omega : f = 0 ∨ f = 1 ∨ f = 2) with e | e | e <;> subst e
      · refine ⟨mk (j * 12 + i), fun post p => ?_, fun post p => ?_⟩
        · unfold wpX_message
          exact W _ (br_f am_10 (nm_r (am_12 j i) (br_f (by decide) (br_f (by decide) (br_t rfl ⟨ic, by rw [ec]; exact p⟩)))))
        · unfold wpY_message
          exact V _ (br_f am_10 (br_f (nI_pos (by omega)) ⟨i1, br_f (by rw [e1]; exact l1) (br_f (by decide) (br_t (by decide) (nm_r (am_12 j i) (br_t rfl ⟨ic, by rw [ec]; exact p⟩))))⟩))
      · refine ⟨mf (j * 12 + i), fun post p => ?_, fun post p => ?_⟩
        · unfold wpX_message
          exact W _ (br_f am_10 (nm_r (am_12 j i) (br_f (by decide) (br_f (by decide) (br_f (by decide) (br_t rfl ⟨ic, by rw [ec]; exact p⟩))))))
        · unfold wpY_message
          exact V _ (br_f am_10 (br_f (nI_pos (by omega)) ⟨i1, br_f (by rw [e1]; exact l1) (br_f (by decide) (br_t (by decide) (nm_r (am_12 j i) (br_f (by decide) (br_t rfl ⟨ic, by rw [ec]; exact p⟩)))))⟩))
      · refine ⟨mv (j * 12 + i), fun post p => ?_, fun post p => ?_⟩
        · unfold wpX_message
          exact W _ (br_f am_10 (nm_r (am_12 j i) (br_f (by decide) (br_f (by decide) (br_f (by decide) (br_f (by decide) (br_t rfl ⟨ic, by rw [ec]; exact p⟩)))))))
        · unfold wpY_message
          exact V _ (br_f am_10 (br_f (nI_pos (by omega)) ⟨i1, br_f (by rw [e1]; exact l1) (br_f (by decide) (br_t (by decide) (nm_r (am_12 j i) (br_f (by decide) (br_f (by decide) ⟨ic, by rw [ec]; exact p⟩)))))⟩))
    · refine ⟨0, fun post p => ?_, fun post p => ?_⟩
      · unfold wpX_message
        exact W _ (br_f am_10 (nm_r (am_12 j i) (br_c (fun _ => p) (fun q => br_t (Int32.not_le.mp fun w => cz ⟨am_nlt q, w⟩) p))))
      · unfold wpY_message
        exact V _ (br_f am_10 (br_f (nI_pos (by omega)) ⟨i1, br_f (by rw [e1]; exact l1) (br_c (fun _ => p) (fun q => br_f (fun w => cz ⟨am_nlt q, w⟩) p))⟩))
  · refine ⟨0, fun post p => ?_, fun post p => ?_⟩
    · unfold wpX_message
      exact W _ (br_t rfl p)
    · unfold wpY_message
      by_cases c : ∃ j, j < N ∧ x = nI j ∧ st j = 1
      · obtain ⟨j, hj, rfl, h1⟩ := c
        obtain ⟨V, q⟩ := V1 j hj rfl h1
        refine V _ (br_f am_10 ?_)
        rcases q with q | q
        · exact br_t q p
        · refine br_c (fun _ => p) (fun _ => ⟨vp_in_nI (by omega) (by omega), br_t ?_ p⟩)
          rw [nI_clamp (by omega)]; exact q.1
      · exact V0 _ (br_t rfl p) (Or.inr trivial) c
theorem gt_stamp {K : List Nat} {x y : Int32} (I : am_I K N cap Q CS cc now tc kn fl op oa ob oc st gn lr rg pc tr wt dl mc mk mf mv lm mon par ce ct ca sg mx wd cn cl rc rk tp tv wa dy kd rs lk cel trd ms cnt) : ∃ r : Int64, (∀ post : Int64 → Prop, post r → wpX_stamp post (fl, nI N, nI cap, nI Q, nI CS, nI cc, nI now, nI tc, op, oa, ob, oc, st, gn, lr, rg, pc, tr, wt, dl, mc, mk, mf, mv, ms, lm, mon, par, ce, ct, ca, sg, mx, wd, cn, cl, rc, rk, tp, tv, cnt) x y) ∧ (∀ post : Int64 → Prop, post r → wpY_stamp post (nI N, nI cap, nI Q, nI CS, nI now, nI cc, nI tc, nI kn, st, gn, lr, pc, wa, dy, tr, par, ce, ct, ca, kd, sg, mx, wd, rs, rg, mon, lk, mc, mk, mf, mv, ms, cel, trd, cnt) x y) := by
  have hN : N ≤ 8 := I.1.2.1
  rcases gt_hm (x := x) (y := y) I with ⟨j, i, hj, hi, rfl, rfl, W, V, -, l1, l2⟩ | ⟨W, V0, V1⟩
  · have i1 : vp_in (nI j) 8 := vp_in_nI (by omega) (by omega)
    have e1 : (nI j).toNatClampNeg = j := nI_clamp (by omega)
    have ec : (nI j * 12 + nI i).toNatClampNeg = j * 12 + i := by rw [am_12, nI_clamp (by omega)]
    have ic : vp_in (nI j * 12 + nI i) 96 := pk_in (j * 12 + i) 96 (by omega) (am_12 j i)
    refine ⟨ms (j * 12 + i), fun post p => ?_, fun post p => ?_⟩
    · unfold wpX_stamp
      exact W _ (br_f am_10 ⟨ic, by rw [ec]; exact p⟩)
    · unfold wpY_stamp
      exact V _ (br_f am_10 (br_f (nI_pos (by omega)) ⟨i1, br_t (by rw [e1]; exact l2) ⟨ic, by rw [ec]; exact p⟩⟩))
  · refine ⟨0, fun post p => ?_, fun post p => ?_⟩
    · unfold wpX_stamp
      exact W _ (br_t rfl p)
    · unfold wpY_stamp
      by_cases c : ∃ j, j < N ∧ x = nI j ∧ st j = 1
      · obtain ⟨j, hj, rfl, h1⟩ := c
        obtain ⟨V, q⟩ := V1 j hj rfl h1
        refine V _ (br_f am_10 ?_)
        rcases q with q | q
        · exact br_t q p
        · refine br_c (fun _ => p) (fun _ => ⟨vp_in_nI (by omega) (by omega), br_f ?_ p⟩)
          rw [nI_clamp (by omega)]; exact q.2
      · exact V0 _ (br_t rfl p) (Or.inr trivial) c
theorem gt_linked {K : List Nat} {x y : Int32} (I : am_I K N cap Q CS cc now tc kn fl op oa ob oc st gn lr rg pc tr wt dl mc mk mf mv lm mon par ce ct ca sg mx wd cn cl rc rk tp tv wa dy kd rs lk cel trd ms cnt) : ∃ r : Int32, (∀ post : Int32 → Prop, post r → wpX_linked post (fl, nI N, nI cap, nI Q, nI CS, nI cc, nI now, nI tc, op, oa, ob, oc, st, gn, lr, rg, pc, tr, wt, dl, mc, mk, mf, mv, ms, lm, mon, par, ce, ct, ca, sg, mx, wd, cn, cl, rc, rk, tp, tv, cnt) x y) ∧ (∀ post : Int32 → Prop, post r → wpY_linked post (nI N, nI cap, nI Q, nI CS, nI now, nI cc, nI tc, nI kn, st, gn, lr, pc, wa, dy, tr, par, ce, ct, ca, kd, sg, mx, wd, rs, rg, mon, lk, mc, mk, mf, mv, ms, cel, trd, cnt) x y) := by
  have hN : N ≤ 8 := I.1.2.1
  obtain ⟨L, l1, l2, l3, l4⟩ := I.2.2.2.2.2.2.2.1
  by_cases c : ∃ j, j < N ∧ x = nI j ∧ st j = 1
  · obtain ⟨j, hj, rfl, h1⟩ := c
    by_cases d : ∃ i, i < N ∧ y = nI i ∧ st i = 1
    · obtain ⟨i, hi, rfl, h2⟩ := d
      have W : ∀ (a : Nat), a < N → st a = 1 → ∀ F : Int32 → Prop, F 1 → wpX_holdsWorker F (fl, nI N, nI cap, nI Q, nI CS, nI cc, nI now, nI tc, op, oa, ob, oc, st, gn, lr, rg, pc, tr, wt, dl, mc, mk, mf, mv, ms, lm, mon, par, ce, ct, ca, sg, mx, wd, cn, cl, rc, rk, tp, tv, cnt) (nI a) := fun a ha s1 F h => xh_w hN (fun w => (am_out w ha hN rfl).elim) (fun i hi e => by
        have : a = i := am_im e (by omega) (by omega)
        subst this; exact br_t s1 h)
      have V : ∀ (a : Nat), a < N → st a = 1 → ∀ F : Int32 → Prop, F 1 → wpY_holds F (nI N, nI cap, nI Q, nI CS, nI now, nI cc, nI tc, nI kn, st, gn, lr, pc, wa, dy, tr, par, ce, ct, ca, kd, sg, mx, wd, rs, rg, mon, lk, mc, mk, mf, mv, ms, cel, trd, cnt) (nI a) 1 := fun a ha s1 F h => yh_h hN (fun w => (am_out w ha hN rfl).elim) (fun i hi e => by
        have : a = i := am_im e (by omega) (by omega)
        subst this; exact br_t s1 h)
      have e3 : (nI j * 8 + nI i).toNatClampNeg = j * 8 + i := by rw [am_8, nI_clamp (by omega)]
      refine ⟨am_b (L j i), fun post p => ?_, fun post p => ?_⟩
      · by_cases e : j = i
        · subst e
          have ll : L j j = false := by
            cases q : L j j
            · rfl
            · exact absurd rfl (l4 j j (by omega) (by omega) q).2.2
          rw [ll] at p
          exact br_t rfl p
        · refine br_f (fun z => e (am_im z (by omega) (by omega))) ?_
          refine W j hj h1 _ (br_f am_10 ?_)
          refine W i hi h2 _ (br_f am_10 ⟨vp_in_nI (by omega) (by omega), ?_⟩)
          rw [nI_clamp (by omega)]
          refine xv_has (j := i) (by omega) ?_
          rw [l1 j i (by omega) (by omega)]
          refine ⟨?_, p⟩
          cases L j i
          · exact narrow_b0
          · exact narrow_b1
      · unfold wpY_linked
        refine V j hj h1 _ (br_f am_10 ?_)
        refine V i hi h2 _ (br_f am_10 ⟨pk_in (j * 8 + i) 64 (by omega) (am_8 j i), ?_⟩)
        rw [e3, l2 j i (by omega) (by omega)]
        cases q : L j i
        · rw [q] at p; exact br_t rfl p
        · rw [q] at p; exact br_f am_10 p
    · refine ⟨0, fun post p => br_c (fun _ => p) (fun _ => ?_), fun post p => ?_⟩
      · refine xh_w hN (fun _ => br_t rfl p) (fun a ha e => ⟨fun _ => br_f am_10 ?_, fun _ => br_t rfl p⟩)
        exact xh_w hN (fun _ => br_t rfl p) (fun b hb e => ⟨fun z => absurd ⟨b, hb, e, z⟩ d, fun _ => br_t rfl p⟩)
      · unfold wpY_linked
        refine yh_h hN (fun _ => br_t rfl p) (fun a ha e => ⟨fun _ => br_f am_10 ?_, fun _ => br_t rfl p⟩)
        exact yh_h hN (fun _ => br_t rfl p) (fun b hb e => ⟨fun z => absurd ⟨b, hb, e, z⟩ d, fun _ => br_t rfl p⟩)
  · refine ⟨0, fun post p => br_c (fun _ => p) (fun _ => ?_), fun post p => ?_⟩
    · exact xh_w hN (fun _ => br_t rfl p) (fun a ha e => ⟨fun z => absurd ⟨a, ha, e, z⟩ c, fun _ => br_t rfl p⟩)
    · unfold wpY_linked
      exact yh_h hN (fun _ => br_t rfl p) (fun a ha e => ⟨fun z => absurd ⟨a, ha, e, z⟩ c, fun _ => br_t rfl p⟩)
theorem gt_mon {K : List Nat} {x y : Int32} (I : am_I K N cap Q CS cc now tc kn fl op oa ob oc st gn lr rg pc tr wt dl mc mk mf mv lm mon par ce ct ca sg mx wd cn cl rc rk tp tv wa dy kd rs lk cel trd ms cnt) : ∃ r : Int32, (∀ post : Int32 → Prop, post r → wpX_monitors post (fl, nI N, nI cap, nI Q, nI CS, nI cc, nI now, nI tc, op, oa, ob, oc, st, gn, lr, rg, pc, tr, wt, dl, mc, mk, mf, mv, ms, lm, mon, par, ce, ct, ca, sg, mx, wd, cn, cl, rc, rk, tp, tv, cnt) x y) ∧ (∀ post : Int32 → Prop, post r → wpY_monitors post (nI N, nI cap, nI Q, nI CS, nI now, nI cc, nI tc, nI kn, st, gn, lr, pc, wa, dy, tr, par, ce, ct, ca, kd, sg, mx, wd, rs, rg, mon, lk, mc, mk, mf, mv, ms, cel, trd, cnt) x y) := by
  have hN : N ≤ 8 := I.1.2.1
  have MO := I.2.2.2.2.2.2.2.2.1
  by_cases c : ∃ j, j < N ∧ x = nI j ∧ st j = 1
  · obtain ⟨j, hj, rfl, h1⟩ := c
    have W : ∀ F : Int32 → Prop, F 1 → wpX_holdsWorker F (fl, nI N, nI cap, nI Q, nI CS, nI cc, nI now, nI tc, op, oa, ob, oc, st, gn, lr, rg, pc, tr, wt, dl, mc, mk, mf, mv, ms, lm, mon, par, ce, ct, ca, sg, mx, wd, cn, cl, rc, rk, tp, tv, cnt) (nI j) := fun F h => xh_w hN (fun w => (am_out w hj hN rfl).elim) (fun i hi e => by
      have : j = i := am_im e (by omega) (by omega)
      subst this; exact br_t h1 h)
    have V : ∀ F : Int32 → Prop, F 1 → wpY_holds F (nI N, nI cap, nI Q, nI CS, nI now, nI cc, nI tc, nI kn, st, gn, lr, pc, wa, dy, tr, par, ce, ct, ca, kd, sg, mx, wd, rs, rg, mon, lk, mc, mk, mf, mv, ms, cel, trd, cnt) (nI j) 1 := fun F h => yh_h hN (fun w => (am_out w hj hN rfl).elim) (fun i hi e => by
      have : j = i := am_im e (by omega) (by omega)
      subst this; exact br_t h1 h)
    rcases pk_ix y (n := N) (by omega) with d | d | ⟨i, hi, rfl⟩
    · refine ⟨0, fun post p => ?_, fun post p => ?_⟩
      · unfold wpX_monitors
        exact W _ (br_f am_10 (br_t d p))
      · unfold wpY_monitors
        exact V _ (br_f am_10 (br_t d p))
    · refine ⟨0, fun post p => ?_, fun post p => ?_⟩
      · unfold wpX_monitors
        exact W _ (br_f am_10 (br_c (fun _ => p) (fun _ => br_f (Int32.not_lt.mpr d) p)))
      · unfold wpY_monitors
        exact V _ (br_f am_10 (br_c (fun _ => p) (fun _ => br_f (Int32.not_lt.mpr d) p)))
    · obtain ⟨k, k1, k2, k3⟩ := MO j i (by omega) (by omega)
      have e3 : (nI j * 8 + nI i).toNatClampNeg = j * 8 + i := by rw [am_8, nI_clamp (by omega)]
      have i3 : vp_in (nI j * 8 + nI i) 64 := pk_in (j * 8 + i) 64 (by omega) (am_8 j i)
      refine ⟨mon (j * 8 + i), fun post p => ?_, fun post p => ?_⟩
      · unfold wpX_monitors
        refine W _ (br_f am_10 (br_f (nI_pos (by omega)) (br_t (nI_lt hi (by omega)) ⟨vp_in_nI (by omega) (by omega), ?_⟩)))
        rw [nI_clamp (by omega)]
        refine br_c (fun z => ?_) (fun _ => ⟨i3, by rw [e3]; exact p⟩)
        have k0 : k = 0 := Classical.byContradiction fun w => by
          rcases (k3 w).2 with q | q <;> rw [z] at q <;> exact absurd q (by decide)
        rw [k2, k0] at p
        exact p
      · unfold wpY_monitors
        refine V _ (br_f am_10 (br_f (nI_pos (by omega)) (br_t (nI_lt hi (by omega)) ⟨i3, by rw [e3]; exact p⟩)))
  · refine ⟨0, fun post p => ?_, fun post p => ?_⟩
    · unfold wpX_monitors
      exact xh_w hN (fun _ => br_t rfl p) (fun a ha e => ⟨fun z => absurd ⟨a, ha, e, z⟩ c, fun _ => br_t rfl p⟩)
    · unfold wpY_monitors
      exact yh_h hN (fun _ => br_t rfl p) (fun a ha e => ⟨fun z => absurd ⟨a, ha, e, z⟩ c, fun _ => br_t rfl p⟩)
theorem gt_trace {K : List Nat} {x y : Int32} (I : am_I K N cap Q CS cc now tc kn fl op oa ob oc st gn lr rg pc tr wt dl mc mk mf mv lm mon par ce ct ca sg mx wd cn cl rc rk tp tv wa dy kd rs lk cel trd ms cnt) : ∃ r : Int32, (∀ post : Int32 → Prop, post r → wpX_trace post (fl, nI N, nI cap, nI Q, nI CS, nI cc, nI now, nI tc, op, oa, ob, oc, st, gn, lr, rg, pc, tr, wt, dl, mc, mk, mf, mv, ms, lm, mon, par, ce, ct, ca, sg, mx, wd, cn, cl, rc, rk, tp, tv, cnt) x y) ∧ (∀ post : Int32 → Prop, post r → wpY_trace post (nI N, nI cap, nI Q, nI CS, nI now, nI cc, nI tc, nI kn, st, gn, lr, pc, wa, dy, tr, par, ce, ct, ca, kd, sg, mx, wd, rs, rg, mon, lk, mc, mk, mf, mv, ms, cel, trd, cnt) x y) := by
  have htc : tc ≤ 64 := by have := I.1; unfold iS at this; omega
  rcases pk_ix x (n := tc) (by omega) with c | c | ⟨i, hi, rfl⟩
  · exact ⟨0, fun post p => br_t c p, fun post p => br_t c p⟩
  · exact ⟨0, fun post p => br_c (fun _ => p) (fun _ => br_f (Int32.not_lt.mpr c) p), fun post p => br_c (fun _ => p) (fun _ => br_t c p)⟩
  · obtain ⟨t1, t2⟩ := I.2.2.1 i hi
    have ip : vp_in (nI i) 64 := vp_in_nI (by omega) (by omega)
    have ep : (nI i).toNatClampNeg = i := nI_clamp (by omega)
    have n0 : ¬ nI i < 0 := nI_pos (by omega)
    have l1 : nI i < nI tc := nI_lt hi (by omega)
    have l2 : ¬ nI tc ≤ nI i := nI_ge hi (by omega)
    have e2 : ∀ f, nI i * 2 + nI f = nI (i * 2 + f) := fun f => by rw [am_m2, nI_add]
    by_cases cy : 0 ≤ y ∧ y ≤ 1
    · rcases am_01.mp cy with e | e <;> subst e
      · refine ⟨tp i, fun post p => br_f n0 (br_t l1 (br_t rfl ⟨ip, by rw [ep]; exact p⟩)), fun post p => br_f n0 (br_f l2 (br_f (by decide) (br_t (by decide) ⟨pk_in (i * 2 + 0) 128 (by omega) (e2 0), ?_⟩)))⟩
        rw [show nI i * 2 + 0 = nI (i * 2 + 0) from e2 0, nI_clamp (by omega)]
        rw [← t1] at p
        exact p
      · refine ⟨tv i, fun post p => br_f n0 (br_t l1 (br_f (by decide) (br_t rfl ⟨ip, by rw [ep]; exact p⟩))), fun post p => br_f n0 (br_f l2 (br_f (by decide) (br_t (by decide) ⟨pk_in (i * 2 + 1) 128 (by omega) (e2 1), ?_⟩)))⟩
        rw [show nI i * 2 + 1 = nI (i * 2 + 1) from e2 1, nI_clamp (by omega)]
        rw [← t2] at p
        exact p
    · have y0 : ¬ y = 0 := fun e => cy (am_01.mpr (Or.inl e))
      have y1 : ¬ y = 1 := fun e => cy (am_01.mpr (Or.inr e))
      exact ⟨0, fun post p => br_f n0 (br_t l1 (br_f y0 (br_f y1 p))), fun post p => br_f n0 (br_f l2 (br_c (fun _ => p) (fun q => br_f (fun w => cy ⟨am_nlt q, w⟩) p)))⟩
theorem gt_count {K : List Nat} {x : Int32} (_ : am_I K N cap Q CS cc now tc kn fl op oa ob oc st gn lr rg pc tr wt dl mc mk mf mv lm mon par ce ct ca sg mx wd cn cl rc rk tp tv wa dy kd rs lk cel trd ms cnt) : ∃ r : Int64, (∀ post : Int64 → Prop, post r → wpX_count post (fl, nI N, nI cap, nI Q, nI CS, nI cc, nI now, nI tc, op, oa, ob, oc, st, gn, lr, rg, pc, tr, wt, dl, mc, mk, mf, mv, ms, lm, mon, par, ce, ct, ca, sg, mx, wd, cn, cl, rc, rk, tp, tv, cnt) x) ∧ (∀ post : Int64 → Prop, post r → wpY_count post (nI N, nI cap, nI Q, nI CS, nI now, nI cc, nI tc, nI kn, st, gn, lr, pc, wa, dy, tr, par, ce, ct, ca, kd, sg, mx, wd, rs, rg, mon, lk, mc, mk, mf, mv, ms, cel, trd, cnt) x) := by
  by_cases c : 0 ≤ x ∧ x ≤ 11
  · obtain ⟨i, hi, rfl⟩ := nI_of2 (x := x) (M := 11) (n := 11) (by decide) (Int32.not_lt.mpr c.1) c.2
    have n0 : ¬ nI i < 0 := nI_pos (by omega)
    by_cases e : nI i = 11
    · exact ⟨(nI tc).toInt64, fun post p => br_f n0 (br_t c.2 (br_t e p)), fun post p => br_f n0 (br_t c.2 (br_t e p))⟩
    · exact ⟨cnt (nI i).toNatClampNeg, fun post p => br_f n0 (br_t c.2 (br_f e ⟨vp_in_nI (by omega) (by omega), p⟩)), fun post p => br_f n0 (br_t c.2 (br_f e ⟨vp_in_nI (by omega) (by omega), p⟩))⟩
  · exact ⟨-1, fun post p => br_c (fun _ => p) (fun q => br_f (fun w => c ⟨am_nlt q, w⟩) p), fun post p => br_c (fun _ => p) (fun q => br_f (fun w => c ⟨am_nlt q, w⟩) p)⟩
end GT
end
section
/-! 38: children and restarts, read -/
theorem am_cn_pre {p : Nat → Bool} : ∀ {c k : Nat}, k < c → (∀ i, i ≤ k → p i = true) → k + 1 ≤ am_cn p c := by
  intro c
  induction c with
  | zero => intro k h _; omega
  | succ c ih =>
    intro k h hp
    unfold am_cn
    by_cases q : k < c
    · have := ih q hp
      split <;> omega
    · obtain rfl : k = c := by omega
      rw [if_pos (hp k (Nat.le_refl k))]
      cases k with
      | zero => omega
      | succ k => have := ih (k := k) (by omega) (fun i hi => hp i (by omega)); omega
theorem am_cn_suf {p : Nat → Bool} : ∀ {c k : Nat}, (∀ i, k ≤ i → i < c → p i = false) → am_cn p c ≤ k := by
  intro c
  induction c with
  | zero => intro k _; exact Nat.zero_le k
  | succ c ih =>
    intro k hp
    by_cases q : k ≤ c
    · unfold am_cn
      rw [if_neg (by rw [hp c q (by omega)]; decide)]
      exact ih fun i h1 h2 => hp i h1 (by omega)
    · exact Nat.le_trans (am_cn_le p (c + 1)) (by omega)
theorem am_srt {f : Nat → Nat} {c : Nat} (h : ∀ i, i + 1 < c → f (i + 1) ≤ f i) : ∀ d i, i + d < c → f (i + d) ≤ f i := by
  intro d
  induction d with
  | zero => intro i _; exact Nat.le_refl _
  | succ d ih =>
    intro i hi
    have a := ih i (by omega)
    have b := h (i + d) (by omega)
    show f (i + d + 1) ≤ f i
    omega
section GU
variable {N cap Q CS cc now tc kn : Nat} {fl : Int32} {op oa ob oc st gn lr rg pc tr wt dl mc mk mf mv lm mon par ce ct ca sg mx wd cn cl rc rk tp tv wa dy kd rs lk cel trd : Nat → Int32} {ms cnt : Nat → Int64}
theorem yc_16 {post : Int32 → Prop} {K : List Nat} {j : Nat} {x2 : Int32} (hK : K.length ≤ 8) (h8 : ∀ x, x ∈ K → x < 8) (hy : iKy K kn kd) : ∀ (l : List Nat) (i c n : Nat), K.drop i = l → i ≤ K.length → c ≤ i → l.length < n → ((∃ d y, x2 = nI (c + d) ∧ (am_CL l par j)[d]? = some y ∧ post (nI y)) ∨ ((∀ d, d < (am_CL l par j).length → ¬ x2 = nI (c + d)) ∧ post (-1))) → wY_child_16 post (nI j) x2 (nI N) (nI cap) (nI Q) (nI CS) (nI now) (nI cc) (nI tc) (nI kn) st gn lr pc wa dy tr par ce ct ca kd sg mx wd rs rg mon lk mc mk mf mv ms cel trd cnt n (nI c) (nI i) := by
  intro l
  induction l with
  | nil =>
    intro i c n hi hl hc hn h
    obtain ⟨m, rfl⟩ : ∃ m, n = m + 1 := ⟨n - 1, by omega⟩
    have z : K.length ≤ i := List.drop_eq_nil_iff.mp hi
    have p : post (-1) := by
      rcases h with ⟨d, y, -, q, -⟩ | q
      · exact absurd q (by unfold am_CL; simp)
      · exact q.2
    exact br_t (nI_le (by rw [hy.2.1]; exact z) (by omega)) p
  | cons a l ih =>
    intro i c n hi hl hc hn h
    obtain ⟨m, rfl⟩ : ∃ m, n = m + 1 := ⟨n - 1, by omega⟩
    have z : i < K.length := Classical.byContradiction fun w => by
      rw [List.drop_eq_nil_iff.mpr (by omega)] at hi
      cases hi
    have e0 : K[i]? = some a := by
      have := congrArg (fun x : List Nat => x[0]?) hi
      simpa [List.getElem?_drop] using this
    have e2 : K.drop (i + 1) = l := by
      have := congrArg List.tail hi
      simpa [List.tail_drop] using this
    have ea : kd i = nI a := hy.2.2 i a e0
    have a8 : a < 8 := h8 a (List.mem_of_getElem? e0)
    have i1 : vp_in (nI i) 8 := vp_in_nI (by omega) (by omega)
    have ei : (nI i).toNatClampNeg = i := nI_clamp (by omega)
    have hn' : l.length < m := by have : (a :: l).length = l.length + 1 := rfl; omega
    have hl' : l.length ≤ 8 := by have : (K.drop (i + 1)).length = K.length - (i + 1) := List.length_drop; rw [e2] at this; omega
    refine br_f (nI_ge (by rw [hy.2.1]; exact z) (by rw [hy.2.1]; omega)) ⟨i1, ?_⟩
    rw [ei, ea, nI_clamp (by omega)]
    refine ⟨vp_in_nI a8 (by omega), ?_⟩
    by_cases cp : par a = nI j
    · have ec : am_CL (a :: l) par j = a :: am_CL l par j := by unfold am_CL; rw [List.filter_cons_of_pos (by exact decide_eq_true cp)]
      rw [ec] at h
      have hb : (am_CL l par j).length ≤ 8 := Nat.le_trans am_CL8 hl'
      refine br_t cp (br_c (fun q => ⟨i1, ?_⟩) (fun q => nm_r (nI_1 c) (nm_r (nI_1 i) ?_)))
      · rcases h with ⟨d, y, w1, w2, w3⟩ | ⟨w, -⟩
        · have hd : d < (a :: am_CL l par j).length := Classical.byContradiction fun w => by
            rw [List.getElem?_eq_none (by omega)] at w2
            cases w2
          have hd' : d < (am_CL l par j).length + 1 := hd
          have d0 : c = c + d := am_im (q.trans w1) (by omega) (by omega)
          obtain rfl : d = 0 := by omega
          obtain rfl : a = y := Option.some.inj w2
          exact w3
        · exact absurd q.symm (w 0 (Nat.succ_pos _))
      · refine ih (i + 1) (c + 1) m e2 (by omega) (by omega) hn' ?_
        rcases h with ⟨d, y, w1, w2, w3⟩ | ⟨w, p⟩
        · cases d with
          | zero => exact absurd w1.symm q
          | succ d => exact Or.inl ⟨d, y, by rw [w1]; congr 1; omega, w2, w3⟩
        · refine Or.inr ⟨fun d hd => ?_, p⟩
          have := w (d + 1) (Nat.succ_lt_succ hd)
          rw [show c + 1 + d = c + (d + 1) by omega]
          exact this
    · have ec : am_CL (a :: l) par j = am_CL l par j := by unfold am_CL; rw [List.filter_cons_of_neg (by rw [decide_eq_false cp]; decide)]
      rw [ec] at h
      exact br_f cp (nm_r (nI_1 i) (ih (i + 1) c m e2 (by omega) (by omega) hn' h))
theorem gt_child {K : List Nat} {x y : Int32} (I : am_I K N cap Q CS cc now tc kn fl op oa ob oc st gn lr rg pc tr wt dl mc mk mf mv lm mon par ce ct ca sg mx wd cn cl rc rk tp tv wa dy kd rs lk cel trd ms cnt) : ∃ r : Int32, (∀ post : Int32 → Prop, post r → wpX_child post (fl, nI N, nI cap, nI Q, nI CS, nI cc, nI now, nI tc, op, oa, ob, oc, st, gn, lr, rg, pc, tr, wt, dl, mc, mk, mf, mv, ms, lm, mon, par, ce, ct, ca, sg, mx, wd, cn, cl, rc, rk, tp, tv, cnt) x y) ∧ (∀ post : Int32 → Prop, post r → wpY_child post (nI N, nI cap, nI Q, nI CS, nI now, nI cc, nI tc, nI kn, st, gn, lr, pc, wa, dy, tr, par, ce, ct, ca, kd, sg, mx, wd, rs, rg, mon, lk, mc, mk, mf, mv, ms, cel, trd, cnt) x y) := by
  have hN : N ≤ 8 := I.1.2.1
  obtain ⟨-, -, -, -, -, -, -, -, -, KY, KS, KX, -⟩ := I
  have hK : K.length ≤ 8 := am_K8 KY KS
  by_cases c : ∃ j, j < N ∧ x = nI j ∧ st j = 2
  · obtain ⟨j, hj, rfl, h1⟩ := c
    obtain ⟨x1, x2⟩ := KX j (by omega) h1
    have W : ∀ F : Int32 → Prop, F 1 → wpX_holdsSupervisor F (fl, nI N, nI cap, nI Q, nI CS, nI cc, nI now, nI tc, op, oa, ob, oc, st, gn, lr, rg, pc, tr, wt, dl, mc, mk, mf, mv, ms, lm, mon, par, ce, ct, ca, sg, mx, wd, cn, cl, rc, rk, tp, tv, cnt) (nI j) := fun F h => xh_s hN (fun w => (am_out w hj hN rfl).elim) (fun i hi e => by
      have : j = i := am_im e (by omega) (by omega)
      subst this; exact br_t h1 h)
    have V : ∀ F : Int32 → Prop, F 1 → wpY_holds F (nI N, nI cap, nI Q, nI CS, nI now, nI cc, nI tc, nI kn, st, gn, lr, pc, wa, dy, tr, par, ce, ct, ca, kd, sg, mx, wd, rs, rg, mon, lk, mc, mk, mf, mv, ms, cel, trd, cnt) (nI j) 2 := fun F h => yh_h hN (fun w => (am_out w hj hN rfl).elim) (fun i hi e => by
      have : j = i := am_im e (by omega) (by omega)
      subst this; exact br_t h1 h)
    have i1 : vp_in (nI j) 8 := vp_in_nI (by omega) (by omega)
    have e1 : (nI j).toNatClampNeg = j := nI_clamp (by omega)
    have hL : (am_CL K par j).length ≤ 8 := Nat.le_trans am_CL8 hK
    have Y : ∀ post : Int32 → Prop, ((∃ d y', y = nI (0 + d) ∧ (am_CL K par j)[d]? = some y' ∧ post (nI y')) ∨ ((∀ d, d < (am_CL K par j).length → ¬ y = nI (0 + d)) ∧ post (-1))) → wpY_child post (nI N, nI cap, nI Q, nI CS, nI now, nI cc, nI tc, nI kn, st, gn, lr, pc, wa, dy, tr, par, ce, ct, ca, kd, sg, mx, wd, rs, rg, mon, lk, mc, mk, mf, mv, ms, cel, trd, cnt) (nI j) y := fun post p => by
      unfold wpY_child
      exact V _ (br_f am_10 ⟨9, yc_16 hK (fun x hx => (KS.1 x hx).1) KY K 0 0 9 rfl (by omega) (by omega) (by omega) p⟩)
    rcases pk_ix y (n := (am_CL K par j).length) (by omega) with d | d | ⟨i, hi, rfl⟩
    · refine ⟨-1, fun post p => ?_, fun post p => Y post (Or.inr ⟨fun k hk e => ?_, p⟩)⟩
      · unfold wpX_child
        exact W _ (br_f am_10 (br_t d p))
      · rw [e] at d; exact nI_pos (by omega) d
    · refine ⟨-1, fun post p => ?_, fun post p => Y post (Or.inr ⟨fun k hk e => ?_, p⟩)⟩
      · unfold wpX_child
        exact W _ (br_f am_10 (br_c (fun _ => p) (fun _ => ⟨i1, br_f (by rw [e1, x1]; exact Int32.not_lt.mpr d) p⟩)))
      · rw [e] at d; exact nI_ge (by omega) (by omega) d
    · obtain ⟨a, ha⟩ : ∃ a, (am_CL K par j)[i]? = some a := ⟨_, List.getElem?_eq_getElem hi⟩
      refine ⟨nI a, fun post p => ?_, fun post p => Y post (Or.inl ⟨i, a, by rw [Nat.zero_add], ha, p⟩)⟩
      unfold wpX_child
      refine W _ (br_f am_10 (br_f (nI_pos (by omega)) ⟨i1, br_t (by rw [e1, x1]; exact nI_lt hi (by omega)) ⟨pk_in (j * 8 + i) 64 (by omega) (am_8 j i), ?_⟩⟩))
      rw [am_8, nI_clamp (by omega), x2 i a ha]
      exact p
  · refine ⟨-1, fun post p => ?_, fun post p => ?_⟩
    · unfold wpX_child
      exact xh_s hN (fun _ => br_t rfl p) (fun a ha e => ⟨fun z => absurd ⟨a, ha, e, z⟩ c, fun _ => br_t rfl p⟩)
    · unfold wpY_child
      exact yh_h hN (fun _ => br_t rfl p) (fun a ha e => ⟨fun z => absurd ⟨a, ha, e, z⟩ c, fun _ => br_t rfl p⟩)
theorem ya_23 {post : Int32 → Prop} {s w c k : Nat} {f : Nat → Nat} (hs : s < 8) (hw : wd s = nI w) (hw1 : w ≤ 100) (h5 : c ≤ 5) (hn : now ≤ 1000) (hf : ∀ i, i < c → f i ≤ now) (ho : ∀ i, i + 1 < c → f (i + 1) ≤ f i) (hr : ∀ t, t ≤ 1000 → now < t + w → rs (s * 1001 + t) = nI (am_cn (fun i => decide (f i = t)) c)) (hk : k < 2 ^ 31) (h : (k < c ∧ now < f k + w ∧ post (nI (now - f k))) ∨ (¬ (k < c ∧ now < f k + w) ∧ post (-1))) : ∀ T n, T < n → T ≤ now + 1 → am_cn (fun i => decide (T ≤ f i ∧ now < f i + w)) c ≤ k → wY_restartAge_23 post (nI s) (nI N) (nI cap) (nI Q) (nI CS) (nI now) (nI cc) (nI tc) (nI kn) st gn lr pc wa dy tr par ce ct ca kd sg mx wd rs rg mon lk mc mk mf mv ms cel trd cnt n (nI (k - am_cn (fun i => decide (T ≤ f i ∧ now < f i + w)) c)) (nI T - 1) := by
  have i1 : vp_in (nI s) 8 := vp_in_nI hs (by omega)
  have e1 : (nI s).toNatClampNeg = s := nI_clamp (by omega)
  have so : ∀ i j, i ≤ j → j < c → f j ≤ f i := fun i j a b => by
    have := am_srt ho (j - i) i (by omega)
    rw [show i + (j - i) = j by omega] at this
    exact this
  intro T
  induction T with
  | zero =>
    intro n hT _ hm
    obtain ⟨m, rfl⟩ : ∃ m, n = m + 1 := ⟨n - 1, by omega⟩
    refine br_t (by decide) ?_
    rcases h with ⟨a, b, -⟩ | h
    · have := am_cn_pre (p := fun i => decide (0 ≤ f i ∧ now < f i + w)) a (fun i hi => decide_eq_true ⟨Nat.zero_le _, by have := so i k hi a; omega⟩)
      omega
    · exact h.2
  | succ T ih =>
    intro n hT hT2 hm
    obtain ⟨m, rfl⟩ : ∃ m, n = m + 1 := ⟨n - 1, by omega⟩
    rw [nI_pred]
    refine br_f (nI_pos (by omega)) ⟨i1, ?_⟩
    rw [e1, hw, pk_sub (a := now) (b := T) (by omega)]
    refine pk_le w (now - T) (fun q => ?_) (fun q => ?_)
    · have e : am_cn (fun i => decide (T + 1 ≤ f i ∧ now < f i + w)) c = am_cn (fun i => decide (T ≤ f i ∧ now < f i + w)) c := am_cn_congr fun i hi => decide_eq_decide.mpr ⟨fun z => ⟨by omega, z.2⟩, fun z => ⟨by omega, z.2⟩⟩
      rw [e] at hm ⊢
      exact br_t (nI_pos' (by omega)) (nm_r (am_sub1 _) (ih m (by omega) (by omega) hm))
    · have e : am_cn (fun i => decide (T ≤ f i ∧ now < f i + w)) c = am_cn (fun i => decide (T + 1 ≤ f i ∧ now < f i + w)) c + am_cn (fun i => decide (f i = T)) c := am_cn_add (fun i hi => by
        rw [← Bool.decide_or]
        refine decide_eq_decide.mpr ⟨fun z => ?_, fun z => ?_⟩
        · by_cases y : f i = T
          · exact Or.inr y
          · exact Or.inl ⟨by omega, z.2⟩
        · rcases z with z | z
          · exact ⟨by omega, z.2⟩
          · exact ⟨by omega, by omega⟩) (fun i hi z => by
        have z1 := of_decide_eq_true z.1
        have z2 := of_decide_eq_true z.2
        omega)
      have hc5 : am_cn (fun i => decide (f i = T)) c ≤ 5 := Nat.le_trans (am_cn_le _ c) h5
      refine ⟨pk_in (s * 1001 + T) 8008 (by omega) (am_1001 s T), ?_⟩
      rw [am_1001, nI_clamp (by omega), hr T (by omega) (by omega)]
      by_cases b : am_cn (fun i => decide (T ≤ f i ∧ now < f i + w)) c ≤ k
      · refine nm_r (pk_sub (by omega)) (br_t (nI_pos' (by omega)) (nm_r (am_sub1 _) ?_))
        have z := ih m (by omega) (by omega) b
        rw [show k - am_cn (fun i => decide (T ≤ f i ∧ now < f i + w)) c = k - am_cn (fun i => decide (T + 1 ≤ f i ∧ now < f i + w)) c - am_cn (fun i => decide (f i = T)) c by omega] at z
        exact z
      · refine nm_e (br_f (Int32.not_le.mpr (pk_sneg (by omega) (by omega))) ?_)
        rw [pk_sub (a := now) (b := T) (by omega)]
        have kc : k < c := by have := am_cn_le (fun i => decide (T ≤ f i ∧ now < f i + w)) c; omega
        have k1 : T ≤ f k ∧ now < f k + w := Classical.byContradiction fun w' => b (am_cn_suf fun i h1 h2 => decide_eq_false fun z => w' (by
          have := so k i h1 h2
          exact ⟨by omega, by omega⟩))
        have k2 : f k ≤ T := Classical.byContradiction fun w' => by
          have := am_cn_pre (p := fun i => decide (T + 1 ≤ f i ∧ now < f i + w)) kc (fun i hi => decide_eq_true (by have := so i k hi kc; exact ⟨by omega, by omega⟩))
          omega
        rcases h with ⟨-, -, p⟩ | ⟨p, -⟩
        · rw [show f k = T by omega] at p
          exact p
        · exact absurd ⟨kc, k1.2⟩ p
theorem gt_age {K : List Nat} {x y : Int32} (I : am_I K N cap Q CS cc now tc kn fl op oa ob oc st gn lr rg pc tr wt dl mc mk mf mv lm mon par ce ct ca sg mx wd cn cl rc rk tp tv wa dy kd rs lk cel trd ms cnt) : ∃ r : Int32, (∀ post : Int32 → Prop, post r → wpX_restartAge post (fl, nI N, nI cap, nI Q, nI CS, nI cc, nI now, nI tc, op, oa, ob, oc, st, gn, lr, rg, pc, tr, wt, dl, mc, mk, mf, mv, ms, lm, mon, par, ce, ct, ca, sg, mx, wd, cn, cl, rc, rk, tp, tv, cnt) x y) ∧ (∀ post : Int32 → Prop, post r → wpY_restartAge post (nI N, nI cap, nI Q, nI CS, nI now, nI cc, nI tc, nI kn, st, gn, lr, pc, wa, dy, tr, par, ce, ct, ca, kd, sg, mx, wd, rs, rg, mon, lk, mc, mk, mf, mv, ms, cel, trd, cnt) x y) := by
  have hN : N ≤ 8 := I.1.2.1
  have hn : now ≤ 1000 := by have := I.1; unfold iS at this; omega
  obtain ⟨-, -, -, -, -, -, -, -, -, -, -, -, IR⟩ := I
  by_cases c : ∃ j, j < N ∧ x = nI j ∧ st j = 2
  · obtain ⟨j, hj, rfl, h1⟩ := c
    obtain ⟨-, -, w, c, f, w1, w2, w3, c1, c2, f1, f2, f3⟩ := IR j (by omega) h1
    have W : ∀ F : Int32 → Prop, F 1 → wpX_holdsSupervisor F (fl, nI N, nI cap, nI Q, nI CS, nI cc, nI now, nI tc, op, oa, ob, oc, st, gn, lr, rg, pc, tr, wt, dl, mc, mk, mf, mv, ms, lm, mon, par, ce, ct, ca, sg, mx, wd, cn, cl, rc, rk, tp, tv, cnt) (nI j) := fun F h => xh_s hN (fun w => (am_out w hj hN rfl).elim) (fun i hi e => by
      have : j = i := am_im e (by omega) (by omega)
      subst this; exact br_t h1 h)
    have V : ∀ F : Int32 → Prop, F 1 → wpY_holds F (nI N, nI cap, nI Q, nI CS, nI now, nI cc, nI tc, nI kn, st, gn, lr, pc, wa, dy, tr, par, ce, ct, ca, kd, sg, mx, wd, rs, rg, mon, lk, mc, mk, mf, mv, ms, cel, trd, cnt) (nI j) 2 := fun F h => yh_h hN (fun w => (am_out w hj hN rfl).elim) (fun i hi e => by
      have : j = i := am_im e (by omega) (by omega)
      subst this; exact br_t h1 h)
    have i1 : vp_in (nI j) 8 := vp_in_nI (by omega) (by omega)
    have e1 : (nI j).toNatClampNeg = j := nI_clamp (by omega)
    by_cases d : y < 0
    · refine ⟨-1, fun post p => ?_, fun post p => ?_⟩
      · unfold wpX_restartAge
        exact W _ (br_f am_10 (br_t d p))
      · unfold wpY_restartAge
        exact V _ (br_f am_10 (br_f (Int32.not_le.mpr d) p))
    · obtain ⟨k, hk, rfl⟩ := nI_of d
      have Y : ∀ post : Int32 → Prop, ((k < c ∧ now < f k + w ∧ post (nI (now - f k))) ∨ (¬ (k < c ∧ now < f k + w) ∧ post (-1))) → wpY_restartAge post (nI N, nI cap, nI Q, nI CS, nI now, nI cc, nI tc, nI kn, st, gn, lr, pc, wa, dy, tr, par, ce, ct, ca, kd, sg, mx, wd, rs, rg, mon, lk, mc, mk, mf, mv, ms, cel, trd, cnt) (nI j) (nI k) := fun post p => by
        have e0 : am_cn (fun i => decide (now + 1 ≤ f i ∧ now < f i + w)) c = 0 := am_cn_0 fun i hi => decide_eq_false fun z => by have := (f1 i hi).2; omega
        have z := ya_23 (N := N) (cap := cap) (Q := Q) (CS := CS) (now := now) (cc := cc) (tc := tc) (kn := kn) (st := st) (gn := gn) (lr := lr) (pc := pc) (wa := wa) (dy := dy) (tr := tr) (par := par) (ce := ce) (ct := ct) (ca := ca) (kd := kd) (sg := sg) (mx := mx) (wd := wd) (rs := rs) (rg := rg) (mon := mon) (lk := lk) (mc := mc) (mk := mk) (mf := mf) (mv := mv) (ms := ms) (cel := cel) (trd := trd) (cnt := cnt) (post := post) (s := j) (by omega) w3 w2 c1 hn (fun i hi => (f1 i hi).2) f2 f3 hk p (now + 1) (now + 2) (by omega) (by omega) (by omega)
        rw [e0, nI_pred] at z
        unfold wpY_restartAge
        exact V _ (br_f am_10 (br_t (nI_pos' hk) ⟨now + 2, z⟩))
      by_cases kc : k < c
      · obtain ⟨g1, g2⟩ := f1 k kc
        have X : ∀ post : Int32 → Prop, (w ≤ now - f k → post (-1)) → (now - f k < w → post (nI (now - f k))) → wpX_restartAge post (fl, nI N, nI cap, nI Q, nI CS, nI cc, nI now, nI tc, op, oa, ob, oc, st, gn, lr, rg, pc, tr, wt, dl, mc, mk, mf, mv, ms, lm, mon, par, ce, ct, ca, sg, mx, wd, cn, cl, rc, rk, tp, tv, cnt) (nI j) (nI k) := fun post p q => by
          unfold wpX_restartAge
          refine W _ (br_f am_10 (br_f d ⟨i1, br_t (by rw [e1, c2]; exact nI_lt kc (by omega)) ⟨pk_in (j * 5 + k) 40 (by omega) (am_5 j k), nm_r (e' := nI (now - f k)) ?_ ⟨i1, ?_⟩⟩⟩))
          · rw [am_5, nI_clamp (by omega), g1, pk_sub g2]
          · rw [e1, w3]
            exact pk_le w (now - f k) p q
        by_cases q : now < f k + w
        · exact ⟨nI (now - f k), fun post p => X post (fun z => by omega) (fun _ => p), fun post p => Y post (Or.inl ⟨kc, q, p⟩)⟩
        · exact ⟨-1, fun post p => X post (fun _ => p) (fun z => by omega), fun post p => Y post (Or.inr ⟨fun z => q z.2, p⟩)⟩
      · refine ⟨-1, fun post p => ?_, fun post p => Y post (Or.inr ⟨fun z => kc z.1, p⟩)⟩
        unfold wpX_restartAge
        exact W _ (br_f am_10 (br_f d ⟨i1, br_f (by rw [e1, c2]; exact nI_nlt (by omega) hk) p⟩))
  · refine ⟨-1, fun post p => ?_, fun post p => ?_⟩
    · unfold wpX_restartAge
      exact xh_s hN (fun _ => br_t rfl p) (fun a ha e => ⟨fun z => absurd ⟨a, ha, e, z⟩ c, fun _ => br_t rfl p⟩)
    · unfold wpY_restartAge
      exact yh_h hN (fun _ => br_t rfl p) (fun a ha e => ⟨fun z => absurd ⟨a, ha, e, z⟩ c, fun _ => br_t rfl p⟩)
end GU
end
section
/-! 39: process -/
section GP
variable {N cap Q CS cc now tc kn : Nat} {fl : Int32} {op oa ob oc st gn lr rg pc tr wt dl mc mk mf mv lm mon par ce ct ca sg mx wd cn cl rc rk tp tv wa dy kd rs lk cel trd : Nat → Int32} {ms cnt : Nat → Int64}
theorem xp_w {post : Int32 → Prop} {j f : Nat} (hj : j < N) (hN : N ≤ 8) (h4 : 4 ≤ f) (h7 : f ≤ 7) (h : (st j = 1 → wpX_workerField post (fl, nI N, nI cap, nI Q, nI CS, nI cc, nI now, nI tc, op, oa, ob, oc, st, gn, lr, rg, pc, tr, wt, dl, mc, mk, mf, mv, ms, lm, mon, par, ce, ct, ca, sg, mx, wd, cn, cl, rc, rk, tp, tv, cnt) (nI j) (nI f)) ∧ (¬ st j = 1 → post 0)) : wpX_process post (fl, nI N, nI cap, nI Q, nI CS, nI cc, nI now, nI tc, op, oa, ob, oc, st, gn, lr, rg, pc, tr, wt, dl, mc, mk, mf, mv, ms, lm, mon, par, ce, ct, ca, sg, mx, wd, cn, cl, rc, rk, tp, tv, cnt) (nI j) (nI f) := by
  refine br_f (nI_pos (by omega)) (br_f (nI_ge hj (by omega)) (br_f (nI_pos (by omega)) (br_t (nI_le (b := 15) (by omega) (by omega)) (br_f (nI_pos (by omega)) (br_t (nI_lt (a := 3) (by omega) (by omega)) (br_f (nI_nlt (a := 7) (by omega) (by omega)) ⟨vp_in_nI (by omega) (by omega), ?_⟩))))))
  rw [nI_clamp (by omega)]
  exact h
theorem xp_c {post : Int32 → Prop} {j f : Nat} (hj : j < N) (hN : N ≤ 8) (h4 : 8 ≤ f) (h7 : f ≤ 11) (h : (st j = 1 → ((par j < 0 → post 0) ∧ (¬ par j < 0 → wpX_childField post (fl, nI N, nI cap, nI Q, nI CS, nI cc, nI now, nI tc, op, oa, ob, oc, st, gn, lr, rg, pc, tr, wt, dl, mc, mk, mf, mv, ms, lm, mon, par, ce, ct, ca, sg, mx, wd, cn, cl, rc, rk, tp, tv, cnt) (nI j) (nI f)))) ∧ (¬ st j = 1 → post 0)) : wpX_process post (fl, nI N, nI cap, nI Q, nI CS, nI cc, nI now, nI tc, op, oa, ob, oc, st, gn, lr, rg, pc, tr, wt, dl, mc, mk, mf, mv, ms, lm, mon, par, ce, ct, ca, sg, mx, wd, cn, cl, rc, rk, tp, tv, cnt) (nI j) (nI f) := by
  refine br_f (nI_pos (by omega)) (br_f (nI_ge hj (by omega)) (br_f (nI_pos (by omega)) (br_t (nI_le (b := 15) (by omega) (by omega)) (br_f (nI_pos (by omega)) (br_t (nI_lt (a := 3) (by omega) (by omega)) (br_t (nI_lt (a := 7) (by omega) (by omega)) (br_f (nI_nlt (a := 11) (by omega) (by omega)) ⟨vp_in_nI (by omega) (by omega), ?_⟩)))))))
  rw [nI_clamp (by omega)]
  refine br_c (fun q => ⟨vp_in_nI (by omega) (by omega), br_c (fun r => br_t rfl ((h.1 q).1 r)) (fun r => br_f am_10 ((h.1 q).2 r))⟩) (fun q => br_t rfl (h.2 q))
theorem xp_s {post : Int32 → Prop} {j f : Nat} (hj : j < N) (hN : N ≤ 8) (h4 : 12 ≤ f) (h7 : f ≤ 15) (h : (st j = 2 → wpX_supervisorField post (fl, nI N, nI cap, nI Q, nI CS, nI cc, nI now, nI tc, op, oa, ob, oc, st, gn, lr, rg, pc, tr, wt, dl, mc, mk, mf, mv, ms, lm, mon, par, ce, ct, ca, sg, mx, wd, cn, cl, rc, rk, tp, tv, cnt) (nI j) (nI f)) ∧ (¬ st j = 2 → post 0)) : wpX_process post (fl, nI N, nI cap, nI Q, nI CS, nI cc, nI now, nI tc, op, oa, ob, oc, st, gn, lr, rg, pc, tr, wt, dl, mc, mk, mf, mv, ms, lm, mon, par, ce, ct, ca, sg, mx, wd, cn, cl, rc, rk, tp, tv, cnt) (nI j) (nI f) := by
  refine br_f (nI_pos (by omega)) (br_f (nI_ge hj (by omega)) (br_f (nI_pos (by omega)) (br_t (nI_le (b := 15) (by omega) (by omega)) (br_f (nI_pos (by omega)) (br_t (nI_lt (a := 3) (by omega) (by omega)) (br_t (nI_lt (a := 7) (by omega) (by omega)) (br_t (nI_lt (a := 11) (by omega) (by omega)) ⟨vp_in_nI (by omega) (by omega), ?_⟩)))))))
  rw [nI_clamp (by omega)]
  exact h
theorem yp_5 {post : Int32 → Prop} {j f : Nat} (hj : j < N) (hN : N ≤ 8) (h7 : f ≤ 15) (h : wY_process_55 post (nI j) (nI f) (am_b (decide (st j = 1))) (am_b (decide (st j = 2))) (nI N) (nI cap) (nI Q) (nI CS) (nI now) (nI cc) (nI tc) (nI kn) st gn lr pc wa dy tr par ce ct ca kd sg mx wd rs rg mon lk mc mk mf mv ms cel trd cnt) : wpY_process post (nI N, nI cap, nI Q, nI CS, nI now, nI cc, nI tc, nI kn, st, gn, lr, pc, wa, dy, tr, par, ce, ct, ca, kd, sg, mx, wd, rs, rg, mon, lk, mc, mk, mf, mv, ms, cel, trd, cnt) (nI j) (nI f) := by
  have i1 : vp_in (nI j) 8 := vp_in_nI (by omega) (by omega)
  have e1 : (nI j).toNatClampNeg = j := nI_clamp (by omega)
  refine br_f (nI_pos (by omega)) (br_f (nI_ge hj (by omega)) (br_f (nI_pos (by omega)) (br_t (nI_le (b := 15) (by omega) (by omega)) ⟨i1, ?_⟩)))
  rw [e1]
  refine br_c (fun q => ⟨i1, ?_⟩) (fun q => ⟨i1, ?_⟩)
  · rw [e1]
    rw [decide_eq_true q] at h
    refine br_c (fun r => ?_) (fun r => ?_)
    · rw [decide_eq_true r] at h; exact h
    · rw [decide_eq_false r] at h; exact h
  · rw [e1]
    rw [decide_eq_false q] at h
    refine br_c (fun r => ?_) (fun r => ?_)
    · rw [decide_eq_true r] at h; exact h
    · rw [decide_eq_false r] at h; exact h
theorem yp_w {post : Int32 → Prop} {j f : Nat} {k : Int32} {b : Bool} (h4 : 4 ≤ f) (h7 : f ≤ 11) (h : (b = false → post 0) ∧ (b = true → wY_process_152 post (nI j) (nI f) k (nI N) (nI cap) (nI Q) (nI CS) (nI now) (nI cc) (nI tc) (nI kn) st gn lr pc wa dy tr par ce ct ca kd sg mx wd rs rg mon lk mc mk mf mv ms cel trd cnt)) : wY_process_55 post (nI j) (nI f) (am_b b) k (nI N) (nI cap) (nI Q) (nI CS) (nI now) (nI cc) (nI tc) (nI kn) st gn lr pc wa dy tr par ce ct ca kd sg mx wd rs rg mon lk mc mk mf mv ms cel trd cnt := by
  refine br_f (nI_ne0 (by omega) (by omega)) (br_f (fun z => ?_) (br_f (fun z => ?_) (br_f (fun z => ?_) (br_f (nI_nlt (a := 11) (by omega) (by omega)) (am_br h.1 h.2)))))
  · have := am_im (b := 1) z (by omega) (by omega); omega
  · have := am_im (b := 2) z (by omega) (by omega); omega
  · have := am_im (b := 3) z (by omega) (by omega); omega
theorem yp_c {post : Int32 → Prop} {j f : Nat} {k : Int32} (hj : j < 8) (h4 : 8 ≤ f) (h7 : f ≤ 11) (h : (0 ≤ par j → wY_process_259 post (nI j) (nI f) k (nI N) (nI cap) (nI Q) (nI CS) (nI now) (nI cc) (nI tc) (nI kn) st gn lr pc wa dy tr par ce ct ca kd sg mx wd rs rg mon lk mc mk mf mv ms cel trd cnt) ∧ (¬ 0 ≤ par j → post 0)) : wY_process_152 post (nI j) (nI f) k (nI N) (nI cap) (nI Q) (nI CS) (nI now) (nI cc) (nI tc) (nI kn) st gn lr pc wa dy tr par ce ct ca kd sg mx wd rs rg mon lk mc mk mf mv ms cel trd cnt := by
  refine br_f (fun z => ?_) (br_f (fun z => ?_) (br_f (fun z => ?_) (br_f (fun z => ?_) (br_f (nI_nlt (a := 11) (by omega) (by omega)) ⟨vp_in_nI (by omega) (by omega), ?_⟩))))
  · have := am_im (b := 4) z (by omega) (by omega); omega
  · have := am_im (b := 5) z (by omega) (by omega); omega
  · have := am_im (b := 6) z (by omega) (by omega); omega
  · have := am_im (b := 7) z (by omega) (by omega); omega
  · rw [nI_clamp (by omega)]; exact h
theorem yp_s {post : Int32 → Prop} {j f : Nat} {k : Int32} {b : Bool} (h4 : 12 ≤ f) (h7 : f ≤ 15) (h : (b = false → post 0) ∧ (b = true → wY_process_259 post (nI j) (nI f) 1 (nI N) (nI cap) (nI Q) (nI CS) (nI now) (nI cc) (nI tc) (nI kn) st gn lr pc wa dy tr par ce ct ca kd sg mx wd rs rg mon lk mc mk mf mv ms cel trd cnt)) : wY_process_55 post (nI j) (nI f) k (am_b b) (nI N) (nI cap) (nI Q) (nI CS) (nI now) (nI cc) (nI tc) (nI kn) st gn lr pc wa dy tr par ce ct ca kd sg mx wd rs rg mon lk mc mk mf mv ms cel trd cnt := by
  refine br_f (nI_ne0 (by omega) (by omega)) (br_f (fun z => ?_) (br_f (fun z => ?_) (br_f (fun z => ?_) (br_t (nI_lt (a := 11) (by omega) (by omega)) ?_))))
  · have := am_im (b := 1) z (by omega) (by omega); omega
  · have := am_im (b := 2) z (by omega) (by omega); omega
  · have := am_im (b := 3) z (by omega) (by omega); omega
  · refine br_f (fun z => ?_) (br_f (fun z => ?_) (br_f (fun z => ?_) (br_f (fun z => ?_) (br_t (nI_lt (a := 11) (by omega) (by omega)) ?_))))
    · have := am_im (b := 4) z (by omega) (by omega); omega
    · have := am_im (b := 5) z (by omega) (by omega); omega
    · have := am_im (b := 6) z (by omega) (by omega); omega
    · have := am_im (b := 7) z (by omega) (by omega); omega
    · cases b
      · refine br_f (fun z => ?_) (br_t (nI_lt (a := 11) (by omega) (by omega)) (br_t rfl (h.1 rfl)))
        have := am_im (b := 8) z (by omega) (by omega); omega
      · exact h.2 rfl
theorem yp_375 {post : Int32 → Prop} {j : Nat} (h : post (nI (am_cn (fun x => decide (par x = nI j)) 8))) : ∀ d s n, s + d = 8 → d < n → wY_process_375 post (nI j) (nI N) (nI cap) (nI Q) (nI CS) (nI now) (nI cc) (nI tc) (nI kn) st gn lr pc wa dy tr par ce ct ca kd sg mx wd rs rg mon lk mc mk mf mv ms cel trd cnt n (nI (am_cn (fun x => decide (par x = nI j)) s)) (nI s) := by
  intro d
  induction d with
  | zero =>
    intro s n hs hn
    obtain ⟨m, rfl⟩ : ∃ m, n = m + 1 := ⟨n - 1, by omega⟩
    obtain rfl : s = 8 := hs
    exact br_t (Int32.le_refl _) h
  | succ d ih =>
    intro s n hs hn
    obtain ⟨m, rfl⟩ : ∃ m, n = m + 1 := ⟨n - 1, by omega⟩
    have z := ih (s + 1) m (by omega) (by omega)
    unfold am_cn at z
    refine br_f (nI_ge (b := 8) (by omega) (by omega)) ⟨vp_in_nI (by omega) (by omega), ?_⟩
    rw [nI_clamp (by omega)]
    by_cases c : par s = nI j
    · rw [if_pos (decide_eq_true c)] at z
      exact br_t c (nm_r (nI_1 _) (nm_r (nI_1 s) z))
    · rw [if_neg (by rw [decide_eq_false c]; decide)] at z
      exact br_f c (nm_r (nI_1 s) z)
theorem gt_proc {K : List Nat} {x y : Int32} (I : am_I K N cap Q CS cc now tc kn fl op oa ob oc st gn lr rg pc tr wt dl mc mk mf mv lm mon par ce ct ca sg mx wd cn cl rc rk tp tv wa dy kd rs lk cel trd ms cnt) (nf : ∀ j, j < 8 → ¬ st j = 3) : ∃ r : Int32, (∀ post : Int32 → Prop, post r → wpX_process post (fl, nI N, nI cap, nI Q, nI CS, nI cc, nI now, nI tc, op, oa, ob, oc, st, gn, lr, rg, pc, tr, wt, dl, mc, mk, mf, mv, ms, lm, mon, par, ce, ct, ca, sg, mx, wd, cn, cl, rc, rk, tp, tv, cnt) x y) ∧ (∀ post : Int32 → Prop, post r → wpY_process post (nI N, nI cap, nI Q, nI CS, nI now, nI cc, nI tc, nI kn, st, gn, lr, pc, wa, dy, tr, par, ce, ct, ca, kd, sg, mx, wd, rs, rg, mon, lk, mc, mk, mf, mv, ms, cel, trd, cnt) x y) := by
  have hN : N ≤ 8 := I.1.2.1
  rcases pk_ix x (n := N) (by omega) with c | c | ⟨j, hj, rfl⟩
  · exact ⟨-1, fun post p => br_t c p, fun post p => br_t c p⟩
  · exact ⟨-1, fun post p => br_c (fun _ => p) (fun _ => br_t c p), fun post p => br_c (fun _ => p) (fun _ => br_t c p)⟩
  have hj8 : j < 8 := by omega
  have i1 : vp_in (nI j) 8 := vp_in_nI (by omega) (by omega)
  have e1 : (nI j).toNatClampNeg = j := nI_clamp (by omega)
  have n0 : ¬ nI j < 0 := nI_pos (by omega)
  have l2 : ¬ nI N ≤ nI j := nI_ge hj (by omega)
  by_cases cy : 0 ≤ y ∧ y ≤ 15
  · obtain ⟨f, hf, rfl⟩ := nI_of2 (x := y) (M := 15) (n := 15) (by decide) (Int32.not_lt.mpr cy.1) cy.2
    obtain ⟨-, -, -, ST, -, -, IW, -, -, KY, KS, KX, -⟩ := I
    have s4 : st j = 0 ∨ st j = 1 ∨ st j = 2 := by
      rcases (ST j hj8).1 with q | q | q | q
      · exact Or.inl q
      · exact Or.inr (Or.inl q)
      · exact Or.inr (Or.inr q)
      · exact absurd q (nf j hj8)
    rcases (by omega : f = 0 ∨ f = 1 ∨ f = 2 ∨ f = 3 ∨ (4 ≤ f ∧ f ≤ 7) ∨ (8 ≤ f ∧ f ≤ 11) ∨ (12 ≤ f ∧ f ≤ 15)) with e | e | e | e | e | e | e
    · subst e
      refine ⟨st j, fun post p => ?_, fun post p => yp_5 hj hN (by omega) (br_t rfl ⟨i1, by rw [e1]; exact p⟩)⟩
      exact br_f n0 (br_f l2 (br_f (by decide) (br_t (by decide) (br_f (by decide) (br_f (by decide) (br_t rfl ⟨i1, by rw [e1]; exact p⟩))))))
    · subst e
      by_cases s0 : st j = 0
      · refine ⟨0, fun post p => ?_, fun post p => yp_5 hj hN (by omega) (br_f (by decide) (br_t rfl ?_))⟩
        · exact br_f n0 (br_f l2 (br_f (by decide) (br_t (by decide) (br_f (by decide) (br_f (by decide) (br_f (by decide) (br_t rfl ⟨i1, by rw [e1]; exact br_t s0 p⟩)))))))
        · rw [s0]; exact br_t rfl (br_t rfl p)
      · refine ⟨gn j * 8 + nI j, fun post p => ?_, fun post p => yp_5 hj hN (by omega) (br_f (by decide) (br_t rfl ?_))⟩
        · exact br_f n0 (br_f l2 (br_f (by decide) (br_t (by decide) (br_f (by decide) (br_f (by decide) (br_f (by decide) (br_t rfl ⟨i1, by rw [e1]; exact br_f s0 (xv_pid hj8 p)⟩)))))))
        · have q : wY_process_82 post (nI j) (nI N) (nI cap) (nI Q) (nI CS) (nI now) (nI cc) (nI tc) (nI kn) st gn lr pc wa dy tr par ce ct ca kd sg mx wd rs rg mon lk mc mk mf mv ms cel trd cnt := ⟨i1, by rw [e1]; exact p⟩
          rcases s4 with s | s | s
          · exact absurd s s0
          · rw [s]; exact br_f am_10 q
          · rw [s]; exact br_t rfl (br_f am_10 q)
    · subst e
      by_cases g0 : gn j = 0
      · refine ⟨0, fun post p => ?_, fun post p => yp_5 hj hN (by omega) (br_f (by decide) (br_f (by decide) (br_t rfl ⟨i1, by rw [e1]; exact br_t g0 p⟩)))⟩
        exact br_f n0 (br_f l2 (br_f (by decide) (br_t (by decide) (br_f (by decide) (br_f (by decide) (br_f (by decide) (br_f (by decide) (br_t rfl ⟨i1, by rw [e1]; exact br_t g0 p⟩))))))))
      · refine ⟨gn j * 8 + nI j, fun post p => ?_, fun post p => yp_5 hj hN (by omega) (br_f (by decide) (br_f (by decide) (br_t rfl ⟨i1, by rw [e1]; exact br_f g0 ⟨i1, p⟩⟩)))⟩
        exact br_f n0 (br_f l2 (br_f (by decide) (br_t (by decide) (br_f (by decide) (br_f (by decide) (br_f (by decide) (br_f (by decide) (br_t rfl ⟨i1, by rw [e1]; exact br_f g0 (xv_pid hj8 p)⟩))))))))
    · subst e
      refine ⟨lr j, fun post p => ?_, fun post p => yp_5 hj hN (by omega) (br_f (by decide) (br_f (by decide) (br_f (by decide) (br_t rfl ⟨i1, by rw [e1]; exact p⟩))))⟩
      exact br_f n0 (br_f l2 (br_f (by decide) (br_t (by decide) (br_f (by decide) (br_f (by decide) (br_f (by decide) (br_f (by decide) (br_f (by decide) (br_t rfl ⟨i1, by rw [e1]; exact p⟩)))))))))
    · by_cases s1 : st j = 1
      · have Y : ∀ post : Int32 → Prop, wY_process_152 post (nI j) (nI f) (am_b (decide (st j = 2))) (nI N) (nI cap) (nI Q) (nI CS) (nI now) (nI cc) (nI tc) (nI kn) st gn lr pc wa dy tr par ce ct ca kd sg mx wd rs rg mon lk mc mk mf mv ms cel trd cnt → wpY_process post (nI N, nI cap, nI Q, nI CS, nI now, nI cc, nI tc, nI kn, st, gn, lr, pc, wa, dy, tr, par, ce, ct, ca, kd, sg, mx, wd, rs, rg, mon, lk, mc, mk, mf, mv, ms, cel, trd, cnt) (nI j) (nI f) := fun post p => yp_5 hj hN hf (yp_w e.1 (by omega) ⟨fun z => absurd s1 (of_decide_eq_false z), fun _ => p⟩)
        have X : ∀ post : Int32 → Prop, wpX_workerField post (fl, nI N, nI cap, nI Q, nI CS, nI cc, nI now, nI tc, op, oa, ob, oc, st, gn, lr, rg, pc, tr, wt, dl, mc, mk, mf, mv, ms, lm, mon, par, ce, ct, ca, sg, mx, wd, cn, cl, rc, rk, tp, tv, cnt) (nI j) (nI f) → wpX_process post (fl, nI N, nI cap, nI Q, nI CS, nI cc, nI now, nI tc, op, oa, ob, oc, st, gn, lr, rg, pc, tr, wt, dl, mc, mk, mf, mv, ms, lm, mon, par, ce, ct, ca, sg, mx, wd, cn, cl, rc, rk, tp, tv, cnt) (nI j) (nI f) := fun post p => xp_w hj hN e.1 e.2 (br_t s1 p)
        rcases (by omega : f = 4 ∨ f = 5 ∨ f = 6 ∨ f = 7) with e | e | e | e <;> subst e
        · exact ⟨pc j, fun post p => X post (br_t rfl ⟨i1, by rw [e1]; exact p⟩), fun post p => Y post (br_t rfl ⟨i1, by rw [e1]; exact p⟩)⟩
        · rcases IW j hj8 s1 with ⟨a, b⟩ | ⟨a, b, d⟩ | ⟨a, b, d, d0, d1, d2⟩
          · exact ⟨0, fun post p => X post (br_f (by decide) (br_t rfl ⟨i1, by rw [e1]; exact br_t a p⟩)), fun post p => Y post (br_f (by decide) (br_t rfl ⟨i1, by rw [e1]; exact br_t b p⟩))⟩
          · exact ⟨-1, fun post p => X post (br_f (by decide) (br_t rfl ⟨i1, by rw [e1, a, d]; exact br_f am_10 ⟨i1, br_f am_n1le p⟩⟩)), fun post p => Y post (br_f (by decide) (br_t rfl ⟨i1, by rw [e1, b]; exact br_f am_10 ⟨i1, br_t rfl p⟩⟩))⟩
          · exact ⟨nI d - nI now, fun post p => X post (br_f (by decide) (br_t rfl ⟨i1, by rw [e1, a, d1]; exact br_f am_10 ⟨i1, br_t (nI_pos' (by omega)) ⟨i1, p⟩⟩⟩)), fun post p => Y post (br_f (by decide) (br_t rfl ⟨i1, by rw [e1, b, d2]; exact br_f (by decide) ⟨i1, br_f (by decide) ⟨i1, p⟩⟩⟩))⟩
        · by_cases t : tr j = 0
          · exact ⟨0, fun post p => X post (br_f (by decide) (br_f (by decide) (br_t rfl ⟨i1, by rw [e1]; exact br_t t p⟩))), fun post p => Y post (br_f (by decide) (br_f (by decide) (br_t rfl ⟨i1, by rw [e1]; exact br_t t p⟩)))⟩
          · exact ⟨1, fun post p => X post (br_f (by decide) (br_f (by decide) (br_t rfl ⟨i1, by rw [e1]; exact br_f t p⟩))), fun post p => Y post (br_f (by decide) (br_f (by decide) (br_t rfl ⟨i1, by rw [e1]; exact br_f t p⟩)))⟩
        · exact ⟨mc j, fun post p => X post (br_f (by decide) (br_f (by decide) (br_f (by decide) ⟨i1, by rw [e1]; exact p⟩))), fun post p => Y post (br_f (by decide) (br_f (by decide) (br_f (by decide) (br_t rfl ⟨i1, by rw [e1]; exact p⟩))))⟩
      · exact ⟨0, fun post p => xp_w hj hN e.1 e.2 (br_f s1 p), fun post p => yp_5 hj hN hf (yp_w e.1 (by omega) ⟨fun _ => p, fun z => absurd (of_decide_eq_true z) s1⟩)⟩
    · by_cases s1 : st j = 1
      · have Y : ∀ post : Int32 → Prop, ((0 ≤ par j → wY_process_259 post (nI j) (nI f) (am_b (decide (st j = 2))) (nI N) (nI cap) (nI Q) (nI CS) (nI now) (nI cc) (nI tc) (nI kn) st gn lr pc wa dy tr par ce ct ca kd sg mx wd rs rg mon lk mc mk mf mv ms cel trd cnt) ∧ (¬ 0 ≤ par j → post 0)) → wpY_process post (nI N, nI cap, nI Q, nI CS, nI now, nI cc, nI tc, nI kn, st, gn, lr, pc, wa, dy, tr, par, ce, ct, ca, kd, sg, mx, wd, rs, rg, mon, lk, mc, mk, mf, mv, ms, cel, trd, cnt) (nI j) (nI f) := fun post p => yp_5 hj hN hf (yp_w (by omega) e.2 ⟨fun z => absurd s1 (of_decide_eq_false z), fun _ => yp_c hj8 e.1 e.2 p⟩)
        by_cases q : par j < 0
        · exact ⟨0, fun post p => xp_c hj hN e.1 e.2 (br_t s1 (br_t q p)), fun post p => Y post (br_f (Int32.not_le.mpr q) p)⟩
        · have X : ∀ post : Int32 → Prop, wpX_childField post (fl, nI N, nI cap, nI Q, nI CS, nI cc, nI now, nI tc, op, oa, ob, oc, st, gn, lr, rg, pc, tr, wt, dl, mc, mk, mf, mv, ms, lm, mon, par, ce, ct, ca, sg, mx, wd, cn, cl, rc, rk, tp, tv, cnt) (nI j) (nI f) → wpX_process post (fl, nI N, nI cap, nI Q, nI CS, nI cc, nI now, nI tc, op, oa, ob, oc, st, gn, lr, rg, pc, tr, wt, dl, mc, mk, mf, mv, ms, lm, mon, par, ce, ct, ca, sg, mx, wd, cn, cl, rc, rk, tp, tv, cnt) (nI j) (nI f) := fun post p => xp_c hj hN e.1 e.2 (br_t s1 (br_f q p))
          have q' : 0 ≤ par j := am_nlt q
          have jK : j ∈ K := Classical.byContradiction fun w => q (by rw [(KS.2 j hj8 w).1]; exact am_n1lt)
          obtain ⟨-, -, p', p8, pe, -⟩ := KS.1 j jK
          rcases (by omega : f = 8 ∨ f = 9 ∨ f = 10 ∨ f = 11) with e | e | e | e <;> subst e
          · exact ⟨gn p' * 8 + nI p', fun post p => X post (br_t rfl ⟨i1, by rw [e1, pe]; exact xv_pid p8 p⟩), fun post p => Y post (br_t q' (br_t rfl ⟨i1, by rw [e1, pe]; exact yv_pid p8 p⟩))⟩
          · exact ⟨ce j, fun post p => X post (br_f (by decide) (br_t rfl ⟨i1, by rw [e1]; exact p⟩)), fun post p => Y post (br_t q' (br_f (by decide) (br_f (by decide) (br_t rfl ⟨i1, by rw [e1]; exact p⟩))))⟩
          · exact ⟨ct j, fun post p => X post (br_f (by decide) (br_f (by decide) (br_t rfl ⟨i1, by rw [e1]; exact p⟩))), fun post p => Y post (br_t q' (br_f (by decide) (br_f (by decide) (br_f (by decide) (br_t rfl ⟨i1, by rw [e1]; exact p⟩)))))⟩
          · exact ⟨ca j, fun post p => X post (br_f (by decide) (br_f (by decide) (br_f (by decide) ⟨i1, by rw [e1]; exact p⟩))), fun post p => Y post (br_t q' (br_f (by decide) (br_f (by decide) (br_f (by decide) (br_f (by decide) ⟨i1, by rw [e1]; exact p⟩)))))⟩
      · exact ⟨0, fun post p => xp_c hj hN e.1 e.2 (br_f s1 p), fun post p => yp_5 hj hN hf (yp_w (by omega) e.2 ⟨fun _ => p, fun z => absurd (of_decide_eq_true z) s1⟩)⟩
    · by_cases s2 : st j = 2
      · have Y : ∀ post : Int32 → Prop, wY_process_259 post (nI j) (nI f) 1 (nI N) (nI cap) (nI Q) (nI CS) (nI now) (nI cc) (nI tc) (nI kn) st gn lr pc wa dy tr par ce ct ca kd sg mx wd rs rg mon lk mc mk mf mv ms cel trd cnt → wpY_process post (nI N, nI cap, nI Q, nI CS, nI now, nI cc, nI tc, nI kn, st, gn, lr, pc, wa, dy, tr, par, ce, ct, ca, kd, sg, mx, wd, rs, rg, mon, lk, mc, mk, mf, mv, ms, cel, trd, cnt) (nI j) (nI f) := fun post p => yp_5 hj hN hf (yp_s e.1 e.2 ⟨fun z => absurd s2 (of_decide_eq_false z), fun _ => p⟩)
        have X : ∀ post : Int32 → Prop, wpX_supervisorField post (fl, nI N, nI cap, nI Q, nI CS, nI cc, nI now, nI tc, op, oa, ob, oc, st, gn, lr, rg, pc, tr, wt, dl, mc, mk, mf, mv, ms, lm, mon, par, ce, ct, ca, sg, mx, wd, cn, cl, rc, rk, tp, tv, cnt) (nI j) (nI f) → wpX_process post (fl, nI N, nI cap, nI Q, nI CS, nI cc, nI now, nI tc, op, oa, ob, oc, st, gn, lr, rg, pc, tr, wt, dl, mc, mk, mf, mv, ms, lm, mon, par, ce, ct, ca, sg, mx, wd, cn, cl, rc, rk, tp, tv, cnt) (nI j) (nI f) := fun post p => xp_s hj hN e.1 e.2 (br_t s2 p)
        rcases (by omega : f = 12 ∨ f = 13 ∨ f = 14 ∨ f = 15) with e | e | e | e <;> subst e
        · exact ⟨sg j, fun post p => X post (br_t rfl ⟨i1, by rw [e1]; exact p⟩), fun post p => Y post (br_f (by decide) (br_t (by decide) (br_f am_10 (br_f (by decide) (br_t rfl ⟨i1, by rw [e1]; exact p⟩)))))⟩
        · exact ⟨mx j, fun post p => X post (br_f (by decide) (br_t rfl ⟨i1, by rw [e1]; exact p⟩)), fun post p => Y post (br_f (by decide) (br_t (by decide) (br_f am_10 (br_f (by decide) (br_f (by decide) (br_t rfl ⟨i1, by rw [e1]; exact p⟩))))))⟩
        · exact ⟨wd j, fun post p => X post (br_f (by decide) (br_f (by decide) (br_t rfl ⟨i1, by rw [e1]; exact p⟩))), fun post p => Y post (br_f (by decide) (br_t (by decide) (br_f am_10 (br_f (by decide) (br_f (by decide) (br_f (by decide) ⟨i1, by rw [e1]; exact p⟩))))))⟩
        · have ec : cn j = nI (am_cn (fun x => decide (par x = nI j)) 8) := by
            rw [(KX j hj8 s2).1, am_cn_len 8 (am_CL K par j) (KY.1.filter _) fun x => by
              rw [am_CLm, decide_eq_true_eq]
              refine ⟨fun z => ⟨(KS.1 x z.1).1, z.2⟩, fun z => ⟨Classical.byContradiction fun w => ?_, z.2⟩⟩
              exact am_ne1 (a := j) (by omega) (z.2.symm.trans (KS.2 x z.1 w).1)]
          refine ⟨cn j, fun post p => X post (br_f (by decide) (br_f (by decide) (br_f (by decide) ⟨i1, by rw [e1]; exact p⟩))), fun post p => Y post (br_f (by decide) (br_t (by decide) (br_f am_10 (br_t (by decide) ⟨9, ?_⟩))))⟩
          rw [ec] at p
          exact yp_375 (N := N) (cap := cap) (Q := Q) (CS := CS) (now := now) (cc := cc) (tc := tc) (kn := kn) (st := st) (gn := gn) (lr := lr) (pc := pc) (wa := wa) (dy := dy) (tr := tr) (par := par) (ce := ce) (ct := ct) (ca := ca) (kd := kd) (sg := sg) (mx := mx) (wd := wd) (rs := rs) (rg := rg) (mon := mon) (lk := lk) (mc := mc) (mk := mk) (mf := mf) (mv := mv) (ms := ms) (cel := cel) (trd := trd) (cnt := cnt) (post := post) (j := j) p 8 0 9 rfl (by omega)
      · exact ⟨0, fun post p => xp_s hj hN e.1 e.2 (br_f s2 p), fun post p => yp_5 hj hN hf (yp_s e.1 e.2 ⟨fun _ => p, fun z => absurd (of_decide_eq_true z) s2⟩)⟩
  · exact ⟨-1, fun post p => br_f n0 (br_f l2 (br_c (fun _ => p) (fun q => br_f (fun w => cy ⟨am_nlt q, w⟩) p))), fun post p => br_f n0 (br_f l2 (br_c (fun _ => p) (fun q => br_f (fun w => cy ⟨am_nlt q, w⟩) p)))⟩
end GP
end
section
/-! 40: the beginning -/
def am_ini (i : Nat) : Nat → Int32 := fun j => if j < i then -1 else 0
theorem am_ini0 : am_ini 0 = fun _ => 0 := funext fun j => if_neg (by omega)
theorem am_inis (i : Nat) : upd (am_ini i) i (-1) = am_ini (i + 1) := by
  refine funext fun j => ?_
  by_cases e : j = i
  · subst e; rw [pk_us]; exact (if_pos (by omega)).symm
  · rw [pk_un e]
    unfold am_ini
    by_cases q : j < i
    · rw [if_pos q, if_pos (by omega)]
    · rw [if_neg q, if_neg (by omega)]
theorem ic_x {F : Int32 → Prop} (u : SX) {p a b : Int32} (h : (a ≤ p → ((p ≤ b → F p) ∧ (¬ p ≤ b → F b))) ∧ (¬ a ≤ p → F a)) : wpX_clamp F u p a b := h
theorem ic_y {F : Int32 → Prop} (u : SY) {p a b : Int32} (h : (a ≤ p → ((p ≤ b → F p) ∧ (¬ p ≤ b → F b))) ∧ (¬ a ≤ p → F a)) : wpY_clamp F u p a b := h
theorem ic_c (p : Int32) {lo hi : Nat} (h : lo ≤ hi) (hh : hi < 1000) : ∃ n, lo ≤ n ∧ n ≤ hi ∧ (∀ (F : Int32 → Prop) (u : SX), F (nI n) → wpX_clamp F u p (nI lo) (nI hi)) ∧ (∀ (F : Int32 → Prop) (v : SY), F (nI n) → wpY_clamp F v p (nI lo) (nI hi)) := by
  have key : ∃ n, lo ≤ n ∧ n ≤ hi ∧ ∀ F : Int32 → Prop, F (nI n) → ((nI lo ≤ p → ((p ≤ nI hi → F p) ∧ (¬ p ≤ nI hi → F (nI hi)))) ∧ (¬ nI lo ≤ p → F (nI lo))) := by
    rcases pk_ix p (n := hi + 1) (by omega) with c | c | ⟨j, hj, rfl⟩
    · refine ⟨lo, Nat.le_refl _, h, fun F f => br_f (fun w => ?_) f⟩
      exact nI_pos (n := lo) (by omega) (Int32.lt_of_le_of_lt w c)
    · refine ⟨hi, h, Nat.le_refl _, fun F f => br_t (Int32.le_trans (nI_le (by omega) (by omega)) c) (br_f (fun w => ?_) f)⟩
      exact nI_ge (a := hi) (b := hi + 1) (by omega) (by omega) (Int32.le_trans c w)
    · by_cases q : lo ≤ j
      · exact ⟨j, q, by omega, fun F f => br_t (nI_le q (by omega)) (br_t (nI_le (by omega) (by omega)) f)⟩
      · exact ⟨lo, Nat.le_refl _, h, fun F f => br_f (nI_ge (by omega) (by omega)) f⟩
  obtain ⟨n, n1, n2, n3⟩ := key
  exact ⟨n, n1, n2, fun F u f => ic_x u (n3 F f), fun F v f => ic_y v (n3 F f)⟩
section IN
variable {N cap Q CS cc now tc kn : Nat} {fl : Int32} {op oa ob oc st gn lr rg pc tr wt dl mc mk mf mv lm mon par ce ct ca sg mx wd cn cl rc rk tp tv wa dy kd rs lk cel trd : Nat → Int32} {ms cnt : Nat → Int64}
theorem in_x {post : SX → Prop} (h : post (fl, nI N, nI cap, nI Q, nI CS, nI cc, nI now, nI tc, op, oa, ob, oc, st, gn, am_ini 8, rg, pc, tr, wt, am_ini 8, mc, mk, mf, mv, ms, lm, mon, am_ini 8, ce, ct, ca, sg, mx, wd, cn, cl, rc, rk, tp, tv, cnt)) : ∀ d x n, x + d = 8 → d < n → wX_init_326 post fl (nI N) (nI cap) (nI Q) (nI CS) (nI cc) (nI now) (nI tc) n (nI x) op oa ob oc st gn (am_ini x) rg pc tr wt (am_ini x) mc mk mf mv ms lm mon (am_ini x) ce ct ca sg mx wd cn cl rc rk tp tv cnt := by
  intro d
  induction d with
  | zero =>
    intro x n hx hn
    obtain ⟨m, rfl⟩ : ∃ m, n = m + 1 := ⟨n - 1, by omega⟩
    obtain rfl : x = 8 := hx
    exact br_t (Int32.le_refl _) h
  | succ d ih =>
    intro x n hx hn
    obtain ⟨m, rfl⟩ : ∃ m, n = m + 1 := ⟨n - 1, by omega⟩
    have i1 : vp_in (nI x) 8 := vp_in_nI (by omega) (by omega)
    have e1 : (nI x).toNatClampNeg = x := nI_clamp (by omega)
    have z := ih (x + 1) m (by omega) (by omega)
    have e : upd (am_ini x) (nI x).toNatClampNeg (-1) = am_ini (x + 1) := by rw [e1, am_inis]
    exact br_f (nI_ge (b := 8) (by omega) (by omega)) ⟨i1, nm_r e ⟨i1, nm_r e ⟨i1, nm_r e (nm_r (nI_1 x) z)⟩⟩⟩
theorem in_y {post : SY → Prop} (h : post (nI N, nI cap, nI Q, nI CS, nI now, nI cc, nI tc, nI kn, st, gn, am_ini 8, pc, wa, dy, tr, am_ini 8, ce, ct, ca, kd, sg, mx, wd, rs, rg, mon, lk, mc, mk, mf, mv, ms, cel, trd, cnt)) : ∀ d x n, x + d = 8 → d < n → wY_init_276 post (nI N) (nI cap) (nI Q) (nI CS) (nI now) (nI cc) (nI tc) (nI kn) n (nI x) st gn (am_ini x) pc wa dy tr (am_ini x) ce ct ca kd sg mx wd rs rg mon lk mc mk mf mv ms cel trd cnt := by
  intro d
  induction d with
  | zero =>
    intro x n hx hn
    obtain ⟨m, rfl⟩ : ∃ m, n = m + 1 := ⟨n - 1, by omega⟩
    obtain rfl : x = 8 := hx
    exact br_t (Int32.le_refl _) h
  | succ d ih =>
    intro x n hx hn
    obtain ⟨m, rfl⟩ : ∃ m, n = m + 1 := ⟨n - 1, by omega⟩
    have i1 : vp_in (nI x) 8 := vp_in_nI (by omega) (by omega)
    have e1 : (nI x).toNatClampNeg = x := nI_clamp (by omega)
    have z := ih (x + 1) m (by omega) (by omega)
    have e : upd (am_ini x) (nI x).toNatClampNeg (-1) = am_ini (x + 1) := by rw [e1, am_inis]
    exact br_f (nI_ge (b := 8) (by omega) (by omega)) ⟨i1, nm_r e ⟨i1, nm_r e (nm_r (nI_1 x) z)⟩⟩
end IN
def am_0 : Nat → Int32 := fun _ => 0
def am_0L : Nat → Int64 := fun _ => 0
theorem in_I {N cap Q CS : Nat} (h : iS N cap Q CS 0 0 0) : am_I [] N cap Q CS 0 0 0 0 3 am_0 am_0 am_0 am_0 am_0 am_0 (am_ini 8) am_0 am_0 am_0 am_0 (am_ini 8) am_0 am_0 am_0 am_0 am_0 am_0 (am_ini 8) am_0 am_0 am_0 am_0 am_0 am_0 am_0 am_0 am_0 am_0 am_0 am_0 am_0 am_0 am_0 am_0 am_0 am_0 am_0 am_0L am_0L := by
  have z1 : ∀ k, ¬ am_0 k = 1 := fun k => (by decide : ¬ (0 : Int32) = 1)
  have z2 : ∀ k, ¬ am_0 k = 2 := fun k => (by decide : ¬ (0 : Int32) = 2)
  have z3 : ∀ k, ¬ am_0 k = 3 := fun k => (by decide : ¬ (0 : Int32) = 3)
  refine ⟨h, fun i hi => absurd hi (by omega), fun i hi => absurd hi (by omega), fun j _ => ⟨Or.inl rfl, fun _ => rfl⟩, fun j _ => ⟨0, by omega, rfl⟩, fun j _ => ⟨0, by omega, rfl, fun _ => rfl⟩, fun j _ e => absurd e (z1 j), ⟨fun _ _ => false, fun t j _ _ => ?_, fun _ _ _ _ => rfl, fun _ _ _ _ => rfl, fun _ _ _ _ e => Bool.noConfusion e⟩, fun w t _ _ => ⟨0, by omega, rfl, fun e => absurd rfl e⟩, ⟨List.nodup_nil, rfl, fun i x e => (nomatch e)⟩, ⟨fun x e => (nomatch e), fun j hj _ => ⟨if_pos hj, z3 j⟩⟩, fun s _ e => absurd e (z2 s), fun s _ e => absurd e (z2 s)⟩
  show bt 0 j = false
  exact b_0 j
theorem in_all (k0 k1 k2 k3 : Int32) : ∃ (u : SX) (v : SY), am_R [] u v ∧ (∀ j, j < 8 → ¬ xSt u j = 3) ∧ (∀ post : SX → Prop, post u → wpX_init post k0 k1 k2 k3) ∧ (∀ post : SY → Prop, post v → wpY_init post k0 k1 k2 k3) := by
  obtain ⟨N, a1, a2, x1, y1⟩ := ic_c k0 (lo := 2) (hi := 8) (by omega) (by omega)
  obtain ⟨cap, b1, b2, x2, y2⟩ := ic_c k1 (lo := 2) (hi := 12) (by omega) (by omega)
  obtain ⟨Q, c1, c2, x3, y3⟩ := ic_c k2 (lo := 1) (hi := 8) (by omega) (by omega)
  obtain ⟨CS, d1, d2, x4, y4⟩ := ic_c k3 (lo := 8) (hi := 64) (by omega) (by omega)
  refine ⟨_, _, am_Ri (in_I (N := N) (cap := cap) (Q := Q) (CS := CS) (by unfold iS; omega)), fun j _ => ?_, fun post p => ?_, fun post p => ?_⟩
  · show ¬ (0 : Int32) = 3
    decide
  · refine x1 _ _ (x2 _ _ (x3 _ _ (x4 _ _ ⟨9, ?_⟩)))
    have z := in_x (fl := 3) (N := N) (cap := cap) (Q := Q) (CS := CS) (cc := 0) (now := 0) (tc := 0) (op := am_0) (oa := am_0) (ob := am_0) (oc := am_0) (st := am_0) (gn := am_0) (rg := am_0) (pc := am_0) (tr := am_0) (wt := am_0) (mc := am_0) (mk := am_0) (mf := am_0) (mv := am_0) (ms := am_0L) (lm := am_0) (mon := am_0) (ce := am_0) (ct := am_0) (ca := am_0) (sg := am_0) (mx := am_0) (wd := am_0) (cn := am_0) (cl := am_0) (rc := am_0) (rk := am_0) (tp := am_0) (tv := am_0) (cnt := am_0L) p 8 0 9 rfl (by omega)
    rw [am_ini0] at z
    exact z
  · refine y1 _ _ (y2 _ _ (y3 _ _ (y4 _ _ ⟨9, ?_⟩)))
    have z := in_y (N := N) (cap := cap) (Q := Q) (CS := CS) (now := 0) (cc := 0) (tc := 0) (kn := 0) (st := am_0) (gn := am_0) (pc := am_0) (wa := am_0) (dy := am_0) (tr := am_0) (ce := am_0) (ct := am_0) (ca := am_0) (kd := am_0) (sg := am_0) (mx := am_0) (wd := am_0) (rs := am_0) (rg := am_0) (mon := am_0) (lk := am_0) (mc := am_0) (mk := am_0) (mf := am_0) (mv := am_0) (ms := am_0L) (cel := am_0) (trd := am_0) (cnt := am_0L) p 8 0 9 rfl (by omega)
    rw [am_ini0] at z
    exact z
section SE
variable {N cap Q CS cc now tc kn : Nat} {fl : Int32} {op oa ob oc st gn lr rg pc tr wt dl mc mk mf mv lm mon par ce ct ca sg mx wd cn cl rc rk tp tv wa dy kd rs lk cel trd : Nat → Int32} {ms cnt : Nat → Int64}
theorem sd_x {K : List Nat} {x y r : Int32} {m : ML} (h : ∀ post : Int32 → SX → Prop, post r (fl, nI N, nI cap, nI Q, nI CS, nI cc, nI now, nI tc, op, oa, ob, oc, st, gn, lr, rg, pc, tr, wt, dl, m.1, m.2.1, m.2.2.1, m.2.2.2.1, m.2.2.2.2.1, lm, mon, par, ce, ct, ca, sg, mx, wd, cn, cl, rc, rk, tp, tv, m.2.2.2.2.2) → wpX_sendValue post (fl, nI N, nI cap, nI Q, nI CS, nI cc, nI now, nI tc, op, oa, ob, oc, st, gn, lr, rg, pc, tr, wt, dl, mc, mk, mf, mv, ms, lm, mon, par, ce, ct, ca, sg, mx, wd, cn, cl, rc, rk, tp, tv, cnt) x 0 y) (post : Int32 → SX → Prop) (p : post r (fl, nI N, nI cap, nI Q, nI CS, nI cc, nI now, nI tc, op, oa, ob, oc, st, gn, lr, rg, pc, tr, wt, dl, m.1, m.2.1, m.2.2.1, m.2.2.2.1, m.2.2.2.2.1, lm, mon, par, ce, ct, ca, sg, mx, wd, cn, cl, rc, rk, tp, tv, m.2.2.2.2.2)) : wpX_send post (fl, nI N, nI cap, nI Q, nI CS, nI cc, nI now, nI tc, op, oa, ob, oc, st, gn, lr, rg, pc, tr, wt, dl, mc, mk, mf, mv, ms, lm, mon, par, ce, ct, ca, sg, mx, wd, cn, cl, rc, rk, tp, tv, cnt) x y := by
  unfold wpX_send
  exact h _ p
theorem sd_y {K : List Nat} {x y r : Int32} {m : ML} (h : ∀ post : Int32 → SY → Prop, post r (nI N, nI cap, nI Q, nI CS, nI now, nI cc, nI tc, nI kn, st, gn, lr, pc, wa, dy, tr, par, ce, ct, ca, kd, sg, mx, wd, rs, rg, mon, lk, m.1, m.2.1, m.2.2.1, m.2.2.2.1, m.2.2.2.2.1, cel, trd, m.2.2.2.2.2) → wpY_deliver post (nI N, nI cap, nI Q, nI CS, nI now, nI cc, nI tc, nI kn, st, gn, lr, pc, wa, dy, tr, par, ce, ct, ca, kd, sg, mx, wd, rs, rg, mon, lk, mc, mk, mf, mv, ms, cel, trd, cnt) 0 x y) (post : Int32 → SY → Prop) (p : post r (nI N, nI cap, nI Q, nI CS, nI now, nI cc, nI tc, nI kn, st, gn, lr, pc, wa, dy, tr, par, ce, ct, ca, kd, sg, mx, wd, rs, rg, mon, lk, m.1, m.2.1, m.2.2.1, m.2.2.2.1, m.2.2.2.2.1, cel, trd, m.2.2.2.2.2)) : wpY_send post (nI N, nI cap, nI Q, nI CS, nI now, nI cc, nI tc, nI kn, st, gn, lr, pc, wa, dy, tr, par, ce, ct, ca, kd, sg, mx, wd, rs, rg, mon, lk, mc, mk, mf, mv, ms, cel, trd, cnt) x y := by
  unfold wpY_send
  exact h _ p
theorem sd_all {K : List Nat} {x y : Int32} (I : am_I K N cap Q CS cc now tc kn fl op oa ob oc st gn lr rg pc tr wt dl mc mk mf mv lm mon par ce ct ca sg mx wd cn cl rc rk tp tv wa dy kd rs lk cel trd ms cnt) (nf : ∀ j, j < 8 → ¬ st j = 3) : ∃ (r : Int32) (u' : SX) (v' : SY), am_R K u' v' ∧ (∀ j, j < 8 → ¬ xSt u' j = 3) ∧ (∀ post : Int32 → SX → Prop, post r u' → wpX_send post (fl, nI N, nI cap, nI Q, nI CS, nI cc, nI now, nI tc, op, oa, ob, oc, st, gn, lr, rg, pc, tr, wt, dl, mc, mk, mf, mv, ms, lm, mon, par, ce, ct, ca, sg, mx, wd, cn, cl, rc, rk, tp, tv, cnt) x y) ∧ (∀ post : Int32 → SY → Prop, post r v' → wpY_send post (nI N, nI cap, nI Q, nI CS, nI now, nI cc, nI tc, nI kn, st, gn, lr, pc, wa, dy, tr, par, ce, ct, ca, kd, sg, mx, wd, rs, rg, mon, lk, mc, mk, mf, mv, ms, cel, trd, cnt) x y) := by
  obtain ⟨r, m, I', aX, aY⟩ := sd_send (p := x) (fr := 0) (w := y) I
  exact ⟨r, _, _, am_Ri I', nf, fun post p => sd_x (K := K) aX post p, fun post p => sd_y (K := K) aY post p⟩
end SE
end
section
/-! 41: what is owed -/
def i_Rel (_ : Nat) (u : SX) (v : SY) : Prop := ∃ K, am_R K u v ∧ ∀ j, j < 8 → ¬ xSt u j = 3
theorem i_up {k : Nat} {u : SX} {v : SY} (h : i_Rel k u v) : i_Rel (k + 5) u v := h
theorem i_vc0 (k0 : Int32) (k1 : Int32) (k2 : Int32) (k3 : Int32) : wpX_init (fun u => wpY_init (fun v => i_Rel 4 u v) k0 k1 k2 k3) k0 k1 k2 k3 := by
  obtain ⟨u, v, R, nf, aX, aY⟩ := in_all k0 k1 k2 k3
  exact aX _ (aY _ ⟨[], R, nf⟩)
theorem i_vc_emit {k : Nat} {u : SX} {v : SY} (I : i_Rel k u v) (hk : k + 5 ≤ 2564) (v1 : Int32) (v2 : Int32) (v3 : Int32) (v4 : Int32) : wpX_emit (fun r u' => wpY_emit (fun r' v' => r' = r ∧ i_Rel (k + 5) u' v') v v1 v2 v3 v4) u v1 v2 v3 v4 := by
  obtain ⟨K, R, nf⟩ := I
  revert nf
  refine R (fun u v => (∀ j, j < 8 → ¬ xSt u j = 3) → wpX_emit (fun r u' => wpY_emit (fun r' v' => r' = r ∧ i_Rel (k + 5) u' v') v v1 v2 v3 v4) u v1 v2 v3 v4) ?_
  intro N cap Q CS cc now tc kn fl op oa ob oc st gn lr rg pc tr wt dl mc mk mf mv lm mon par ce ct ca sg mx wd cn cl rc rk tp tv wa dy kd rs lk cel trd ms cnt I nf
  obtain ⟨r, u', v', R', nf', aX, aY⟩ := em_all (x1 := v1) (x2 := v2) (y := v3) (z := v4) I nf
  exact aX _ (aY _ ⟨rfl, K, R', nf'⟩)
theorem i_vc_spawn {k : Nat} {u : SX} {v : SY} (I : i_Rel k u v) (hk : k + 5 ≤ 2564) (v1 : Int32) (v2 : Int32) : wpX_spawn (fun r u' => wpY_spawn (fun r' v' => r' = r ∧ i_Rel (k + 5) u' v') v v1 v2) u v1 v2 := by
  obtain ⟨K, R, nf⟩ := I
  revert nf
  refine R (fun u v => (∀ j, j < 8 → ¬ xSt u j = 3) → wpX_spawn (fun r u' => wpY_spawn (fun r' v' => r' = r ∧ i_Rel (k + 5) u' v') v v1 v2) u v1 v2) ?_
  intro N cap Q CS cc now tc kn fl op oa ob oc st gn lr rg pc tr wt dl mc mk mf mv lm mon par ce ct ca sg mx wd cn cl rc rk tp tv wa dy kd rs lk cel trd ms cnt I nf
  obtain ⟨r, K', u', v', R', nf', aX, aY⟩ := ca_spawn (x := v1) (y := v2) I nf
  exact aX _ (aY _ ⟨rfl, K', R', nf'⟩)
theorem i_vc_supervisor {k : Nat} {u : SX} {v : SY} (I : i_Rel k u v) (hk : k + 5 ≤ 2564) (v1 : Int32) (v2 : Int32) (v3 : Int32) : wpX_supervisor (fun r u' => wpY_supervisor (fun r' v' => r' = r ∧ i_Rel (k + 5) u' v') v v1 v2 v3) u v1 v2 v3 := by
  obtain ⟨K, R, nf⟩ := I
  revert nf
  refine R (fun u v => (∀ j, j < 8 → ¬ xSt u j = 3) → wpX_supervisor (fun r u' => wpY_supervisor (fun r' v' => r' = r ∧ i_Rel (k + 5) u' v') v v1 v2 v3) u v1 v2 v3) ?_
  intro N cap Q CS cc now tc kn fl op oa ob oc st gn lr rg pc tr wt dl mc mk mf mv lm mon par ce ct ca sg mx wd cn cl rc rk tp tv wa dy kd rs lk cel trd ms cnt I nf
  obtain ⟨r, K', u', v', R', nf', aX, aY⟩ := ca_sup (x := v1) (y := v2) (z := v3) I nf
  exact aX _ (aY _ ⟨rfl, K', R', nf'⟩)
theorem i_vc_addChild {k : Nat} {u : SX} {v : SY} (I : i_Rel k u v) (hk : k + 5 ≤ 2564) (v1 : Int32) (v2 : Int32) (v3 : Int32) (v4 : Int32) : wpX_addChild (fun r u' => wpY_addChild (fun r' v' => r' = r ∧ i_Rel (k + 5) u' v') v v1 v2 v3 v4) u v1 v2 v3 v4 := by
  obtain ⟨K, R, nf⟩ := I
  revert nf
  refine R (fun u v => (∀ j, j < 8 → ¬ xSt u j = 3) → wpX_addChild (fun r u' => wpY_addChild (fun r' v' => r' = r ∧ i_Rel (k + 5) u' v') v v1 v2 v3 v4) u v1 v2 v3 v4) ?_
  intro N cap Q CS cc now tc kn fl op oa ob oc st gn lr rg pc tr wt dl mc mk mf mv lm mon par ce ct ca sg mx wd cn cl rc rk tp tv wa dy kd rs lk cel trd ms cnt I nf
  obtain ⟨r, K', u', v', R', nf', aX, aY⟩ := ca_add (pS := v1) (x := v2) (y := v3) (z := v4) I nf
  exact aX _ (aY _ ⟨rfl, K', R', nf'⟩)
theorem i_vc_send {k : Nat} {u : SX} {v : SY} (I : i_Rel k u v) (hk : k + 5 ≤ 2564) (v1 : Int32) (v2 : Int32) : wpX_send (fun r u' => wpY_send (fun r' v' => r' = r ∧ i_Rel (k + 5) u' v') v v1 v2) u v1 v2 := by
  obtain ⟨K, R, nf⟩ := I
  revert nf
  refine R (fun u v => (∀ j, j < 8 → ¬ xSt u j = 3) → wpX_send (fun r u' => wpY_send (fun r' v' => r' = r ∧ i_Rel (k + 5) u' v') v v1 v2) u v1 v2) ?_
  intro N cap Q CS cc now tc kn fl op oa ob oc st gn lr rg pc tr wt dl mc mk mf mv lm mon par ce ct ca sg mx wd cn cl rc rk tp tv wa dy kd rs lk cel trd ms cnt I nf
  obtain ⟨r, u', v', R', nf', aX, aY⟩ := sd_all (x := v1) (y := v2) I nf
  exact aX _ (aY _ ⟨rfl, K, R', nf'⟩)
theorem i_vc_signal {k : Nat} {u : SX} {v : SY} (I : i_Rel k u v) (hk : k + 5 ≤ 2564) (v1 : Int32) (v2 : Int32) : wpX_signal (fun r u' => wpY_signal (fun r' v' => r' = r ∧ i_Rel (k + 5) u' v') v v1 v2) u v1 v2 := by
  obtain ⟨K, R, nf⟩ := I
  revert nf
  refine R (fun u v => (∀ j, j < 8 → ¬ xSt u j = 3) → wpX_signal (fun r u' => wpY_signal (fun r' v' => r' = r ∧ i_Rel (k + 5) u' v') v v1 v2) u v1 v2) ?_
  intro N cap Q CS cc now tc kn fl op oa ob oc st gn lr rg pc tr wt dl mc mk mf mv lm mon par ce ct ca sg mx wd cn cl rc rk tp tv wa dy kd rs lk cel trd ms cnt I nf
  obtain ⟨r, K', u', v', R', nf', aX, aY⟩ := ca_sig (x := v1) (y := v2) I
  exact aX _ (aY _ ⟨rfl, K', R', nf'⟩)
theorem i_vc_relate {k : Nat} {u : SX} {v : SY} (I : i_Rel k u v) (hk : k + 5 ≤ 2564) (v1 : Int32) (v2 : Int32) (v3 : Int32) : wpX_relate (fun r u' => wpY_relate (fun r' v' => r' = r ∧ i_Rel (k + 5) u' v') v v1 v2 v3) u v1 v2 v3 := by
  obtain ⟨K, R, nf⟩ := I
  revert nf
  refine R (fun u v => (∀ j, j < 8 → ¬ xSt u j = 3) → wpX_relate (fun r u' => wpY_relate (fun r' v' => r' = r ∧ i_Rel (k + 5) u' v') v v1 v2 v3) u v1 v2 v3) ?_
  intro N cap Q CS cc now tc kn fl op oa ob oc st gn lr rg pc tr wt dl mc mk mf mv lm mon par ce ct ca sg mx wd cn cl rc rk tp tv wa dy kd rs lk cel trd ms cnt I nf
  obtain ⟨r, K', u', v', R', nf', aX, aY⟩ := ca_rel (x := v1) (pA := v2) (pB := v3) I nf
  exact aX _ (aY _ ⟨rfl, K', R', nf'⟩)
theorem i_vc_setTrap {k : Nat} {u : SX} {v : SY} (I : i_Rel k u v) (hk : k + 5 ≤ 2564) (v1 : Int32) (v2 : Int32) : wpX_setTrap (fun r u' => wpY_setTrap (fun r' v' => r' = r ∧ i_Rel (k + 5) u' v') v v1 (lw_bz v2)) u v1 (lw_bz v2) := by
  obtain ⟨K, R, nf⟩ := I
  revert nf
  refine R (fun u v => (∀ j, j < 8 → ¬ xSt u j = 3) → wpX_setTrap (fun r u' => wpY_setTrap (fun r' v' => r' = r ∧ i_Rel (k + 5) u' v') v v1 (lw_bz v2)) u v1 (lw_bz v2)) ?_
  intro N cap Q CS cc now tc kn fl op oa ob oc st gn lr rg pc tr wt dl mc mk mf mv lm mon par ce ct ca sg mx wd cn cl rc rk tp tv wa dy kd rs lk cel trd ms cnt I nf
  obtain ⟨r, K', u', v', R', nf', aX, aY⟩ := ca_trap (pA := v1) (x := (lw_bz v2)) I nf
  exact aX _ (aY _ ⟨rfl, K', R', nf'⟩)
theorem i_vc_run {k : Nat} {u : SX} {v : SY} (I : i_Rel k u v) (hk : k + 5 ≤ 2564) (v1 : Int32) : wpX_run (fun r u' => wpY_run (fun r' v' => r' = r ∧ i_Rel (k + 5) u' v') v v1) u v1 := by
  obtain ⟨K, R, nf⟩ := I
  revert nf
  refine R (fun u v => (∀ j, j < 8 → ¬ xSt u j = 3) → wpX_run (fun r u' => wpY_run (fun r' v' => r' = r ∧ i_Rel (k + 5) u' v') v v1) u v1) ?_
  intro N cap Q CS cc now tc kn fl op oa ob oc st gn lr rg pc tr wt dl mc mk mf mv lm mon par ce ct ca sg mx wd cn cl rc rk tp tv wa dy kd rs lk cel trd ms cnt I nf
  obtain ⟨r, K', u', v', R', nf', aX, aY⟩ := rn_run (x := v1) I nf
  exact aX _ (aY _ ⟨rfl, K', R', nf'⟩)
theorem i_vc_clock {k : Nat} {u : SX} {v : SY} (I : i_Rel k u v) (hk : k + 5 ≤ 2564) : wpX_clock (fun r => wpY_clock (fun r' => r' = r ∧ i_Rel (k + 5) u v) v) u := by
  obtain ⟨K, R, nf⟩ := I
  revert nf
  refine R (fun u v => (∀ j, j < 8 → ¬ xSt u j = 3) → wpX_clock (fun r => wpY_clock (fun r' => r' = r ∧ i_Rel (k + 5) u v) v) u) ?_
  intro N cap Q CS cc now tc kn fl op oa ob oc st gn lr rg pc tr wt dl mc mk mf mv lm mon par ce ct ca sg mx wd cn cl rc rk tp tv wa dy kd rs lk cel trd ms cnt I nf
  exact ⟨rfl, K, am_Ri I, nf⟩
theorem i_vc_codeLength {k : Nat} {u : SX} {v : SY} (I : i_Rel k u v) (hk : k + 5 ≤ 2564) : wpX_codeLength (fun r => wpY_codeLength (fun r' => r' = r ∧ i_Rel (k + 5) u v) v) u := by
  obtain ⟨K, R, nf⟩ := I
  revert nf
  refine R (fun u v => (∀ j, j < 8 → ¬ xSt u j = 3) → wpX_codeLength (fun r => wpY_codeLength (fun r' => r' = r ∧ i_Rel (k + 5) u v) v) u) ?_
  intro N cap Q CS cc now tc kn fl op oa ob oc st gn lr rg pc tr wt dl mc mk mf mv lm mon par ce ct ca sg mx wd cn cl rc rk tp tv wa dy kd rs lk cel trd ms cnt I nf
  exact ⟨rfl, K, am_Ri I, nf⟩
theorem i_vc_code {k : Nat} {u : SX} {v : SY} (I : i_Rel k u v) (hk : k + 5 ≤ 2564) (v1 : Int32) (v2 : Int32) : wpX_code (fun r => wpY_code (fun r' => r' = r ∧ i_Rel (k + 5) u v) v v1 v2) u v1 v2 := by
  obtain ⟨K, R, nf⟩ := I
  revert nf
  refine R (fun u v => (∀ j, j < 8 → ¬ xSt u j = 3) → wpX_code (fun r => wpY_code (fun r' => r' = r ∧ i_Rel (k + 5) u v) v v1 v2) u v1 v2) ?_
  intro N cap Q CS cc now tc kn fl op oa ob oc st gn lr rg pc tr wt dl mc mk mf mv lm mon par ce ct ca sg mx wd cn cl rc rk tp tv wa dy kd rs lk cel trd ms cnt I nf
  obtain ⟨r, aX, aY⟩ := gt_code (x := v1) (y := v2) I
  exact aX _ (aY _ ⟨rfl, K, am_Ri I, nf⟩)
theorem i_vc_process {k : Nat} {u : SX} {v : SY} (I : i_Rel k u v) (hk : k + 5 ≤ 2564) (v1 : Int32) (v2 : Int32) : wpX_process (fun r => wpY_process (fun r' => r' = r ∧ i_Rel (k + 5) u v) v v1 v2) u v1 v2 := by
  obtain ⟨K, R, nf⟩ := I
  revert nf
  refine R (fun u v => (∀ j, j < 8 → ¬ xSt u j = 3) → wpX_process (fun r => wpY_process (fun r' => r' = r ∧ i_Rel (k + 5) u v) v v1 v2) u v1 v2) ?_
  intro N cap Q CS cc now tc kn fl op oa ob oc st gn lr rg pc tr wt dl mc mk mf mv lm mon par ce ct ca sg mx wd cn cl rc rk tp tv wa dy kd rs lk cel trd ms cnt I nf
  obtain ⟨r, aX, aY⟩ := gt_proc (x := v1) (y := v2) I nf
  exact aX _ (aY _ ⟨rfl, K, am_Ri I, nf⟩)
theorem i_vc_register {k : Nat} {u : SX} {v : SY} (I : i_Rel k u v) (hk : k + 5 ≤ 2564) (v1 : Int32) (v2 : Int32) : wpX_register (fun r => wpY_register (fun r' => r' = r ∧ i_Rel (k + 5) u v) v v1 v2) u v1 v2 := by
  obtain ⟨K, R, nf⟩ := I
  revert nf
  refine R (fun u v => (∀ j, j < 8 → ¬ xSt u j = 3) → wpX_register (fun r => wpY_register (fun r' => r' = r ∧ i_Rel (k + 5) u v) v v1 v2) u v1 v2) ?_
  intro N cap Q CS cc now tc kn fl op oa ob oc st gn lr rg pc tr wt dl mc mk mf mv lm mon par ce ct ca sg mx wd cn cl rc rk tp tv wa dy kd rs lk cel trd ms cnt I nf
  obtain ⟨r, aX, aY⟩ := gt_reg (x := v1) (y := v2) I
  exact aX _ (aY _ ⟨rfl, K, am_Ri I, nf⟩)
theorem i_vc_message {k : Nat} {u : SX} {v : SY} (I : i_Rel k u v) (hk : k + 5 ≤ 2564) (v1 : Int32) (v2 : Int32) (v3 : Int32) : wpX_message (fun r => wpY_message (fun r' => r' = r ∧ i_Rel (k + 5) u v) v v1 v2 v3) u v1 v2 v3 := by
  obtain ⟨K, R, nf⟩ := I
  revert nf
  refine R (fun u v => (∀ j, j < 8 → ¬ xSt u j = 3) → wpX_message (fun r => wpY_message (fun r' => r' = r ∧ i_Rel (k + 5) u v) v v1 v2 v3) u v1 v2 v3) ?_
  intro N cap Q CS cc now tc kn fl op oa ob oc st gn lr rg pc tr wt dl mc mk mf mv lm mon par ce ct ca sg mx wd cn cl rc rk tp tv wa dy kd rs lk cel trd ms cnt I nf
  obtain ⟨r, aX, aY⟩ := gt_msg (x := v1) (y := v2) (z := v3) I
  exact aX _ (aY _ ⟨rfl, K, am_Ri I, nf⟩)
theorem i_vc_stamp {k : Nat} {u : SX} {v : SY} (I : i_Rel k u v) (hk : k + 5 ≤ 2564) (v1 : Int32) (v2 : Int32) : wpX_stamp (fun r => wpY_stamp (fun r' => r' = r ∧ i_Rel (k + 5) u v) v v1 v2) u v1 v2 := by
  obtain ⟨K, R, nf⟩ := I
  revert nf
  refine R (fun u v => (∀ j, j < 8 → ¬ xSt u j = 3) → wpX_stamp (fun r => wpY_stamp (fun r' => r' = r ∧ i_Rel (k + 5) u v) v v1 v2) u v1 v2) ?_
  intro N cap Q CS cc now tc kn fl op oa ob oc st gn lr rg pc tr wt dl mc mk mf mv lm mon par ce ct ca sg mx wd cn cl rc rk tp tv wa dy kd rs lk cel trd ms cnt I nf
  obtain ⟨r, aX, aY⟩ := gt_stamp (x := v1) (y := v2) I
  exact aX _ (aY _ ⟨rfl, K, am_Ri I, nf⟩)
theorem i_vc_linked {k : Nat} {u : SX} {v : SY} (I : i_Rel k u v) (hk : k + 5 ≤ 2564) (v1 : Int32) (v2 : Int32) : wpX_linked (fun r => wpY_linked (fun r' => r' = r ∧ i_Rel (k + 5) u v) v v1 v2) u v1 v2 := by
  obtain ⟨K, R, nf⟩ := I
  revert nf
  refine R (fun u v => (∀ j, j < 8 → ¬ xSt u j = 3) → wpX_linked (fun r => wpY_linked (fun r' => r' = r ∧ i_Rel (k + 5) u v) v v1 v2) u v1 v2) ?_
  intro N cap Q CS cc now tc kn fl op oa ob oc st gn lr rg pc tr wt dl mc mk mf mv lm mon par ce ct ca sg mx wd cn cl rc rk tp tv wa dy kd rs lk cel trd ms cnt I nf
  obtain ⟨r, aX, aY⟩ := gt_linked (x := v1) (y := v2) I
  exact aX _ (aY _ ⟨rfl, K, am_Ri I, nf⟩)
theorem i_vc_monitors {k : Nat} {u : SX} {v : SY} (I : i_Rel k u v) (hk : k + 5 ≤ 2564) (v1 : Int32) (v2 : Int32) : wpX_monitors (fun r => wpY_monitors (fun r' => r' = r ∧ i_Rel (k + 5) u v) v v1 v2) u v1 v2 := by
  obtain ⟨K, R, nf⟩ := I
  revert nf
  refine R (fun u v => (∀ j, j < 8 → ¬ xSt u j = 3) → wpX_monitors (fun r => wpY_monitors (fun r' => r' = r ∧ i_Rel (k + 5) u v) v v1 v2) u v1 v2) ?_
  intro N cap Q CS cc now tc kn fl op oa ob oc st gn lr rg pc tr wt dl mc mk mf mv lm mon par ce ct ca sg mx wd cn cl rc rk tp tv wa dy kd rs lk cel trd ms cnt I nf
  obtain ⟨r, aX, aY⟩ := gt_mon (x := v1) (y := v2) I
  exact aX _ (aY _ ⟨rfl, K, am_Ri I, nf⟩)
theorem i_vc_child {k : Nat} {u : SX} {v : SY} (I : i_Rel k u v) (hk : k + 5 ≤ 2564) (v1 : Int32) (v2 : Int32) : wpX_child (fun r => wpY_child (fun r' => r' = r ∧ i_Rel (k + 5) u v) v v1 v2) u v1 v2 := by
  obtain ⟨K, R, nf⟩ := I
  revert nf
  refine R (fun u v => (∀ j, j < 8 → ¬ xSt u j = 3) → wpX_child (fun r => wpY_child (fun r' => r' = r ∧ i_Rel (k + 5) u v) v v1 v2) u v1 v2) ?_
  intro N cap Q CS cc now tc kn fl op oa ob oc st gn lr rg pc tr wt dl mc mk mf mv lm mon par ce ct ca sg mx wd cn cl rc rk tp tv wa dy kd rs lk cel trd ms cnt I nf
  obtain ⟨r, aX, aY⟩ := gt_child (x := v1) (y := v2) I
  exact aX _ (aY _ ⟨rfl, K, am_Ri I, nf⟩)
theorem i_vc_restartAge {k : Nat} {u : SX} {v : SY} (I : i_Rel k u v) (hk : k + 5 ≤ 2564) (v1 : Int32) (v2 : Int32) : wpX_restartAge (fun r => wpY_restartAge (fun r' => r' = r ∧ i_Rel (k + 5) u v) v v1 v2) u v1 v2 := by
  obtain ⟨K, R, nf⟩ := I
  revert nf
  refine R (fun u v => (∀ j, j < 8 → ¬ xSt u j = 3) → wpX_restartAge (fun r => wpY_restartAge (fun r' => r' = r ∧ i_Rel (k + 5) u v) v v1 v2) u v1 v2) ?_
  intro N cap Q CS cc now tc kn fl op oa ob oc st gn lr rg pc tr wt dl mc mk mf mv lm mon par ce ct ca sg mx wd cn cl rc rk tp tv wa dy kd rs lk cel trd ms cnt I nf
  obtain ⟨r, aX, aY⟩ := gt_age (x := v1) (y := v2) I
  exact aX _ (aY _ ⟨rfl, K, am_Ri I, nf⟩)
theorem i_vc_trace {k : Nat} {u : SX} {v : SY} (I : i_Rel k u v) (hk : k + 5 ≤ 2564) (v1 : Int32) (v2 : Int32) : wpX_trace (fun r => wpY_trace (fun r' => r' = r ∧ i_Rel (k + 5) u v) v v1 v2) u v1 v2 := by
  obtain ⟨K, R, nf⟩ := I
  revert nf
  refine R (fun u v => (∀ j, j < 8 → ¬ xSt u j = 3) → wpX_trace (fun r => wpY_trace (fun r' => r' = r ∧ i_Rel (k + 5) u v) v v1 v2) u v1 v2) ?_
  intro N cap Q CS cc now tc kn fl op oa ob oc st gn lr rg pc tr wt dl mc mk mf mv lm mon par ce ct ca sg mx wd cn cl rc rk tp tv wa dy kd rs lk cel trd ms cnt I nf
  obtain ⟨r, aX, aY⟩ := gt_trace (x := v1) (y := v2) I
  exact aX _ (aY _ ⟨rfl, K, am_Ri I, nf⟩)
theorem i_vc_count {k : Nat} {u : SX} {v : SY} (I : i_Rel k u v) (hk : k + 5 ≤ 2564) (v1 : Int32) : wpX_count (fun r => wpY_count (fun r' => r' = r ∧ i_Rel (k + 5) u v) v v1) u v1 := by
  obtain ⟨K, R, nf⟩ := I
  revert nf
  refine R (fun u v => (∀ j, j < 8 → ¬ xSt u j = 3) → wpX_count (fun r => wpY_count (fun r' => r' = r ∧ i_Rel (k + 5) u v) v v1) u v1) ?_
  intro N cap Q CS cc now tc kn fl op oa ob oc st gn lr rg pc tr wt dl mc mk mf mv lm mon par ce ct ca sg mx wd cn cl rc rk tp tv wa dy kd rs lk cel trd ms cnt I nf
  obtain ⟨r, aX, aY⟩ := gt_count (x := v1) I
  exact aX _ (aY _ ⟨rfl, K, am_Ri I, nf⟩)
end
