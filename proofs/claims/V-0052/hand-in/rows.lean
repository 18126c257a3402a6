section
/-! pure rows to paste: stores, nI and lN arithmetic, masks, shifts, narrowing, branches by naturals (pk_le, pk_lt, pk_eq), loops (lp1 .. lp16: the measure of the state; rp1 ..: recursion), negatives. Take what you need -/
theorem pk_us {f : Nat → Int32} {k : Nat} {x : Int32} : upd f k x k = x := if_pos rfl
theorem pk_un {f : Nat → Int32} {k j : Nat} {x : Int32} (h : j ≠ k) : upd f k x j = f j := if_neg h
theorem pk_uLs {f : Nat → Int64} {k : Nat} {x : Int64} : vp_updL f k x k = x := if_pos rfl
theorem pk_uLn {f : Nat → Int64} {k j : Nat} {x : Int64} (h : j ≠ k) : vp_updL f k x j = f j := if_neg h
theorem pk_sub {a b : Nat} (h : b ≤ a) : nI a - nI b = nI (a - b) := by
  obtain ⟨c, rfl⟩ : ∃ c, a = c + b := ⟨a - b, by omega⟩
  rw [← nI_add, Int32.add_sub_cancel, Nat.add_sub_cancel]
theorem pk_m1 (n : Nat) : nI (n + 1) + (-1) = nI n := by
  rw [← nI_1, Int32.add_assoc, show (1 : Int32) + (-1) = 0 from rfl, Int32.add_zero]
theorem pk_mul (a b : Nat) : nI a * nI b = nI (a * b) := (Int32.ofNat_mul a b).symm
theorem pk_div {a d : Nat} (ha : a < 2 ^ 31) (h0 : 0 < d) (hd : d < 2 ^ 31) : nI a / nI d = nI (a / d) := by
  apply Int32.toInt_inj.mp
  rw [lg_idiv_nonneg (by rw [nI_toInt ha]; omega) (by rw [nI_toInt hd]; omega), nI_toInt ha, nI_toInt hd, nI_toInt (Nat.lt_of_le_of_lt (Nat.div_le_self a d) ha)]
  first | rfl | exact (Int.natCast_ediv _ _).symm
theorem pk_rem {a d : Nat} (ha : a < 2 ^ 31) (h0 : 0 < d) (hd : d < 2 ^ 31) : nI a - nI a / nI d * nI d = nI (a % d) := by
  rw [pk_div ha h0 hd, pk_mul, pk_sub (Nat.div_mul_le_self a d)]
  exact congrArg nI (by have := Nat.div_add_mod' a d; omega)
theorem pk_sub_toInt {a b : Nat} (ha : a < 2 ^ 30) (hb : b < 2 ^ 30) : (nI a - nI b).toInt = (a : Int) - b := by
  rw [Int32.toInt_sub, nI_toInt (by omega), nI_toInt (by omega)]
  exact Int.bmod_eq_of_le (by omega) (by omega)
theorem pk_sneg {a b : Nat} (hb : b < 2 ^ 30) (h : a < b) : nI a - nI b < 0 := by
  rw [Int32.lt_iff_toInt_lt, pk_sub_toInt (by omega) hb, show (0 : Int32).toInt = 0 from by decide]
  omega
theorem pk_ix (x : Int32) {n : Nat} (hn : n < 2 ^ 31) : x < 0 ∨ nI n ≤ x ∨ ∃ j : Nat, j < n ∧ x = nI j := by
  by_cases h : x < 0
  · exact Or.inl h
  · obtain ⟨j, hj, rfl⟩ := nI_of h
    by_cases h2 : j < n
    · exact Or.inr (Or.inr ⟨j, h2, rfl⟩)
    · exact Or.inr (Or.inl (nI_le (by omega) hj))
theorem pk_le {x y : Int32} {A B : Prop} (a b : Nat) (f : a ≤ b → A) (g : b < a → B) (hx : x = nI a := by rfl) (hy : y = nI b := by rfl) (ha : a < 2 ^ 31 := by omega) (hb : b < 2 ^ 31 := by omega) : (x ≤ y → A) ∧ (¬ x ≤ y → B) := by
  subst hx hy
  rw [nI_leI ha hb]
  exact ⟨f, fun z => g (by omega)⟩
theorem pk_lt {x y : Int32} {A B : Prop} (a b : Nat) (f : a < b → A) (g : b ≤ a → B) (hx : x = nI a := by rfl) (hy : y = nI b := by rfl) (ha : a < 2 ^ 31 := by omega) (hb : b < 2 ^ 31 := by omega) : (x < y → A) ∧ (¬ x < y → B) := by
  subst hx hy
  rw [nI_ltI ha hb]
  exact ⟨f, fun z => g (by omega)⟩
theorem pk_eq {x y : Int32} {A B : Prop} (a b : Nat) (f : a = b → A) (g : a ≠ b → B) (hx : x = nI a := by rfl) (hy : y = nI b := by rfl) (ha : a < 2 ^ 31 := by omega) (hb : b < 2 ^ 31 := by omega) : (x = y → A) ∧ (¬ x = y → B) := by
  subst hx hy
  rw [nI_eq ha hb]
  exact ⟨f, g⟩
theorem pk_in {x : Int32} (n N : Nat) (h : n < N) (hx : x = nI n := by rfl) (hN : N < 2 ^ 31 := by omega) : vp_in x N := by
  subst hx
  exact vp_in_nI h hN
theorem pk_cl {x : Int32} (n : Nat) (hx : x = nI n := by rfl) (h : n < 2 ^ 31 := by omega) : x.toNatClampNeg = n := by
  subst hx
  exact nI_clamp h
theorem pk_tn {n : Nat} (h : n < 2 ^ 32) : (nI n).toBitVec.toNat = n := Nat.mod_eq_of_lt h
theorem pk_and (x : Int32) {m : Int32} (k : Nat) (hm : m.toBitVec.toNat = 2 ^ k - 1) : x &&& m = nI (x.toBitVec.toNat % 2 ^ k) := by
  apply Int32.toBitVec_inj.mp
  apply BitVec.eq_of_toNat_eq
  rw [Int32.toBitVec_and, BitVec.toNat_and, hm, Nat.and_two_pow_sub_one_eq_mod]
  show _ = (BitVec.ofNat 32 _).toNat
  rw [BitVec.toNat_ofNat]
  exact (Nat.mod_eq_of_lt (Nat.lt_of_le_of_lt (Nat.mod_le _ _) x.toBitVec.isLt)).symm
theorem pk_andN {n : Nat} (h : n < 2 ^ 32) {m : Int32} (k : Nat) (hm : m.toBitVec.toNat = 2 ^ k - 1) : nI n &&& m = nI (n % 2 ^ k) := by
  rw [pk_and _ k hm, pk_tn h]
theorem pk_andE (x : Int32) {m : Int32} (k : Nat) (hm : m.toBitVec.toNat = 2 ^ k - 1) : ∃ j : Nat, j < 2 ^ k ∧ x &&& m = nI j := ⟨_, Nat.mod_lt _ (Nat.two_pow_pos k), pk_and x k hm⟩
theorem pk_andIn (x : Int32) {m : Int32} (k : Nat) (hm : m.toBitVec.toNat = 2 ^ k - 1) (hk : k ≤ 30) : vp_in (x &&& m) (2 ^ k) := by
  obtain ⟨j, hj, e⟩ := pk_andE x k hm
  rw [e]
  exact vp_in_nI hj (Nat.lt_of_le_of_lt (Nat.pow_le_pow_right (by decide) hk) (by decide))
theorem pk_shl (a s : Int32) (k : Nat) (hs : (s.toBitVec.smod 32).toNat = k) : (a <<< s).toBitVec.toNat = a.toBitVec.toNat * 2 ^ k % 2 ^ 32 := by
  show (a.toBitVec <<< (s.toBitVec.smod 32).toNat).toNat = _
  rw [hs, BitVec.toNat_shiftLeft, Nat.shiftLeft_eq]
theorem pk_shlN {n : Nat} (s : Int32) (k : Nat) (hs : (s.toBitVec.smod 32).toNat = k) (h : n * 2 ^ k < 2 ^ 32) : nI n <<< s = nI (n * 2 ^ k) := by
  apply Int32.toBitVec_inj.mp
  apply BitVec.eq_of_toNat_eq
  have hn : n < 2 ^ 32 := Nat.lt_of_le_of_lt (Nat.le_mul_of_pos_right n (Nat.two_pow_pos k)) h
  rw [pk_shl _ _ k hs, pk_tn hn, pk_tn h, Nat.mod_eq_of_lt h]
theorem pk_shr (a s : Int32) (k : Nat) (hs : (s.toBitVec.smod 32).toNat = k) : (a >>> s).toInt = a.toInt >>> k := by
  show (a.toBitVec.sshiftRight (s.toBitVec.smod 32).toNat).toInt = _
  rw [hs, BitVec.toInt_sshiftRight]
  rfl
theorem pk_shrN {n : Nat} (h : n < 2 ^ 31) (s : Int32) (k : Nat) (hs : (s.toBitVec.smod 32).toNat = k) : nI n >>> s = nI (n / 2 ^ k) := by
  apply Int32.toInt_inj.mp
  have h2 : n / 2 ^ k ≤ n := Nat.div_le_self _ _
  rw [pk_shr _ _ k hs, nI_toInt h, nI_toInt (by omega), Int.shiftRight_eq_div_pow]
  rfl
theorem pk_ushr (x s : Int32) (k : Nat) (hs : ((s.toUInt32 &&& Int32.toUInt32 31).toBitVec % 32).toNat = k) : (x.toUInt32 >>> (s.toUInt32 &&& Int32.toUInt32 31)).toInt32.toBitVec.toNat = x.toBitVec.toNat / 2 ^ k := by
  have e : (x.toUInt32 >>> (s.toUInt32 &&& Int32.toUInt32 31)).toInt32.toBitVec = x.toBitVec >>> k := by
    rw [← hs]
    exact UInt32.toBitVec_shiftRight _ _
  rw [e, BitVec.toNat_ushiftRight, Nat.shiftRight_eq_div_pow]
theorem pk_ushrN {n : Nat} (hn : n < 2 ^ 32) (s : Int32) (k : Nat) (hs : ((s.toUInt32 &&& Int32.toUInt32 31).toBitVec % 32).toNat = k) : ((nI n).toUInt32 >>> (s.toUInt32 &&& Int32.toUInt32 31)).toInt32 = nI (n / 2 ^ k) := by
  apply Int32.toBitVec_inj.mp
  apply BitVec.eq_of_toNat_eq
  rw [pk_ushr _ s k hs, pk_tn hn, pk_tn (Nat.lt_of_le_of_lt (Nat.div_le_self _ _) hn)]
theorem pk_nb (z : Int32) : narrow .byte (.int z.toInt8.toInt32) = .int z.toInt8.toInt32 := congrArg Value.int (by simp)
theorem pk_ns (z : Int32) : narrow .short (.int z.toInt16.toInt32) = .int z.toInt16.toInt32 := congrArg Value.int (by simp)
theorem pk_fb (r : Int32) : fits .byte (.int r.toInt8.toInt32) = true := by
  have ⟨a, b⟩ := lg_i2b_range r
  have h1 : (-128 : Int32).toInt = -128 := by decide
  have h2 : (127 : Int32).toInt = 127 := by decide
  simp only [fits, Bool.and_eq_true, decide_eq_true_eq, Int32.le_iff_toInt_le, h1, h2]
  omega
theorem pk_fs (r : Int32) : fits .short (.int r.toInt16.toInt32) = true := by
  have ⟨a, b⟩ := lg_i2s_range r
  have h1 : (-32768 : Int32).toInt = -32768 := by decide
  have h2 : (32767 : Int32).toInt = 32767 := by decide
  simp only [fits, Bool.and_eq_true, decide_eq_true_eq, Int32.le_iff_toInt_le, h1, h2]
  omega
theorem pk_charN {q : Nat} (hq : q < 65536) : narrow .char (.int (nI q)) = .int (nI q) ∧ fits .char (.int (nI q)) = true := by
  constructor
  · have e : (nI q).toUInt32.toUInt16.toUInt32.toInt32 = nI q := by
      apply Int32.toBitVec_inj.mp
      apply BitVec.eq_of_toNat_eq
      show (nI q).toUInt32.toUInt16.toUInt32.toNat = q % 2 ^ 32
      rw [UInt16.toNat_toUInt32, UInt32.toNat_toUInt16, show (nI q).toUInt32.toNat = q % 2 ^ 32 from rfl]
      omega
    exact congrArg Value.int e
  · have a : (0 : Int32) ≤ nI q := nI_pos' (by omega)
    have b : nI q ≤ 65535 := nI_le (b := 65535) (by omega) (by decide)
    show (decide ((0 : Int32) ≤ nI q) && decide (nI q ≤ 65535)) = true
    rw [decide_eq_true a, decide_eq_true b]
    rfl
theorem pk_char (x : Int32) : (x.toUInt32 % 65536).toInt32 = nI (x.toBitVec.toNat % 65536) := by
  apply Int32.toBitVec_inj.mp
  apply BitVec.eq_of_toNat_eq
  rw [pk_tn (by omega)]
  show (x.toUInt32 % 65536).toNat = _
  rw [UInt32.toNat_mod]
  rfl
theorem pk_nc (x : Int32) : narrow .char (.int (x.toUInt32 % 65536).toInt32) = .int (x.toUInt32 % 65536).toInt32 := by
  rw [pk_char]
  exact (pk_charN (Nat.mod_lt _ (by decide))).1
theorem pk_fc (x : Int32) : fits .char (.int (x.toUInt32 % 65536).toInt32) = true := by
  rw [pk_char]
  exact (pk_charN (Nat.mod_lt _ (by decide))).2
theorem pk_vb (z : Int32) : vp_nar .byte z.toInt8.toInt32 = z.toInt8.toInt32 := by rw [vp_nar_byte]; simp
theorem pk_vs (z : Int32) : vp_nar .short z.toInt16.toInt32 = z.toInt16.toInt32 := by rw [vp_nar_short]; simp
theorem pk_vc (z : Int32) : vp_nar .char (z.toUInt32 % 65536).toInt32 = (z.toUInt32 % 65536).toInt32 := Value.int.inj (pk_nc z)
theorem pk_lT {n : Nat} (h : n < 2 ^ 63) : (lN n).toInt = (n : Int) := lg_ofNat_toInt h
theorem pk_lLT {a b : Nat} (ha : a < 2 ^ 63) (hb : b < 2 ^ 63) : lN a < lN b ↔ a < b := by
  rw [Int64.lt_iff_toInt_lt, pk_lT ha, pk_lT hb]; omega
theorem pk_lLE {a b : Nat} (ha : a < 2 ^ 63) (hb : b < 2 ^ 63) : lN a ≤ lN b ↔ a ≤ b := by
  rw [Int64.le_iff_toInt_le, pk_lT ha, pk_lT hb]; omega
theorem pk_lEQ {a b : Nat} (ha : a < 2 ^ 63) (hb : b < 2 ^ 63) : lN a = lN b ↔ a = b := by
  rw [← Int64.toInt_inj, pk_lT ha, pk_lT hb]; omega
theorem pk_lOf {x : Int64} (h : ¬ x < 0) : ∃ k : Nat, k < 2 ^ 63 ∧ x = lN k := by
  rw [Int64.lt_iff_toInt_lt] at h
  have h0 : (0 : Int64).toInt = 0 := by decide
  have hx := Int64.toInt_lt x
  refine ⟨x.toInt.toNat, by omega, Int64.toInt_inj.mp ?_⟩
  rw [pk_lT (by omega)]
  omega
theorem pk_lDiv {a b : Nat} (ha : a < 2 ^ 63) (h0 : 0 < b) (hb : b < 2 ^ 63) : lN a / lN b = lN (a / b) := by
  apply Int64.toInt_inj.mp
  rw [lg_ldiv_nonneg (by rw [pk_lT ha]; omega) (by rw [pk_lT hb]; omega), pk_lT ha, pk_lT hb, pk_lT (Nat.lt_of_le_of_lt (Nat.div_le_self a b) ha)]
  rfl
theorem pk_lRem {a b : Nat} (ha : a < 2 ^ 63) (h0 : 0 < b) (hb : b < 2 ^ 63) : lN a - lN a / lN b * lN b = lN (a % b) := by
  rw [pk_lDiv ha h0 hb, lN_mul, lN_sub (Nat.div_mul_le_self a b)]
  exact congrArg lN (by have := Nat.div_add_mod' a b; omega)
theorem pk_loop {σ : Type} (W : Nat → Nat → σ → Prop) (I : Nat → σ → Prop) (e i0 : Nat) (s : σ) (hi : i0 ≤ e) (h0 : I i0 s) (hx : ∀ n s, I e s → W (n + 1) e s)
    (hs : ∀ n i s, i < e → I i s → (∀ s', I (i + 1) s' → W n (i + 1) s') → W (n + 1) i s) : ∃ n, W n i0 s :=
  ⟨e + 1, loop_i W I e hx hs (e + 1) i0 s hi (by omega) h0⟩
theorem pk_loopD {σ : Type} (W : Nat → Nat → σ → Prop) (I : Nat → σ → Prop) (hx : ∀ n s, I 0 s → W (n + 1) 0 s)
    (hs : ∀ n i s, I (i + 1) s → (∀ s', I i s' → W n i s') → W (n + 1) (i + 1) s) : ∀ (e : Nat) (s : σ), I e s → W (e + 1) e s := by
  intro e
  induction e with
  | zero => exact fun s h => hx 0 s h
  | succ e ih => exact fun s h => hs (e + 1) e s h (fun s' h' => ih s' h')
theorem lp1 {A1 : Type} (W : Nat → A1 → Prop) (I : A1 → Prop) (μ : A1 → Nat) (hs : ∀ (n : Nat) (a1 : A1), I a1 → (∀ (b1 : A1), I b1 → μ b1 < μ a1 → W n b1) → W (n + 1) a1) (a1 : A1) (h : I a1) : ∃ n, W n a1 :=
  loop_m (σ := A1) (fun n s => W n s) (fun s => I s) (fun s => μ s) (fun n s hI hk => hs n s hI (fun b1 h9 hm => hk b1 h9 hm)) a1 h
theorem lp2 {A1 A2 : Type} (W : Nat → A1 → A2 → Prop) (I : A1 → A2 → Prop) (μ : A1 → A2 → Nat) (hs : ∀ (n : Nat) (a1 : A1) (a2 : A2), I a1 a2 → (∀ (b1 : A1) (b2 : A2), I b1 b2 → μ b1 b2 < μ a1 a2 → W n b1 b2) → W (n + 1) a1 a2) (a1 : A1) (a2 : A2) (h : I a1 a2) : ∃ n, W n a1 a2 :=
  loop_m (σ := A1 × A2) (fun n s => W n s.1 s.2) (fun s => I s.1 s.2) (fun s => μ s.1 s.2) (fun n s hI hk => hs n s.1 s.2 hI (fun b1 b2 h9 hm => hk (b1, b2) h9 hm)) (a1, a2) h
theorem lp3 {A1 A2 A3 : Type} (W : Nat → A1 → A2 → A3 → Prop) (I : A1 → A2 → A3 → Prop) (μ : A1 → A2 → A3 → Nat) (hs : ∀ (n : Nat) (a1 : A1) (a2 : A2) (a3 : A3), I a1 a2 a3 → (∀ (b1 : A1) (b2 : A2) (b3 : A3), I b1 b2 b3 → μ b1 b2 b3 < μ a1 a2 a3 → W n b1 b2 b3) → W (n + 1) a1 a2 a3) (a1 : A1) (a2 : A2) (a3 : A3) (h : I a1 a2 a3) : ∃ n, W n a1 a2 a3 :=
  loop_m (σ := A1 × A2 × A3) (fun n s => W n s.1 s.2.1 s.2.2) (fun s => I s.1 s.2.1 s.2.2) (fun s => μ s.1 s.2.1 s.2.2) (fun n s hI hk => hs n s.1 s.2.1 s.2.2 hI (fun b1 b2 b3 h9 hm => hk (b1, b2, b3) h9 hm)) (a1, a2, a3) h
theorem lp4 {A1 A2 A3 A4 : Type} (W : Nat → A1 → A2 → A3 → A4 → Prop) (I : A1 → A2 → A3 → A4 → Prop) (μ : A1 → A2 → A3 → A4 → Nat) (hs : ∀ (n : Nat) (a1 : A1) (a2 : A2) (a3 : A3) (a4 : A4), I a1 a2 a3 a4 → (∀ (b1 : A1) (b2 : A2) (b3 : A3) (b4 : A4), I b1 b2 b3 b4 → μ b1 b2 b3 b4 < μ a1 a2 a3 a4 → W n b1 b2 b3 b4) → W (n + 1) a1 a2 a3 a4) (a1 : A1) (a2 : A2) (a3 : A3) (a4 : A4) (h : I a1 a2 a3 a4) : ∃ n, W n a1 a2 a3 a4 :=
  loop_m (σ := A1 × A2 × A3 × A4) (fun n s => W n s.1 s.2.1 s.2.2.1 s.2.2.2) (fun s => I s.1 s.2.1 s.2.2.1 s.2.2.2) (fun s => μ s.1 s.2.1 s.2.2.1 s.2.2.2) (fun n s hI hk => hs n s.1 s.2.1 s.2.2.1 s.2.2.2 hI (fun b1 b2 b3 b4 h9 hm => hk (b1, b2, b3, b4) h9 hm)) (a1, a2, a3, a4) h
theorem lp5 {A1 A2 A3 A4 A5 : Type} (W : Nat → A1 → A2 → A3 → A4 → A5 → Prop) (I : A1 → A2 → A3 → A4 → A5 → Prop) (μ : A1 → A2 → A3 → A4 → A5 → Nat) (hs : ∀ (n : Nat) (a1 : A1) (a2 : A2) (a3 : A3) (a4 : A4) (a5 : A5), I a1 a2 a3 a4 a5 → (∀ (b1 : A1) (b2 : A2) (b3 : A3) (b4 : A4) (b5 : A5), I b1 b2 b3 b4 b5 → μ b1 b2 b3 b4 b5 < μ a1 a2 a3 a4 a5 → W n b1 b2 b3 b4 b5) → W (n + 1) a1 a2 a3 a4 a5) (a1 : A1) (a2 : A2) (a3 : A3) (a4 : A4) (a5 : A5) (h : I a1 a2 a3 a4 a5) : ∃ n, W n a1 a2 a3 a4 a5 :=
  loop_m (σ := A1 × A2 × A3 × A4 × A5) (fun n s => W n s.1 s.2.1 s.2.2.1 s.2.2.2.1 s.2.2.2.2) (fun s => I s.1 s.2.1 s.2.2.1 s.2.2.2.1 s.2.2.2.2) (fun s => μ s.1 s.2.1 s.2.2.1 s.2.2.2.1 s.2.2.2.2) (fun n s hI hk => hs n s.1 s.2.1 s.2.2.1 s.2.2.2.1 s.2.2.2.2 hI (fun b1 b2 b3 b4 b5 h9 hm => hk (b1, b2, b3, b4, b5) h9 hm)) (a1, a2, a3, a4, a5) h
theorem lp6 {A1 A2 A3 A4 A5 A6 : Type} (W : Nat → A1 → A2 → A3 → A4 → A5 → A6 → Prop) (I : A1 → A2 → A3 → A4 → A5 → A6 → Prop) (μ : A1 → A2 → A3 → A4 → A5 → A6 → Nat) (hs : ∀ (n : Nat) (a1 : A1) (a2 : A2) (a3 : A3) (a4 : A4) (a5 : A5) (a6 : A6), I a1 a2 a3 a4 a5 a6 → (∀ (b1 : A1) (b2 : A2) (b3 : A3) (b4 : A4) (b5 : A5) (b6 : A6), I b1 b2 b3 b4 b5 b6 → μ b1 b2 b3 b4 b5 b6 < μ a1 a2 a3 a4 a5 a6 → W n b1 b2 b3 b4 b5 b6) → W (n + 1) a1 a2 a3 a4 a5 a6) (a1 : A1) (a2 : A2) (a3 : A3) (a4 : A4) (a5 : A5) (a6 : A6) (h : I a1 a2 a3 a4 a5 a6) : ∃ n, W n a1 a2 a3 a4 a5 a6 :=
  loop_m (σ := A1 × A2 × A3 × A4 × A5 × A6) (fun n s => W n s.1 s.2.1 s.2.2.1 s.2.2.2.1 s.2.2.2.2.1 s.2.2.2.2.2) (fun s => I s.1 s.2.1 s.2.2.1 s.2.2.2.1 s.2.2.2.2.1 s.2.2.2.2.2) (fun s => μ s.1 s.2.1 s.2.2.1 s.2.2.2.1 s.2.2.2.2.1 s.2.2.2.2.2) (fun n s hI hk => hs n s.1 s.2.1 s.2.2.1 s.2.2.2.1 s.2.2.2.2.1 s.2.2.2.2.2 hI (fun b1 b2 b3 b4 b5 b6 h9 hm => hk (b1, b2, b3, b4, b5, b6) h9 hm)) (a1, a2, a3, a4, a5, a6) h
theorem lp7 {A1 A2 A3 A4 A5 A6 A7 : Type} (W : Nat → A1 → A2 → A3 → A4 → A5 → A6 → A7 → Prop) (I : A1 → A2 → A3 → A4 → A5 → A6 → A7 → Prop) (μ : A1 → A2 → A3 → A4 → A5 → A6 → A7 → Nat) (hs : ∀ (n : Nat) (a1 : A1) (a2 : A2) (a3 : A3) (a4 : A4) (a5 : A5) (a6 : A6) (a7 : A7), I a1 a2 a3 a4 a5 a6 a7 → (∀ (b1 : A1) (b2 : A2) (b3 : A3) (b4 : A4) (b5 : A5) (b6 : A6) (b7 : A7), I b1 b2 b3 b4 b5 b6 b7 → μ b1 b2 b3 b4 b5 b6 b7 < μ a1 a2 a3 a4 a5 a6 a7 → W n b1 b2 b3 b4 b5 b6 b7) → W (n + 1) a1 a2 a3 a4 a5 a6 a7) (a1 : A1) (a2 : A2) (a3 : A3) (a4 : A4) (a5 : A5) (a6 : A6) (a7 : A7) (h : I a1 a2 a3 a4 a5 a6 a7) : ∃ n, W n a1 a2 a3 a4 a5 a6 a7 :=
  loop_m (σ := A1 × A2 × A3 × A4 × A5 × A6 × A7) (fun n s => W n s.1 s.2.1 s.2.2.1 s.2.2.2.1 s.2.2.2.2.1 s.2.2.2.2.2.1 s.2.2.2.2.2.2) (fun s => I s.1 s.2.1 s.2.2.1 s.2.2.2.1 s.2.2.2.2.1 s.2.2.2.2.2.1 s.2.2.2.2.2.2) (fun s => μ s.1 s.2.1 s.2.2.1 s.2.2.2.1 s.2.2.2.2.1 s.2.2.2.2.2.1 s.2.2.2.2.2.2) (fun n s hI hk => hs n s.1 s.2.1 s.2.2.1 s.2.2.2.1 s.2.2.2.2.1 s.2.2.2.2.2.1 s.2.2.2.2.2.2 hI (fun b1 b2 b3 b4 b5 b6 b7 h9 hm => hk (b1, b2, b3, b4, b5, b6, b7) h9 hm)) (a1, a2, a3, a4, a5, a6, a7) h
theorem lp8 {A1 A2 A3 A4 A5 A6 A7 A8 : Type} (W : Nat → A1 → A2 → A3 → A4 → A5 → A6 → A7 → A8 → Prop) (I : A1 → A2 → A3 → A4 → A5 → A6 → A7 → A8 → Prop) (μ : A1 → A2 → A3 → A4 → A5 → A6 → A7 → A8 → Nat) (hs : ∀ (n : Nat) (a1 : A1) (a2 : A2) (a3 : A3) (a4 : A4) (a5 : A5) (a6 : A6) (a7 : A7) (a8 : A8), I a1 a2 a3 a4 a5 a6 a7 a8 → (∀ (b1 : A1) (b2 : A2) (b3 : A3) (b4 : A4) (b5 : A5) (b6 : A6) (b7 : A7) (b8 : A8), I b1 b2 b3 b4 b5 b6 b7 b8 → μ b1 b2 b3 b4 b5 b6 b7 b8 < μ a1 a2 a3 a4 a5 a6 a7 a8 → W n b1 b2 b3 b4 b5 b6 b7 b8) → W (n + 1) a1 a2 a3 a4 a5 a6 a7 a8) (a1 : A1) (a2 : A2) (a3 : A3) (a4 : A4) (a5 : A5) (a6 : A6) (a7 : A7) (a8 : A8) (h : I a1 a2 a3 a4 a5 a6 a7 a8) : ∃ n, W n a1 a2 a3 a4 a5 a6 a7 a8 :=
  loop_m (σ := A1 × A2 × A3 × A4 × A5 × A6 × A7 × A8) (fun n s => W n s.1 s.2.1 s.2.2.1 s.2.2.2.1 s.2.2.2.2.1 s.2.2.2.2.2.1 s.2.2.2.2.2.2.1 s.2.2.2.2.2.2.2) (fun s => I s.1 s.2.1 s.2.2.1 s.2.2.2.1 s.2.2.2.2.1 s.2.2.2.2.2.1 s.2.2.2.2.2.2.1 s.2.2.2.2.2.2.2) (fun s => μ s.1 s.2.1 s.2.2.1 s.2.2.2.1 s.2.2.2.2.1 s.2.2.2.2.2.1 s.2.2.2.2.2.2.1 s.2.2.2.2.2.2.2) (fun n s hI hk => hs n s.1 s.2.1 s.2.2.1 s.2.2.2.1 s.2.2.2.2.1 s.2.2.2.2.2.1 s.2.2.2.2.2.2.1 s.2.2.2.2.2.2.2 hI (fun b1 b2 b3 b4 b5 b6 b7 b8 h9 hm => hk (b1, b2, b3, b4, b5, b6, b7, b8) h9 hm)) (a1, a2, a3, a4, a5, a6, a7, a8) h
theorem lp9 {A1 A2 A3 A4 A5 A6 A7 A8 A9 : Type} (W : Nat → A1 → A2 → A3 → A4 → A5 → A6 → A7 → A8 → A9 → Prop) (I : A1 → A2 → A3 → A4 → A5 → A6 → A7 → A8 → A9 → Prop) (μ : A1 → A2 → A3 → A4 → A5 → A6 → A7 → A8 → A9 → Nat) (hs : ∀ (n : Nat) (a1 : A1) (a2 : A2) (a3 : A3) (a4 : A4) (a5 : A5) (a6 : A6) (a7 : A7) (a8 : A8) (a9 : A9), I a1 a2 a3 a4 a5 a6 a7 a8 a9 → (∀ (b1 : A1) (b2 : A2) (b3 : A3) (b4 : A4) (b5 : A5) (b6 : A6) (b7 : A7) (b8 : A8) (b9 : A9), I b1 b2 b3 b4 b5 b6 b7 b8 b9 → μ b1 b2 b3 b4 b5 b6 b7 b8 b9 < μ a1 a2 a3 a4 a5 a6 a7 a8 a9 → W n b1 b2 b3 b4 b5 b6 b7 b8 b9) → W (n + 1) a1 a2 a3 a4 a5 a6 a7 a8 a9) (a1 : A1) (a2 : A2) (a3 : A3) (a4 : A4) (a5 : A5) (a6 : A6) (a7 : A7) (a8 : A8) (a9 : A9) (h : I a1 a2 a3 a4 a5 a6 a7 a8 a9) : ∃ n, W n a1 a2 a3 a4 a5 a6 a7 a8 a9 :=
  loop_m (σ := A1 × A2 × A3 × A4 × A5 × A6 × A7 × A8 × A9) (fun n s => W n s.1 s.2.1 s.2.2.1 s.2.2.2.1 s.2.2.2.2.1 s.2.2.2.2.2.1 s.2.2.2.2.2.2.1 s.2.2.2.2.2.2.2.1 s.2.2.2.2.2.2.2.2) (fun s => I s.1 s.2.1 s.2.2.1 s.2.2.2.1 s.2.2.2.2.1 s.2.2.2.2.2.1 s.2.2.2.2.2.2.1 s.2.2.2.2.2.2.2.1 s.2.2.2.2.2.2.2.2) (fun s => μ s.1 s.2.1 s.2.2.1 s.2.2.2.1 s.2.2.2.2.1 s.2.2.2.2.2.1 s.2.2.2.2.2.2.1 s.2.2.2.2.2.2.2.1 s.2.2.2.2.2.2.2.2) (fun n s hI hk => hs n s.1 s.2.1 s.2.2.1 s.2.2.2.1 s.2.2.2.2.1 s.2.2.2.2.2.1 s.2.2.2.2.2.2.1 s.2.2.2.2.2.2.2.1 s.2.2.2.2.2.2.2.2 hI (fun b1 b2 b3 b4 b5 b6 b7 b8 b9 h9 hm => hk (b1, b2, b3, b4, b5, b6, b7, b8, b9) h9 hm)) (a1, a2, a3, a4, a5, a6, a7, a8, a9) h
theorem lp10 {A1 A2 A3 A4 A5 A6 A7 A8 A9 A10 : Type} (W : Nat → A1 → A2 → A3 → A4 → A5 → A6 → A7 → A8 → A9 → A10 → Prop) (I : A1 → A2 → A3 → A4 → A5 → A6 → A7 → A8 → A9 → A10 → Prop) (μ : A1 → A2 → A3 → A4 → A5 → A6 → A7 → A8 → A9 → A10 → Nat) (hs : ∀ (n : Nat) (a1 : A1) (a2 : A2) (a3 : A3) (a4 : A4) (a5 : A5) (a6 : A6) (a7 : A7) (a8 : A8) (a9 : A9) (a10 : A10), I a1 a2 a3 a4 a5 a6 a7 a8 a9 a10 → (∀ (b1 : A1) (b2 : A2) (b3 : A3) (b4 : A4) (b5 : A5) (b6 : A6) (b7 : A7) (b8 : A8) (b9 : A9) (b10 : A10), I b1 b2 b3 b4 b5 b6 b7 b8 b9 b10 → μ b1 b2 b3 b4 b5 b6 b7 b8 b9 b10 < μ a1 a2 a3 a4 a5 a6 a7 a8 a9 a10 → W n b1 b2 b3 b4 b5 b6 b7 b8 b9 b10) → W (n + 1) a1 a2 a3 a4 a5 a6 a7 a8 a9 a10) (a1 : A1) (a2 : A2) (a3 : A3) (a4 : A4) (a5 : A5) (a6 : A6) (a7 : A7) (a8 : A8) (a9 : A9) (a10 : A10) (h : I a1 a2 a3 a4 a5 a6 a7 a8 a9 a10) : ∃ n, W n a1 a2 a3 a4 a5 a6 a7 a8 a9 a10 :=
  loop_m (σ := A1 × A2 × A3 × A4 × A5 × A6 × A7 × A8 × A9 × A10) (fun n s => W n s.1 s.2.1 s.2.2.1 s.2.2.2.1 s.2.2.2.2.1 s.2.2.2.2.2.1 s.2.2.2.2.2.2.1 s.2.2.2.2.2.2.2.1 s.2.2.2.2.2.2.2.2.1 s.2.2.2.2.2.2.2.2.2) (fun s => I s.1 s.2.1 s.2.2.1 s.2.2.2.1 s.2.2.2.2.1 s.2.2.2.2.2.1 s.2.2.2.2.2.2.1 s.2.2.2.2.2.2.2.1 s.2.2.2.2.2.2.2.2.1 s.2.2.2.2.2.2.2.2.2) (fun s => μ s.1 s.2.1 s.2.2.1 s.2.2.2.1 s.2.2.2.2.1 s.2.2.2.2.2.1 s.2.2.2.2.2.2.1 s.2.2.2.2.2.2.2.1 s.2.2.2.2.2.2.2.2.1 s.2.2.2.2.2.2.2.2.2) (fun n s hI hk => hs n s.1 s.2.1 s.2.2.1 s.2.2.2.1 s.2.2.2.2.1 s.2.2.2.2.2.1 s.2.2.2.2.2.2.1 s.2.2.2.2.2.2.2.1 s.2.2.2.2.2.2.2.2.1 s.2.2.2.2.2.2.2.2.2 hI (fun b1 b2 b3 b4 b5 b6 b7 b8 b9 b10 h9 hm => hk (b1, b2, b3, b4, b5, b6, b7, b8, b9, b10) h9 hm)) (a1, a2, a3, a4, a5, a6, a7, a8, a9, a10) h
theorem lp11 {A1 A2 A3 A4 A5 A6 A7 A8 A9 A10 A11 : Type} (W : Nat → A1 → A2 → A3 → A4 → A5 → A6 → A7 → A8 → A9 → A10 → A11 → Prop) (I : A1 → A2 → A3 → A4 → A5 → A6 → A7 → A8 → A9 → A10 → A11 → Prop) (μ : A1 → A2 → A3 → A4 → A5 → A6 → A7 → A8 → A9 → A10 → A11 → Nat) (hs : ∀ (n : Nat) (a1 : A1) (a2 : A2) (a3 : A3) (a4 : A4) (a5 : A5) (a6 : A6) (a7 : A7) (a8 : A8) (a9 : A9) (a10 : A10) (a11 : A11), I a1 a2 a3 a4 a5 a6 a7 a8 a9 a10 a11 → (∀ (b1 : A1) (b2 : A2) (b3 : A3) (b4 : A4) (b5 : A5) (b6 : A6) (b7 : A7) (b8 : A8) (b9 : A9) (b10 : A10) (b11 : A11), I b1 b2 b3 b4 b5 b6 b7 b8 b9 b10 b11 → μ b1 b2 b3 b4 b5 b6 b7 b8 b9 b10 b11 < μ a1 a2 a3 a4 a5 a6 a7 a8 a9 a10 a11 → W n b1 b2 b3 b4 b5 b6 b7 b8 b9 b10 b11) → W (n + 1) a1 a2 a3 a4 a5 a6 a7 a8 a9 a10 a11) (a1 : A1) (a2 : A2) (a3 : A3) (a4 : A4) (a5 : A5) (a6 : A6) (a7 : A7) (a8 : A8) (a9 : A9) (a10 : A10) (a11 : A11) (h : I a1 a2 a3 a4 a5 a6 a7 a8 a9 a10 a11) : ∃ n, W n a1 a2 a3 a4 a5 a6 a7 a8 a9 a10 a11 :=
  loop_m (σ := A1 × A2 × A3 × A4 × A5 × A6 × A7 × A8 × A9 × A10 × A11) (fun n s => W n s.1 s.2.1 s.2.2.1 s.2.2.2.1 s.2.2.2.2.1 s.2.2.2.2.2.1 s.2.2.2.2.2.2.1 s.2.2.2.2.2.2.2.1 s.2.2.2.2.2.2.2.2.1 s.2.2.2.2.2.2.2.2.2.1 s.2.2.2.2.2.2.2.2.2.2) (fun s => I s.1 s.2.1 s.2.2.1 s.2.2.2.1 s.2.2.2.2.1 s.2.2.2.2.2.1 s.2.2.2.2.2.2.1 s.2.2.2.2.2.2.2.1 s.2.2.2.2.2.2.2.2.1 s.2.2.2.2.2.2.2.2.2.1 s.2.2.2.2.2.2.2.2.2.2) (fun s => μ s.1 s.2.1 s.2.2.1 s.2.2.2.1 s.2.2.2.2.1 s.2.2.2.2.2.1 s.2.2.2.2.2.2.1 s.2.2.2.2.2.2.2.1 s.2.2.2.2.2.2.2.2.1 s.2.2.2.2.2.2.2.2.2.1 s.2.2.2.2.2.2.2.2.2.2) (fun n s hI hk => hs n s.1 s.2.1 s.2.2.1 s.2.2.2.1 s.2.2.2.2.1 s.2.2.2.2.2.1 s.2.2.2.2.2.2.1 s.2.2.2.2.2.2.2.1 s.2.2.2.2.2.2.2.2.1 s.2.2.2.2.2.2.2.2.2.1 s.2.2.2.2.2.2.2.2.2.2 hI (fun b1 b2 b3 b4 b5 b6 b7 b8 b9 b10 b11 h9 hm => hk (b1, b2, b3, b4, b5, b6, b7, b8, b9, b10, b11) h9 hm)) (a1, a2, a3, a4, a5, a6, a7, a8, a9, a10, a11) h
theorem lp12 {A1 A2 A3 A4 A5 A6 A7 A8 A9 A10 A11 A12 : Type} (W : Nat → A1 → A2 → A3 → A4 → A5 → A6 → A7 → A8 → A9 → A10 → A11 → A12 → Prop) (I : A1 → A2 → A3 → A4 → A5 → A6 → A7 → A8 → A9 → A10 → A11 → A12 → Prop) (μ : A1 → A2 → A3 → A4 → A5 → A6 → A7 → A8 → A9 → A10 → A11 → A12 → Nat) (hs : ∀ (n : Nat) (a1 : A1) (a2 : A2) (a3 : A3) (a4 : A4) (a5 : A5) (a6 : A6) (a7 : A7) (a8 : A8) (a9 : A9) (a10 : A10) (a11 : A11) (a12 : A12), I a1 a2 a3 a4 a5 a6 a7 a8 a9 a10 a11 a12 → (∀ (b1 : A1) (b2 : A2) (b3 : A3) (b4 : A4) (b5 : A5) (b6 : A6) (b7 : A7) (b8 : A8) (b9 : A9) (b10 : A10) (b11 : A11) (b12 : A12), I b1 b2 b3 b4 b5 b6 b7 b8 b9 b10 b11 b12 → μ b1 b2 b3 b4 b5 b6 b7 b8 b9 b10 b11 b12 < μ a1 a2 a3 a4 a5 a6 a7 a8 a9 a10 a11 a12 → W n b1 b2 b3 b4 b5 b6 b7 b8 b9 b10 b11 b12) → W (n + 1) a1 a2 a3 a4 a5 a6 a7 a8 a9 a10 a11 a12) (a1 : A1) (a2 : A2) (a3 : A3) (a4 : A4) (a5 : A5) (a6 : A6) (a7 : A7) (a8 : A8) (a9 : A9) (a10 : A10) (a11 : A11) (a12 : A12) (h : I a1 a2 a3 a4 a5 a6 a7 a8 a9 a10 a11 a12) : ∃ n, W n a1 a2 a3 a4 a5 a6 a7 a8 a9 a10 a11 a12 :=
  loop_m (σ := A1 × A2 × A3 × A4 × A5 × A6 × A7 × A8 × A9 × A10 × A11 × A12) (fun n s => W n s.1 s.2.1 s.2.2.1 s.2.2.2.1 s.2.2.2.2.1 s.2.2.2.2.2.1 s.2.2.2.2.2.2.1 s.2.2.2.2.2.2.2.1 s.2.2.2.2.2.2.2.2.1 s.2.2.2.2.2.2.2.2.2.1 s.2.2.2.2.2.2.2.2.2.2.1 s.2.2.2.2.2.2.2.2.2.2.2) (fun s => I s.1 s.2.1 s.2.2.1 s.2.2.2.1 s.2.2.2.2.1 s.2.2.2.2.2.1 s.2.2.2.2.2.2.1 s.2.2.2.2.2.2.2.1 s.2.2.2.2.2.2.2.2.1 s.2.2.2.2.2.2.2.2.2.1 s.2.2.2.2.2.2.2.2.2.2.1 s.2.2.2.2.2.2.2.2.2.2.2) (fun s => μ s.1 s.2.1 s.2.2.1 s.2.2.2.1 s.2.2.2.2.1 s.2.2.2.2.2.1 s.2.2.2.2.2.2.1 s.2.2.2.2.2.2.2.1 s.2.2.2.2.2.2.2.2.1 s.2.2.2.2.2.2.2.2.2.1 s.2.2.2.2.2.2.2.2.2.2.1 s.2.2.2.2.2.2.2.2.2.2.2) (fun n s hI hk => hs n s.1 s.2.1 s.2.2.1 s.2.2.2.1 s.2.2.2.2.1 s.2.2.2.2.2.1 s.2.2.2.2.2.2.1 s.2.2.2.2.2.2.2.1 s.2.2.2.2.2.2.2.2.1 s.2.2.2.2.2.2.2.2.2.1 s.2.2.2.2.2.2.2.2.2.2.1 s.2.2.2.2.2.2.2.2.2.2.2 hI (fun b1 b2 b3 b4 b5 b6 b7 b8 b9 b10 b11 b12 h9 hm => hk (b1, b2, b3, b4, b5, b6, b7, b8, b9, b10, b11, b12) h9 hm)) (a1, a2, a3, a4, a5, a6, a7, a8, a9, a10, a11, a12) h
theorem lp13 {A1 A2 A3 A4 A5 A6 A7 A8 A9 A10 A11 A12 A13 : Type} (W : Nat → A1 → A2 → A3 → A4 → A5 → A6 → A7 → A8 → A9 → A10 → A11 → A12 → A13 → Prop) (I : A1 → A2 → A3 → A4 → A5 → A6 → A7 → A8 → A9 → A10 → A11 → A12 → A13 → Prop) (μ : A1 → A2 → A3 → A4 → A5 → A6 → A7 → A8 → A9 → A10 → A11 → A12 → A13 → Nat) (hs : ∀ (n : Nat) (a1 : A1) (a2 : A2) (a3 : A3) (a4 : A4) (a5 : A5) (a6 : A6) (a7 : A7) (a8 : A8) (a9 : A9) (a10 : A10) (a11 : A11) (a12 : A12) (a13 : A13), I a1 a2 a3 a4 a5 a6 a7 a8 a9 a10 a11 a12 a13 → (∀ (b1 : A1) (b2 : A2) (b3 : A3) (b4 : A4) (b5 : A5) (b6 : A6) (b7 : A7) (b8 : A8) (b9 : A9) (b10 : A10) (b11 : A11) (b12 : A12) (b13 : A13), I b1 b2 b3 b4 b5 b6 b7 b8 b9 b10 b11 b12 b13 → μ b1 b2 b3 b4 b5 b6 b7 b8 b9 b10 b11 b12 b13 < μ a1 a2 a3 a4 a5 a6 a7 a8 a9 a10 a11 a12 a13 → W n b1 b2 b3 b4 b5 b6 b7 b8 b9 b10 b11 b12 b13) → W (n + 1) a1 a2 a3 a4 a5 a6 a7 a8 a9 a10 a11 a12 a13) (a1 : A1) (a2 : A2) (a3 : A3) (a4 : A4) (a5 : A5) (a6 : A6) (a7 : A7) (a8 : A8) (a9 : A9) (a10 : A10) (a11 : A11) (a12 : A12) (a13 : A13) (h : I a1 a2 a3 a4 a5 a6 a7 a8 a9 a10 a11 a12 a13) : ∃ n, W n a1 a2 a3 a4 a5 a6 a7 a8 a9 a10 a11 a12 a13 :=
  loop_m (σ := A1 × A2 × A3 × A4 × A5 × A6 × A7 × A8 × A9 × A10 × A11 × A12 × A13) (fun n s => W n s.1 s.2.1 s.2.2.1 s.2.2.2.1 s.2.2.2.2.1 s.2.2.2.2.2.1 s.2.2.2.2.2.2.1 s.2.2.2.2.2.2.2.1 s.2.2.2.2.2.2.2.2.1 s.2.2.2.2.2.2.2.2.2.1 s.2.2.2.2.2.2.2.2.2.2.1 s.2.2.2.2.2.2.2.2.2.2.2.1 s.2.2.2.2.2.2.2.2.2.2.2.2) (fun s => I s.1 s.2.1 s.2.2.1 s.2.2.2.1 s.2.2.2.2.1 s.2.2.2.2.2.1 s.2.2.2.2.2.2.1 s.2.2.2.2.2.2.2.1 s.2.2.2.2.2.2.2.2.1 s.2.2.2.2.2.2.2.2.2.1 s.2.2.2.2.2.2.2.2.2.2.1 s.2.2.2.2.2.2.2.2.2.2.2.1 s.2.2.2.2.2.2.2.2.2.2.2.2) (fun s => μ s.1 s.2.1 s.2.2.1 s.2.2.2.1 s.2.2.2.2.1 s.2.2.2.2.2.1 s.2.2.2.2.2.2.1 s.2.2.2.2.2.2.2.1 s.2.2.2.2.2.2.2.2.1 s.2.2.2.2.2.2.2.2.2.1 s.2.2.2.2.2.2.2.2.2.2.1 s.2.2.2.2.2.2.2.2.2.2.2.1 s.2.2.2.2.2.2.2.2.2.2.2.2) (fun n s hI hk => hs n s.1 s.2.1 s.2.2.1 s.2.2.2.1 s.2.2.2.2.1 s.2.2.2.2.2.1 s.2.2.2.2.2.2.1 s.2.2.2.2.2.2.2.1 s.2.2.2.2.2.2.2.2.1 s.2.2.2.2.2.2.2.2.2.1 s.2.2.2.2.2.2.2.2.2.2.1 s.2.2.2.2.2.2.2.2.2.2.2.1 s.2.2.2.2.2.2.2.2.2.2.2.2 hI (fun b1 b2 b3 b4 b5 b6 b7 b8 b9 b10 b11 b12 b13 h9 hm => hk (b1, b2, b3, b4, b5, b6, b7, b8, b9, b10, b11, b12, b13) h9 hm)) (a1, a2, a3, a4, a5, a6, a7, a8, a9, a10, a11, a12, a13) h
theorem lp14 {A1 A2 A3 A4 A5 A6 A7 A8 A9 A10 A11 A12 A13 A14 : Type} (W : Nat → A1 → A2 → A3 → A4 → A5 → A6 → A7 → A8 → A9 → A10 → A11 → A12 → A13 → A14 → Prop) (I : A1 → A2 → A3 → A4 → A5 → A6 → A7 → A8 → A9 → A10 → A11 → A12 → A13 → A14 → Prop) (μ : A1 → A2 → A3 → A4 → A5 → A6 → A7 → A8 → A9 → A10 → A11 → A12 → A13 → A14 → Nat) (hs : ∀ (n : Nat) (a1 : A1) (a2 : A2) (a3 : A3) (a4 : A4) (a5 : A5) (a6 : A6) (a7 : A7) (a8 : A8) (a9 : A9) (a10 : A10) (a11 : A11) (a12 : A12) (a13 : A13) (a14 : A14), I a1 a2 a3 a4 a5 a6 a7 a8 a9 a10 a11 a12 a13 a14 → (∀ (b1 : A1) (b2 : A2) (b3 : A3) (b4 : A4) (b5 : A5) (b6 : A6) (b7 : A7) (b8 : A8) (b9 : A9) (b10 : A10) (b11 : A11) (b12 : A12) (b13 : A13) (b14 : A14), I b1 b2 b3 b4 b5 b6 b7 b8 b9 b10 b11 b12 b13 b14 → μ b1 b2 b3 b4 b5 b6 b7 b8 b9 b10 b11 b12 b13 b14 < μ a1 a2 a3 a4 a5 a6 a7 a8 a9 a10 a11 a12 a13 a14 → W n b1 b2 b3 b4 b5 b6 b7 b8 b9 b10 b11 b12 b13 b14) → W (n + 1) a1 a2 a3 a4 a5 a6 a7 a8 a9 a10 a11 a12 a13 a14) (a1 : A1) (a2 : A2) (a3 : A3) (a4 : A4) (a5 : A5) (a6 : A6) (a7 : A7) (a8 : A8) (a9 : A9) (a10 : A10) (a11 : A11) (a12 : A12) (a13 : A13) (a14 : A14) (h : I a1 a2 a3 a4 a5 a6 a7 a8 a9 a10 a11 a12 a13 a14) : ∃ n, W n a1 a2 a3 a4 a5 a6 a7 a8 a9 a10 a11 a12 a13 a14 :=
  loop_m (σ := A1 × A2 × A3 × A4 × A5 × A6 × A7 × A8 × A9 × A10 × A11 × A12 × A13 × A14) (fun n s => W n s.1 s.2.1 s.2.2.1 s.2.2.2.1 s.2.2.2.2.1 s.2.2.2.2.2.1 s.2.2.2.2.2.2.1 s.2.2.2.2.2.2.2.1 s.2.2.2.2.2.2.2.2.1 s.2.2.2.2.2.2.2.2.2.1 s.2.2.2.2.2.2.2.2.2.2.1 s.2.2.2.2.2.2.2.2.2.2.2.1 s.2.2.2.2.2.2.2.2.2.2.2.2.1 s.2.2.2.2.2.2.2.2.2.2.2.2.2) (fun s => I s.1 s.2.1 s.2.2.1 s.2.2.2.1 s.2.2.2.2.1 s.2.2.2.2.2.1 s.2.2.2.2.2.2.1 s.2.2.2.2.2.2.2.1 s.2.2.2.2.2.2.2.2.1 s.2.2.2.2.2.2.2.2.2.1 s.2.2.2.2.2.2.2.2.2.2.1 s.2.2.2.2.2.2.2.2.2.2.2.1 s.2.2.2.2.2.2.2.2.2.2.2.2.1 s.2.2.2.2.2.2.2.2.2.2.2.2.2) (fun s => μ s.1 s.2.1 s.2.2.1 s.2.2.2.1 s.2.2.2.2.1 s.2.2.2.2.2.1 s.2.2.2.2.2.2.1 s.2.2.2.2.2.2.2.1 s.2.2.2.2.2.2.2.2.1 s.2.2.2.2.2.2.2.2.2.1 s.2.2.2.2.2.2.2.2.2.2.1 s.2.2.2.2.2.2.2.2.2.2.2.1 s.2.2.2.2.2.2.2.2.2.2.2.2.1 s.2.2.2.2.2.2.2.2.2.2.2.2.2) (fun n s hI hk => hs n s.1 s.2.1 s.2.2.1 s.2.2.2.1 s.2.2.2.2.1 s.2.2.2.2.2.1 s.2.2.2.2.2.2.1 s.2.2.2.2.2.2.2.1 s.2.2.2.2.2.2.2.2.1 s.2.2.2.2.2.2.2.2.2.1 s.2.2.2.2.2.2.2.2.2.2.1 s.2.2.2.2.2.2.2.2.2.2.2.1 s.2.2.2.2.2.2.2.2.2.2.2.2.1 s.2.2.2.2.2.2.2.2.2.2.2.2.2 hI (fun b1 b2 b3 b4 b5 b6 b7 b8 b9 b10 b11 b12 b13 b14 h9 hm => hk (b1, b2, b3, b4, b5, b6, b7, b8, b9, b10, b11, b12, b13, b14) h9 hm)) (a1, a2, a3, a4, a5, a6, a7, a8, a9, a10, a11, a12, a13, a14) h
theorem lp15 {A1 A2 A3 A4 A5 A6 A7 A8 A9 A10 A11 A12 A13 A14 A15 : Type} (W : Nat → A1 → A2 → A3 → A4 → A5 → A6 → A7 → A8 → A9 → A10 → A11 → A12 → A13 → A14 → A15 → Prop) (I : A1 → A2 → A3 → A4 → A5 → A6 → A7 → A8 → A9 → A10 → A11 → A12 → A13 → A14 → A15 → Prop) (μ : A1 → A2 → A3 → A4 → A5 → A6 → A7 → A8 → A9 → A10 → A11 → A12 → A13 → A14 → A15 → Nat) (hs : ∀ (n : Nat) (a1 : A1) (a2 : A2) (a3 : A3) (a4 : A4) (a5 : A5) (a6 : A6) (a7 : A7) (a8 : A8) (a9 : A9) (a10 : A10) (a11 : A11) (a12 : A12) (a13 : A13) (a14 : A14) (a15 : A15), I a1 a2 a3 a4 a5 a6 a7 a8 a9 a10 a11 a12 a13 a14 a15 → (∀ (b1 : A1) (b2 : A2) (b3 : A3) (b4 : A4) (b5 : A5) (b6 : A6) (b7 : A7) (b8 : A8) (b9 : A9) (b10 : A10) (b11 : A11) (b12 : A12) (b13 : A13) (b14 : A14) (b15 : A15), I b1 b2 b3 b4 b5 b6 b7 b8 b9 b10 b11 b12 b13 b14 b15 → μ b1 b2 b3 b4 b5 b6 b7 b8 b9 b10 b11 b12 b13 b14 b15 < μ a1 a2 a3 a4 a5 a6 a7 a8 a9 a10 a11 a12 a13 a14 a15 → W n b1 b2 b3 b4 b5 b6 b7 b8 b9 b10 b11 b12 b13 b14 b15) → W (n + 1) a1 a2 a3 a4 a5 a6 a7 a8 a9 a10 a11 a12 a13 a14 a15) (a1 : A1) (a2 : A2) (a3 : A3) (a4 : A4) (a5 : A5) (a6 : A6) (a7 : A7) (a8 : A8) (a9 : A9) (a10 : A10) (a11 : A11) (a12 : A12) (a13 : A13) (a14 : A14) (a15 : A15) (h : I a1 a2 a3 a4 a5 a6 a7 a8 a9 a10 a11 a12 a13 a14 a15) : ∃ n, W n a1 a2 a3 a4 a5 a6 a7 a8 a9 a10 a11 a12 a13 a14 a15 :=
  loop_m (σ := A1 × A2 × A3 × A4 × A5 × A6 × A7 × A8 × A9 × A10 × A11 × A12 × A13 × A14 × A15) (fun n s => W n s.1 s.2.1 s.2.2.1 s.2.2.2.1 s.2.2.2.2.1 s.2.2.2.2.2.1 s.2.2.2.2.2.2.1 s.2.2.2.2.2.2.2.1 s.2.2.2.2.2.2.2.2.1 s.2.2.2.2.2.2.2.2.2.1 s.2.2.2.2.2.2.2.2.2.2.1 s.2.2.2.2.2.2.2.2.2.2.2.1 s.2.2.2.2.2.2.2.2.2.2.2.2.1 s.2.2.2.2.2.2.2.2.2.2.2.2.2.1 s.2.2.2.2.2.2.2.2.2.2.2.2.2.2) (fun s => I s.1 s.2.1 s.2.2.1 s.2.2.2.1 s.2.2.2.2.1 s.2.2.2.2.2.1 s.2.2.2.2.2.2.1 s.2.2.2.2.2.2.2.1 s.2.2.2.2.2.2.2.2.1 s.2.2.2.2.2.2.2.2.2.1 s.2.2.2.2.2.2.2.2.2.2.1 s.2.2.2.2.2.2.2.2.2.2.2.1 s.2.2.2.2.2.2.2.2.2.2.2.2.1 s.2.2.2.2.2.2.2.2.2.2.2.2.2.1 s.2.2.2.2.2.2.2.2.2.2.2.2.2.2) (fun s => μ s.1 s.2.1 s.2.2.1 s.2.2.2.1 s.2.2.2.2.1 s.2.2.2.2.2.1 s.2.2.2.2.2.2.1 s.2.2.2.2.2.2.2.1 s.2.2.2.2.2.2.2.2.1 s.2.2.2.2.2.2.2.2.2.1 s.2.2.2.2.2.2.2.2.2.2.1 s.2.2.2.2.2.2.2.2.2.2.2.1 s.2.2.2.2.2.2.2.2.2.2.2.2.1 s.2.2.2.2.2.2.2.2.2.2.2.2.2.1 s.2.2.2.2.2.2.2.2.2.2.2.2.2.2) (fun n s hI hk => hs n s.1 s.2.1 s.2.2.1 s.2.2.2.1 s.2.2.2.2.1 s.2.2.2.2.2.1 s.2.2.2.2.2.2.1 s.2.2.2.2.2.2.2.1 s.2.2.2.2.2.2.2.2.1 s.2.2.2.2.2.2.2.2.2.1 s.2.2.2.2.2.2.2.2.2.2.1 s.2.2.2.2.2.2.2.2.2.2.2.1 s.2.2.2.2.2.2.2.2.2.2.2.2.1 s.2.2.2.2.2.2.2.2.2.2.2.2.2.1 s.2.2.2.2.2.2.2.2.2.2.2.2.2.2 hI (fun b1 b2 b3 b4 b5 b6 b7 b8 b9 b10 b11 b12 b13 b14 b15 h9 hm => hk (b1, b2, b3, b4, b5, b6, b7, b8, b9, b10, b11, b12, b13, b14, b15) h9 hm)) (a1, a2, a3, a4, a5, a6, a7, a8, a9, a10, a11, a12, a13, a14, a15) h
theorem lp16 {A1 A2 A3 A4 A5 A6 A7 A8 A9 A10 A11 A12 A13 A14 A15 A16 : Type} (W : Nat → A1 → A2 → A3 → A4 → A5 → A6 → A7 → A8 → A9 → A10 → A11 → A12 → A13 → A14 → A15 → A16 → Prop) (I : A1 → A2 → A3 → A4 → A5 → A6 → A7 → A8 → A9 → A10 → A11 → A12 → A13 → A14 → A15 → A16 → Prop) (μ : A1 → A2 → A3 → A4 → A5 → A6 → A7 → A8 → A9 → A10 → A11 → A12 → A13 → A14 → A15 → A16 → Nat) (hs : ∀ (n : Nat) (a1 : A1) (a2 : A2) (a3 : A3) (a4 : A4) (a5 : A5) (a6 : A6) (a7 : A7) (a8 : A8) (a9 : A9) (a10 : A10) (a11 : A11) (a12 : A12) (a13 : A13) (a14 : A14) (a15 : A15) (a16 : A16), I a1 a2 a3 a4 a5 a6 a7 a8 a9 a10 a11 a12 a13 a14 a15 a16 → (∀ (b1 : A1) (b2 : A2) (b3 : A3) (b4 : A4) (b5 : A5) (b6 : A6) (b7 : A7) (b8 : A8) (b9 : A9) (b10 : A10) (b11 : A11) (b12 : A12) (b13 : A13) (b14 : A14) (b15 : A15) (b16 : A16), I b1 b2 b3 b4 b5 b6 b7 b8 b9 b10 b11 b12 b13 b14 b15 b16 → μ b1 b2 b3 b4 b5 b6 b7 b8 b9 b10 b11 b12 b13 b14 b15 b16 < μ a1 a2 a3 a4 a5 a6 a7 a8 a9 a10 a11 a12 a13 a14 a15 a16 → W n b1 b2 b3 b4 b5 b6 b7 b8 b9 b10 b11 b12 b13 b14 b15 b16) → W (n + 1) a1 a2 a3 a4 a5 a6 a7 a8 a9 a10 a11 a12 a13 a14 a15 a16) (a1 : A1) (a2 : A2) (a3 : A3) (a4 : A4) (a5 : A5) (a6 : A6) (a7 : A7) (a8 : A8) (a9 : A9) (a10 : A10) (a11 : A11) (a12 : A12) (a13 : A13) (a14 : A14) (a15 : A15) (a16 : A16) (h : I a1 a2 a3 a4 a5 a6 a7 a8 a9 a10 a11 a12 a13 a14 a15 a16) : ∃ n, W n a1 a2 a3 a4 a5 a6 a7 a8 a9 a10 a11 a12 a13 a14 a15 a16 :=
  loop_m (σ := A1 × A2 × A3 × A4 × A5 × A6 × A7 × A8 × A9 × A10 × A11 × A12 × A13 × A14 × A15 × A16) (fun n s => W n s.1 s.2.1 s.2.2.1 s.2.2.2.1 s.2.2.2.2.1 s.2.2.2.2.2.1 s.2.2.2.2.2.2.1 s.2.2.2.2.2.2.2.1 s.2.2.2.2.2.2.2.2.1 s.2.2.2.2.2.2.2.2.2.1 s.2.2.2.2.2.2.2.2.2.2.1 s.2.2.2.2.2.2.2.2.2.2.2.1 s.2.2.2.2.2.2.2.2.2.2.2.2.1 s.2.2.2.2.2.2.2.2.2.2.2.2.2.1 s.2.2.2.2.2.2.2.2.2.2.2.2.2.2.1 s.2.2.2.2.2.2.2.2.2.2.2.2.2.2.2) (fun s => I s.1 s.2.1 s.2.2.1 s.2.2.2.1 s.2.2.2.2.1 s.2.2.2.2.2.1 s.2.2.2.2.2.2.1 s.2.2.2.2.2.2.2.1 s.2.2.2.2.2.2.2.2.1 s.2.2.2.2.2.2.2.2.2.1 s.2.2.2.2.2.2.2.2.2.2.1 s.2.2.2.2.2.2.2.2.2.2.2.1 s.2.2.2.2.2.2.2.2.2.2.2.2.1 s.2.2.2.2.2.2.2.2.2.2.2.2.2.1 s.2.2.2.2.2.2.2.2.2.2.2.2.2.2.1 s.2.2.2.2.2.2.2.2.2.2.2.2.2.2.2) (fun s => μ s.1 s.2.1 s.2.2.1 s.2.2.2.1 s.2.2.2.2.1 s.2.2.2.2.2.1 s.2.2.2.2.2.2.1 s.2.2.2.2.2.2.2.1 s.2.2.2.2.2.2.2.2.1 s.2.2.2.2.2.2.2.2.2.1 s.2.2.2.2.2.2.2.2.2.2.1 s.2.2.2.2.2.2.2.2.2.2.2.1 s.2.2.2.2.2.2.2.2.2.2.2.2.1 s.2.2.2.2.2.2.2.2.2.2.2.2.2.1 s.2.2.2.2.2.2.2.2.2.2.2.2.2.2.1 s.2.2.2.2.2.2.2.2.2.2.2.2.2.2.2) (fun n s hI hk => hs n s.1 s.2.1 s.2.2.1 s.2.2.2.1 s.2.2.2.2.1 s.2.2.2.2.2.1 s.2.2.2.2.2.2.1 s.2.2.2.2.2.2.2.1 s.2.2.2.2.2.2.2.2.1 s.2.2.2.2.2.2.2.2.2.1 s.2.2.2.2.2.2.2.2.2.2.1 s.2.2.2.2.2.2.2.2.2.2.2.1 s.2.2.2.2.2.2.2.2.2.2.2.2.1 s.2.2.2.2.2.2.2.2.2.2.2.2.2.1 s.2.2.2.2.2.2.2.2.2.2.2.2.2.2.1 s.2.2.2.2.2.2.2.2.2.2.2.2.2.2.2 hI (fun b1 b2 b3 b4 b5 b6 b7 b8 b9 b10 b11 b12 b13 b14 b15 b16 h9 hm => hk (b1, b2, b3, b4, b5, b6, b7, b8, b9, b10, b11, b12, b13, b14, b15, b16) h9 hm)) (a1, a2, a3, a4, a5, a6, a7, a8, a9, a10, a11, a12, a13, a14, a15, a16) h
theorem pk_least (P : Nat → Prop) (h : ∃ k, P k) : ∃ k, P k ∧ ∀ j, j < k → ¬ P j := by
  obtain ⟨k, hk⟩ := h
  induction k using Nat.strongRecOn with
  | ind k ih =>
    by_cases e : ∃ j, j < k ∧ P j
    · obtain ⟨j, hj, pj⟩ := e
      exact ih j hj pj
    · exact ⟨k, hk, fun j hj pj => e ⟨j, hj, pj⟩⟩
theorem rp1 {ρ A1 : Type} (W : Nat → (ρ → Prop) → A1 → Prop) (ok : A1 → Prop) (μ : A1 → Nat) (val : A1 → ρ)
    (hs : ∀ (d : Nat) (post : ρ → Prop) (a1 : A1), ok a1 → post (val a1) → (∀ (post' : ρ → Prop) (b1 : A1), ok b1 → μ b1 < μ a1 → post' (val b1) → W d post' b1) → W (d + 1) post a1) :
    ∀ (d : Nat) (post : ρ → Prop) (a1 : A1), ok a1 → μ a1 < d → post (val a1) → W d post a1 := by
  intro d
  induction d with
  | zero => intro post a1 _ h; omega
  | succ d ih =>
    intro post a1 ho hm hp
    exact hs d post a1 ho hp (fun post' b1 ho' hm' hp' => ih post' b1 ho' (by omega) hp')
theorem rp2 {ρ A1 A2 : Type} (W : Nat → (ρ → Prop) → A1 → A2 → Prop) (ok : A1 → A2 → Prop) (μ : A1 → A2 → Nat) (val : A1 → A2 → ρ)
    (hs : ∀ (d : Nat) (post : ρ → Prop) (a1 : A1) (a2 : A2), ok a1 a2 → post (val a1 a2) → (∀ (post' : ρ → Prop) (b1 : A1) (b2 : A2), ok b1 b2 → μ b1 b2 < μ a1 a2 → post' (val b1 b2) → W d post' b1 b2) → W (d + 1) post a1 a2) :
    ∀ (d : Nat) (post : ρ → Prop) (a1 : A1) (a2 : A2), ok a1 a2 → μ a1 a2 < d → post (val a1 a2) → W d post a1 a2 := by
  intro d
  induction d with
  | zero => intro post a1 a2 _ h; omega
  | succ d ih =>
    intro post a1 a2 ho hm hp
    exact hs d post a1 a2 ho hp (fun post' b1 b2 ho' hm' hp' => ih post' b1 b2 ho' (by omega) hp')
theorem rp3 {ρ A1 A2 A3 : Type} (W : Nat → (ρ → Prop) → A1 → A2 → A3 → Prop) (ok : A1 → A2 → A3 → Prop) (μ : A1 → A2 → A3 → Nat) (val : A1 → A2 → A3 → ρ)
    (hs : ∀ (d : Nat) (post : ρ → Prop) (a1 : A1) (a2 : A2) (a3 : A3), ok a1 a2 a3 → post (val a1 a2 a3) → (∀ (post' : ρ → Prop) (b1 : A1) (b2 : A2) (b3 : A3), ok b1 b2 b3 → μ b1 b2 b3 < μ a1 a2 a3 → post' (val b1 b2 b3) → W d post' b1 b2 b3) → W (d + 1) post a1 a2 a3) :
    ∀ (d : Nat) (post : ρ → Prop) (a1 : A1) (a2 : A2) (a3 : A3), ok a1 a2 a3 → μ a1 a2 a3 < d → post (val a1 a2 a3) → W d post a1 a2 a3 := by
  intro d
  induction d with
  | zero => intro post a1 a2 a3 _ h; omega
  | succ d ih =>
    intro post a1 a2 a3 ho hm hp
    exact hs d post a1 a2 a3 ho hp (fun post' b1 b2 b3 ho' hm' hp' => ih post' b1 b2 b3 ho' (by omega) hp')
theorem rp4 {ρ A1 A2 A3 A4 : Type} (W : Nat → (ρ → Prop) → A1 → A2 → A3 → A4 → Prop) (ok : A1 → A2 → A3 → A4 → Prop) (μ : A1 → A2 → A3 → A4 → Nat) (val : A1 → A2 → A3 → A4 → ρ)
    (hs : ∀ (d : Nat) (post : ρ → Prop) (a1 : A1) (a2 : A2) (a3 : A3) (a4 : A4), ok a1 a2 a3 a4 → post (val a1 a2 a3 a4) → (∀ (post' : ρ → Prop) (b1 : A1) (b2 : A2) (b3 : A3) (b4 : A4), ok b1 b2 b3 b4 → μ b1 b2 b3 b4 < μ a1 a2 a3 a4 → post' (val b1 b2 b3 b4) → W d post' b1 b2 b3 b4) → W (d + 1) post a1 a2 a3 a4) :
    ∀ (d : Nat) (post : ρ → Prop) (a1 : A1) (a2 : A2) (a3 : A3) (a4 : A4), ok a1 a2 a3 a4 → μ a1 a2 a3 a4 < d → post (val a1 a2 a3 a4) → W d post a1 a2 a3 a4 := by
  intro d
  induction d with
  | zero => intro post a1 a2 a3 a4 _ h; omega
  | succ d ih =>
    intro post a1 a2 a3 a4 ho hm hp
    exact hs d post a1 a2 a3 a4 ho hp (fun post' b1 b2 b3 b4 ho' hm' hp' => ih post' b1 b2 b3 b4 ho' (by omega) hp')
theorem rp5 {ρ A1 A2 A3 A4 A5 : Type} (W : Nat → (ρ → Prop) → A1 → A2 → A3 → A4 → A5 → Prop) (ok : A1 → A2 → A3 → A4 → A5 → Prop) (μ : A1 → A2 → A3 → A4 → A5 → Nat) (val : A1 → A2 → A3 → A4 → A5 → ρ)
    (hs : ∀ (d : Nat) (post : ρ → Prop) (a1 : A1) (a2 : A2) (a3 : A3) (a4 : A4) (a5 : A5), ok a1 a2 a3 a4 a5 → post (val a1 a2 a3 a4 a5) → (∀ (post' : ρ → Prop) (b1 : A1) (b2 : A2) (b3 : A3) (b4 : A4) (b5 : A5), ok b1 b2 b3 b4 b5 → μ b1 b2 b3 b4 b5 < μ a1 a2 a3 a4 a5 → post' (val b1 b2 b3 b4 b5) → W d post' b1 b2 b3 b4 b5) → W (d + 1) post a1 a2 a3 a4 a5) :
    ∀ (d : Nat) (post : ρ → Prop) (a1 : A1) (a2 : A2) (a3 : A3) (a4 : A4) (a5 : A5), ok a1 a2 a3 a4 a5 → μ a1 a2 a3 a4 a5 < d → post (val a1 a2 a3 a4 a5) → W d post a1 a2 a3 a4 a5 := by
  intro d
  induction d with
  | zero => intro post a1 a2 a3 a4 a5 _ h; omega
  | succ d ih =>
    intro post a1 a2 a3 a4 a5 ho hm hp
    exact hs d post a1 a2 a3 a4 a5 ho hp (fun post' b1 b2 b3 b4 b5 ho' hm' hp' => ih post' b1 b2 b3 b4 b5 ho' (by omega) hp')
theorem rp6 {ρ A1 A2 A3 A4 A5 A6 : Type} (W : Nat → (ρ → Prop) → A1 → A2 → A3 → A4 → A5 → A6 → Prop) (ok : A1 → A2 → A3 → A4 → A5 → A6 → Prop) (μ : A1 → A2 → A3 → A4 → A5 → A6 → Nat) (val : A1 → A2 → A3 → A4 → A5 → A6 → ρ)
    (hs : ∀ (d : Nat) (post : ρ → Prop) (a1 : A1) (a2 : A2) (a3 : A3) (a4 : A4) (a5 : A5) (a6 : A6), ok a1 a2 a3 a4 a5 a6 → post (val a1 a2 a3 a4 a5 a6) → (∀ (post' : ρ → Prop) (b1 : A1) (b2 : A2) (b3 : A3) (b4 : A4) (b5 : A5) (b6 : A6), ok b1 b2 b3 b4 b5 b6 → μ b1 b2 b3 b4 b5 b6 < μ a1 a2 a3 a4 a5 a6 → post' (val b1 b2 b3 b4 b5 b6) → W d post' b1 b2 b3 b4 b5 b6) → W (d + 1) post a1 a2 a3 a4 a5 a6) :
    ∀ (d : Nat) (post : ρ → Prop) (a1 : A1) (a2 : A2) (a3 : A3) (a4 : A4) (a5 : A5) (a6 : A6), ok a1 a2 a3 a4 a5 a6 → μ a1 a2 a3 a4 a5 a6 < d → post (val a1 a2 a3 a4 a5 a6) → W d post a1 a2 a3 a4 a5 a6 := by
  intro d
  induction d with
  | zero => intro post a1 a2 a3 a4 a5 a6 _ h; omega
  | succ d ih =>
    intro post a1 a2 a3 a4 a5 a6 ho hm hp
    exact hs d post a1 a2 a3 a4 a5 a6 ho hp (fun post' b1 b2 b3 b4 b5 b6 ho' hm' hp' => ih post' b1 b2 b3 b4 b5 b6 ho' (by omega) hp')
theorem rec_p {σ ρ : Type} (W : Nat → (ρ → Prop) → σ → Prop) (ok : σ → Prop) (μ : σ → Nat) (val : σ → ρ)
    (hs : ∀ d s post, ok s → post (val s) → (∀ s' post', ok s' → μ s' < μ s → post' (val s') → W d post' s') → W (d + 1) post s) :
    ∀ d s post, ok s → μ s < d → post (val s) → W d post s := by
  intro d
  induction d with
  | zero => intro s post _ h; omega
  | succ d ih =>
    intro s post ho hm hp
    exact hs d s post ho hp (fun s' post' ho' hm' hp' => ih s' post' ho' (by omega) hp')
theorem rec_q {σ ρ : Type} (W : Nat → (ρ → Prop) → σ → Prop) (ok : σ → Prop) (μ : σ → Nat) (Q : σ → ρ → Prop)
    (hs : ∀ d s post, ok s → (∀ r, Q s r → post r) → (∀ s' post', ok s' → μ s' < μ s → (∀ r, Q s' r → post' r) → W d post' s') → W (d + 1) post s) :
    ∀ d s post, ok s → μ s < d → (∀ r, Q s r → post r) → W d post s := by
  intro d
  induction d with
  | zero => intro s post _ h; omega
  | succ d ih =>
    intro s post ho hm hp
    exact hs d s post ho hp (fun s' post' ho' hm' hp' => ih s' post' ho' (by omega) hp')
def bx_sum (f : Nat → Int32) : Nat → Int32
  | 0 => 0
  | n + 1 => bx_sum f n + f n
theorem ek_u {A : Prop} {B : Nat → Prop} {k N : Nat} (hk : k < N) (h : B k) : (some k = none → A) ∧ (∀ y : Nat, some k = some y → (y < N ∧ B y)) :=
  ⟨fun z => absurd z (Option.some_ne_none k), fun _ e => (by cases e; exact ⟨hk, h⟩)⟩
theorem ek_nu {A : Prop} {B : Nat → Prop} (h : A) : ((none : Option Nat) = none → A) ∧ (∀ y : Nat, (none : Option Nat) = some y → B y) :=
  ⟨fun _ => h, fun _ e => (by cases e)⟩
theorem ek_if {c d A B : Prop} (e : c ↔ d) (f : d → A) (g : ¬ d → B) : (c → A) ∧ (¬ c → B) :=
  ⟨fun z => f (e.mp z), fun z => g (fun y => z (e.mpr y))⟩
theorem ek_v {α : Sort _} {P : α → Prop} {a b : α} (e : a = b) (h : P b) : P a := e ▸ h
theorem co_some {x : Option Nat} {A : Prop} {B : Nat → Prop} (i : Nat) (h : B i) (hx : x = some i := by rfl) : (x = none → A) ∧ (∀ y : Nat, x = some y → B y) := by
  subst hx
  exact ⟨fun e => (nomatch e), fun y e => Option.some.inj e ▸ h⟩
theorem co_none {x : Option Nat} {A : Prop} {B : Nat → Prop} (h : A) (hx : x = none := by rfl) : (x = none → A) ∧ (∀ y : Nat, x = some y → B y) := by
  subst hx
  exact ⟨fun _ => h, fun y e => (nomatch e)⟩
theorem co_any {x : Option Nat} {A : Prop} {B : Nat → Prop} (hn : x = none → A) (hs : ∀ i : Nat, x = some i → B i) : (x = none → A) ∧ (∀ y : Nat, x = some y → B y) := ⟨hn, hs⟩
theorem co_2 {P : Nat → Prop} (h0 : P 0) (h1 : P 1) {i : Nat} (hi : i < 2) : P i :=
  match i, hi with
  | 0, _ => h0
  | 1, _ => h1
theorem co_3 {P : Nat → Prop} (h0 : P 0) (h1 : P 1) (h2 : P 2) {i : Nat} (hi : i < 3) : P i :=
  match i, hi with
  | 0, _ => h0
  | 1, _ => h1
  | 2, _ => h2
theorem co_4 {P : Nat → Prop} (h0 : P 0) (h1 : P 1) (h2 : P 2) (h3 : P 3) {i : Nat} (hi : i < 4) : P i :=
  match i, hi with
  | 0, _ => h0
  | 1, _ => h1
  | 2, _ => h2
  | 3, _ => h3
theorem co_dec {N : Nat} {P : Nat → Prop} [DecidablePred P] (h : (List.range N).all (fun i => decide (P i)) = true) {i : Nat} (hi : i < N) : P i := by
  have := List.all_eq_true.mp h i (List.mem_range.mpr hi)
  exact of_decide_eq_true this
theorem co_tab {α : Type} {l : List α} {d : α} {P : α → Prop} (h : ∀ a, a ∈ l → P a) {i : Nat} (hi : i < l.length) : P (l.getD i d) := by
  rw [List.getD_eq_getElem?_getD, List.getElem?_eq_getElem hi]
  exact h _ (List.getElem_mem hi)
theorem pk_mu {x : Int32} {L : Nat} (h0 : ¬ x < 0) (h : ¬ nI L ≤ x) (hL : L < 2 ^ 31) : ∃ j : Nat, j < L ∧ x = nI j ∧ x + 1 = nI (j + 1) ∧ x.toNatClampNeg = j ∧ L - (x + 1).toNatClampNeg < L - x.toNatClampNeg := by
  obtain ⟨j, hj, rfl⟩ := nI_of h0
  have hl : j < L := Nat.not_le.mp fun q => h (nI_le q hj)
  refine ⟨j, hl, rfl, nI_1 j, nI_clamp hj, ?_⟩
  rw [nI_1, nI_clamp (by omega), nI_clamp hj]
  omega
theorem op_s {α : Type} {r : Option α} {A : Prop} {B : α → Prop} {y : α} (h : r = some y) (b : B y) : (r = none → A) ∧ ∀ z, r = some z → B z :=
  ⟨fun e => (by rw [h] at e; cases e), fun z e => (by rw [h] at e; cases e; exact b)⟩
def l_holds {α : Type} (a : Nat → Option Nat) (LP : List Nat) (p : Nat → α) (c : Nat) (b : Nat → α) : Prop :=
  ∀ j, j < c → ∃ y, a j = some y ∧ y ∈ LP ∧ p y = b j
theorem l_holds_0 {α : Type} {a : Nat → Option Nat} {LP : List Nat} {p b : Nat → α} : l_holds a LP p 0 b := fun j h => absurd h (Nat.not_lt_zero j)
theorem l_in_new (LP : List Nat) (q : Nat) : q ∈ LP ++ [q] := List.mem_append.mpr (Or.inr (List.mem_singleton.mpr rfl))
def l_sum (b : Nat → Int32) : Nat → Int32
  | 0 => 0
  | k + 1 => l_sum b k + b k
theorem sb_shr0 (x : Int32) : x >>> ((0 : Int32) &&& 31) = x := by
  rw [show ((0 : Int32) &&& 31) = 0 by decide]
  simp
theorem sb_shl0 (x : Int32) : x <<< ((0 : Int32) &&& 31) = x := by
  rw [show ((0 : Int32) &&& 31) = 0 by decide]
  simp
theorem sb_cl0 : (0 : Int32).toNatClampNeg = 0 := by decide
theorem sb_m1 {p : Nat} (h : 0 < p) : nI p + (-1) = nI (p - 1) := by
  obtain ⟨q, rfl⟩ : ∃ q, p = q + 1 := ⟨p - 1, by omega⟩
  exact pk_m1 q
def sb_b (c : Nat) : Int32 := (nI c).toInt8.toInt32
theorem sb_byte : ∀ c, c < 256 → sb_b c &&& 255 = nI c ∧ ((nI c).toUInt32 % 65536).toInt32 = nI c ∧ nI c ≤ 255 := by decide +kernel
def sb_Fit (a : Nat → Int32) : Prop := ∀ j, fits .byte (.int (a j)) = true
def sb_Lat (t : Nat → Nat) (n : Nat) (a : Nat → Int32) : Prop := ∀ j, j < n → t j < 256 ∧ a j = sb_b (t j)
theorem sb_fitB (c : Nat) : fits .byte (.int (sb_b c)) = true := pk_fb _
theorem sb_fit0 : sb_Fit (fun _ => 0) := fun _ => by
  show fits .byte (.int 0) = true
  decide
theorem sb_fitU {a : Nat → Int32} {k : Nat} {x : Int32} (h : sb_Fit a) (hx : fits .byte (.int x) = true) : sb_Fit (upd a k x) := by
  intro j
  by_cases e : j = k
  · subst e
    rw [pk_us]
    exact hx
  · rw [pk_un e]
    exact h j
def sb_cat (t : Nat → Nat) (n : Nat) (s : Nat → Nat) : Nat → Nat := fun j => if j < n then t j else s (j - n)
theorem sb_cat_lo {t s : Nat → Nat} {n j : Nat} (h : j < n) : sb_cat t n s j = t j := if_pos h
theorem sb_cat_hi {t s : Nat → Nat} {n j : Nat} : sb_cat t n s (n + j) = s j := by
  show (if n + j < n then t (n + j) else s (n + j - n)) = s j
  rw [if_neg (by omega), Nat.add_sub_cancel_left]
theorem sb_latPut {t s : Nat → Nat} {n w : Nat} {a a' : Nat → Int32} (h : sb_Lat t n a) (hk : ∀ j, j < n → a' j = a j) (hs : ∀ i, i < w → s i < 256 ∧ a' (n + i) = sb_b (s i)) : sb_Lat (sb_cat t n s) (n + w) a' := by
  intro j hj
  by_cases e : j < n
  · rw [sb_cat_lo e, hk j e]
    exact h j e
  · obtain ⟨i, rfl⟩ : ∃ i, j = n + i := ⟨j - n, by omega⟩
    rw [sb_cat_hi]
    exact hs i (by omega)
theorem sb_latKeep {t : Nat → Nat} {n : Nat} {a a' : Nat → Int32} (h : sb_Lat t n a) (hk : ∀ j, j < n → a' j = a j) : sb_Lat t n a' := fun j hj => by
  rw [hk j hj]
  exact h j hj
def sb_cap (q m : Nat) : Nat := if q ≤ m then m else if 2 * m + 2 < q then q else 2 * m + 2
def sb_Room (q m mc ms : Nat) : Prop := q ≤ m ∨ (1 ≤ mc ∧ sb_cap q m ≤ ms ∧ sb_cap q m ≤ 65536)
theorem sb_cap_ge (q m : Nat) : q ≤ sb_cap q m := by
  unfold sb_cap
  split
  · omega
  · split <;> omega
theorem sb_cap_gem (q m : Nat) : m ≤ sb_cap q m := by
  unfold sb_cap
  split
  · omega
  · split <;> omega
theorem sb_cap_le {q m mc ms : Nat} (hm : m ≤ 65536) (hr : sb_Room q m mc ms) : sb_cap q m ≤ 65536 := by
  rcases hr with h | h
  · rw [sb_cap, if_pos h]
    exact hm
  · exact h.2.2
theorem sb_at {P : Int32 → Prop} {x y : Int32} (e : x = y) (h : P y) : P x := e ▸ h
def sb_dg (w : Nat) : Nat := if w < 10 then 1 else if w < 100 then 2 else if w < 1000 then 3 else if w < 10000 then 4 else if w < 100000 then 5 else if w < 1000000 then 6 else if w < 10000000 then 7 else if w < 100000000 then 8 else if w < 1000000000 then 9 else 10
def sb_dec (v : Nat) : Nat → Nat := fun i => 48 + v / 10 ^ (sb_dg v - 1 - i) % 10
theorem sb_dg_in (w : Nat) : 1 ≤ sb_dg w ∧ sb_dg w ≤ 10 := by
  unfold sb_dg
  constructor <;> (repeat' split) <;> omega
theorem sb_dg100 {w : Nat} (h : 100 ≤ w) (hw : w < 2 ^ 31) : sb_dg w = sb_dg (w / 100) + 2 := by
  rw [sb_dg, sb_dg, if_neg (show ¬ w < 10 by omega), if_neg (show ¬ w < 100 by omega)]
  by_cases h3 : w < 1000
  · rw [if_pos h3, if_pos (show w / 100 < 10 by omega)]
  rw [if_neg h3, if_neg (show ¬ w / 100 < 10 by omega)]
  by_cases h4 : w < 10000
  · rw [if_pos h4, if_pos (show w / 100 < 100 by omega)]
  rw [if_neg h4, if_neg (show ¬ w / 100 < 100 by omega)]
  by_cases h5 : w < 100000
  · rw [if_pos h5, if_pos (show w / 100 < 1000 by omega)]
  rw [if_neg h5, if_neg (show ¬ w / 100 < 1000 by omega)]
  by_cases h6 : w < 1000000
  · rw [if_pos h6, if_pos (show w / 100 < 10000 by omega)]
  rw [if_neg h6, if_neg (show ¬ w / 100 < 10000 by omega)]
  by_cases h7 : w < 10000000
  · rw [if_pos h7, if_pos (show w / 100 < 100000 by omega)]
  rw [if_neg h7, if_neg (show ¬ w / 100 < 100000 by omega)]
  by_cases h8 : w < 100000000
  · rw [if_pos h8, if_pos (show w / 100 < 1000000 by omega)]
  rw [if_neg h8, if_neg (show ¬ w / 100 < 1000000 by omega)]
  by_cases h9 : w < 1000000000
  · rw [if_pos h9, if_pos (show w / 100 < 10000000 by omega)]
  rw [if_neg h9, if_neg (show ¬ w / 100 < 10000000 by omega)]
  rw [if_pos (show w / 100 < 100000000 by omega)]
theorem sb_negT {w : Nat} (h : w < 2 ^ 31) : (-nI w).toInt = -(w : Int) := by
  rw [Int32.toInt_neg, nI_toInt h]
  exact Int.bmod_eq_of_le (by omega) (by omega)
theorem sb_nle {a b : Nat} (ha : a < 2 ^ 31) (hb : b < 2 ^ 31) : -nI a ≤ -nI b ↔ b ≤ a := by
  rw [Int32.le_iff_toInt_le, sb_negT ha, sb_negT hb]
  omega
theorem sb_nlt {a b : Nat} (ha : a < 2 ^ 31) (hb : b < 2 ^ 31) : -nI a < -nI b ↔ b < a := by
  rw [Int32.lt_iff_toInt_lt, sb_negT ha, sb_negT hb]
  omega
theorem sb_cmp {A B : Prop} {x : Int32} (v c : Nat) (f : c ≤ v → A) (g : v < c → B) (hv : v < 2 ^ 31) (hx : x = -nI c := by rfl) (hc : c < 2 ^ 31 := by omega) : (-nI v ≤ x → A) ∧ (¬ -nI v ≤ x → B) := by
  subst hx
  rw [sb_nle hv hc]
  exact ⟨f, fun z => g (by omega)⟩
theorem sb_ndiv {w : Nat} (hw : w < 2 ^ 31) : (-nI w) / 100 = -nI (w / 100) := by
  apply Int32.toInt_inj.mp
  have h100 : (100 : Int32).toInt = 100 := by decide
  rw [Int32.toInt_div, sb_negT hw, h100, sb_negT (by omega), Int.neg_tdiv, Int.tdiv_eq_ediv_of_nonneg (by omega), Int.bmod_eq_of_le (by omega) (by omega)]
  omega
theorem sb_nrem {w : Nat} (hw : w < 2 ^ 31) : (-nI (w / 100)) * 100 - (-nI w) = nI (w % 100) := by
  have h := pk_rem (a := w) (d := 100) hw (by decide) (by decide)
  rw [pk_div hw (by decide) (by decide)] at h
  rw [← h]
  show (-nI (w / 100)) * nI 100 - (-nI w) = nI w - nI (w / 100) * nI 100
  rw [Int32.neg_mul, Int32.sub_neg, Int32.add_comm, ← Int32.sub_eq_add_neg]
end
section
/-! rows on bits, shifts and unsigned numbers, to paste: each family out of a closed proof of our own, whole with what it rests on; each by itself clean at Lean in its own claim (generation 39, form 5). Take a family whole -/
/-! ===== Int32 by its bits: bt x i ===== -/
def bt (x : Int32) (i : Nat) : Bool := x.toBitVec.getLsbD i
theorem b_ext {x y : Int32} (h : ∀ i, i < 32 → bt x i = bt y i) : x = y := Int32.toBitVec_inj.mp (BitVec.eq_of_getLsbD_eq (fun i hi => h i hi))
theorem b_or (x y : Int32) (i : Nat) : bt (x ||| y) i = (bt x i || bt y i) := by unfold bt; rw [Int32.toBitVec_or, BitVec.getLsbD_or]
theorem b_and (x y : Int32) (i : Nat) : bt (x &&& y) i = (bt x i && bt y i) := by unfold bt; rw [Int32.toBitVec_and, BitVec.getLsbD_and]
theorem b_xor (x y : Int32) (i : Nat) : bt (x ^^^ y) i = (bt x i ^^ bt y i) := by unfold bt; rw [Int32.toBitVec_xor, BitVec.getLsbD_xor]
theorem b_big {x : Int32} {i : Nat} (h : 32 ≤ i) : bt x i = false := BitVec.getLsbD_of_ge _ _ h
theorem b_255 (i : Nat) : bt 255 i = decide (i < 8) := by
  rcases Nat.lt_or_ge i 32 with h | h
  · exact (by decide +kernel : ∀ i, i < 32 → bt 255 i = decide (i < 8)) i h
  · rw [b_big h, decide_eq_false (by omega)]
theorem b_65535 (i : Nat) : bt 65535 i = decide (i < 16) := by
  rcases Nat.lt_or_ge i 32 with h | h
  · exact (by decide +kernel : ∀ i, i < 32 → bt 65535 i = decide (i < 16)) i h
  · rw [b_big h, decide_eq_false (by omega)]
theorem b_m1 : ∀ i, i < 32 → bt (-1) i = true := by decide +kernel
theorem b_0 (i : Nat) : bt 0 i = false := BitVec.getLsbD_zero
theorem s_l : ∀ n, n < 32 → ((nI n &&& 31).toBitVec.smod 32).toNat = n := by decide +kernel
theorem s_u : ∀ n, n < 32 → (((nI n).toUInt32 &&& Int32.toUInt32 31).toBitVec % 32).toNat = n := by decide +kernel
theorem b_shl (n : Nat) (hn : n < 32) (x : Int32) {i : Nat} (hi : i < 32) : bt (x <<< (nI n &&& 31)) i = (decide (n ≤ i) && bt x (i - n)) := by
  unfold bt
  rw [Int32.toBitVec_shiftLeft]
  show (x.toBitVec <<< ((nI n &&& 31).toBitVec.smod 32).toNat).getLsbD i = _
  rw [s_l n hn, BitVec.getLsbD_shiftLeft]
  rcases Nat.lt_or_ge i n with h | h
  · simp [h, Nat.not_le.mpr h]
  · simp [hi, h, Nat.not_lt.mpr h]
theorem b_ushr (n : Nat) (hn : n < 32) (x : Int32) (i : Nat) : bt ((x.toUInt32 >>> ((nI n).toUInt32 &&& Int32.toUInt32 31)).toInt32) i = bt x (n + i) := by
  show (x.toUInt32 >>> ((nI n).toUInt32 &&& Int32.toUInt32 31)).toBitVec.getLsbD i = x.toUInt32.toBitVec.getLsbD (n + i)
  rw [UInt32.toBitVec_shiftRight]
  show (x.toUInt32.toBitVec >>> (((nI n).toUInt32 &&& Int32.toUInt32 31).toBitVec % 32).toNat).getLsbD i = _
  rw [s_u n hn, BitVec.getLsbD_ushiftRight]
theorem b_sshr (n : Nat) (hn : n < 32) (x : Int32) {i : Nat} (hi : i < 32) : bt (x >>> (nI n &&& 31)) i = if n + i < 32 then bt x (n + i) else bt x 31 := by
  unfold bt
  rw [Int32.toBitVec_shiftRight]
  show (x.toBitVec.sshiftRight ((nI n &&& 31).toBitVec.smod 32).toNat).getLsbD i = _
  rw [s_l n hn, BitVec.getLsbD_sshiftRight, BitVec.msb_eq_getLsbD_last]
  simp [hi]
theorem b_shl8 (x : Int32) {i : Nat} (hi : i < 32) : bt (x <<< ((8 : Int32) &&& 31)) i = (decide (8 ≤ i) && bt x (i - 8)) := b_shl 8 (by omega) x hi
theorem b_shl16 (x : Int32) {i : Nat} (hi : i < 32) : bt (x <<< ((16 : Int32) &&& 31)) i = (decide (16 ≤ i) && bt x (i - 16)) := b_shl 16 (by omega) x hi
theorem b_shl24 (x : Int32) {i : Nat} (hi : i < 32) : bt (x <<< ((24 : Int32) &&& 31)) i = (decide (24 ≤ i) && bt x (i - 24)) := b_shl 24 (by omega) x hi
theorem b_sshr8 (x : Int32) {i : Nat} (hi : i < 32) : bt (x >>> ((8 : Int32) &&& 31)) i = if 8 + i < 32 then bt x (8 + i) else bt x 31 := b_sshr 8 (by omega) x hi
/-! ===== nI under and, xor, >>>, one bit, 65535 ===== -/
theorem nx_and (a b : Nat) : nI a &&& nI b = nI (a &&& b) := by
  apply Int32.toBitVec_inj.1
  show BitVec.ofNat 32 a &&& BitVec.ofNat 32 b = BitVec.ofNat 32 (a &&& b)
  apply BitVec.eq_of_getLsbD_eq
  intro i hi
  simp [hi]
theorem nx_xor (a b : Nat) : nI a ^^^ nI b = nI (a ^^^ b) := by
  apply Int32.toBitVec_inj.1
  show BitVec.ofNat 32 a ^^^ BitVec.ofNat 32 b = BitVec.ofNat 32 (a ^^^ b)
  apply BitVec.eq_of_getLsbD_eq
  intro i hi
  simp [hi]
theorem nx_cnt : ∀ j : Fin 32, (UInt32.ofNat j.val &&& Int32.toUInt32 31).toNat % 32 = j.val := by decide +kernel
theorem nx_ush {k j : Nat} (hk : k < 65536) (hj : j < 32) : ((nI k).toUInt32 >>> ((nI j).toUInt32 &&& Int32.toUInt32 31)).toInt32 = nI (k >>> j) := by
  have hs : k >>> j ≤ k := by
    rw [Nat.shiftRight_eq_div_pow]
    exact Nat.div_le_self _ _
  have e2 : UInt32.ofNat k >>> (UInt32.ofNat j &&& Int32.toUInt32 31) = UInt32.ofNat (k >>> j) := by
    apply UInt32.toNat_inj.1
    have h1 : (UInt32.ofNat k).toNat = k := Nat.mod_eq_of_lt (by omega)
    have h2 : (UInt32.ofNat (k >>> j)).toNat = k >>> j := Nat.mod_eq_of_lt (by omega)
    rw [UInt32.toNat_shiftRight, nx_cnt ⟨j, hj⟩, h1, h2]
  show (UInt32.ofNat k >>> (UInt32.ofNat j &&& Int32.toUInt32 31)).toInt32 = _
  rw [e2]
  rfl
theorem nx_bit {k j : Nat} (hk : k < 65536) (hj : j < 16) : (((nI k).toUInt32 >>> ((nI j).toUInt32 &&& Int32.toUInt32 31)).toInt32 &&& 1) = 0 ↔ k.testBit j = false := by
  rw [nx_ush hk (by omega)]
  show nI (k >>> j) &&& nI 1 = 0 ↔ _
  rw [nx_and, Nat.and_one_is_mod, ← nI_0, nI_eq (by omega) (by omega), Nat.testBit_eq_decide_div_mod_eq, Nat.shiftRight_eq_div_pow, decide_eq_false_iff_not]
  generalize k / 2 ^ j = z
  omega
theorem nx_mod (k : Nat) : nI k &&& 65535 = nI (k % 65536) := by
  show nI k &&& nI 65535 = _
  rw [nx_and, show (65535 : Nat) = 2 ^ 16 - 1 from rfl, Nat.and_two_pow_sub_one_eq_mod]
theorem nx_m16 {k : Nat} (h : k < 65536) : nI k &&& 65535 = nI k := by rw [nx_mod, Nat.mod_eq_of_lt h]
theorem nx_mask (x : Int32) : ∃ k, k < 65536 ∧ x &&& 65535 = nI k := by
  have e : x = nI x.toBitVec.toNat := by
    apply Int32.toBitVec_inj.1
    show x.toBitVec = BitVec.ofNat 32 x.toBitVec.toNat
    simp
  refine ⟨x.toBitVec.toNat % 65536, Nat.mod_lt _ (by omega), ?_⟩
  rw [← nx_mod, ← e]
/-! ===== Int32 as a set of bits: test, set ===== -/
end
section
/-! ===== folds and sums over a range; permutations of a range ===== -/
def zg {α : Type} (op : α → α → α) (z : α) (f : Nat → α) : Nat → α
  | 0 => z
  | n + 1 => op (zg op z f n) (f n)
theorem zg_congr {α : Type} {op : α → α → α} {z : α} {f g : Nat → α} {n : Nat} (h : ∀ i, i < n → f i = g i) : zg op z f n = zg op z g n := by
  induction n with
  | zero => rfl
  | succ n ih =>
    show op (zg op z f n) (f n) = op (zg op z g n) (g n)
    rw [ih (fun i hi => h i (by omega)), h n (by omega)]
theorem zg_zero {α : Type} {op : α → α → α} {z : α} (hz : ∀ a, op a z = a) (n : Nat) : zg op z (fun _ => z) n = z := by
  induction n with
  | zero => rfl
  | succ n ih =>
    show op (zg op z (fun _ => z) n) z = z
    rw [ih, hz]
theorem zg_op {α : Type} {op : α → α → α} {z : α} (ha : ∀ a b c, op (op a b) c = op a (op b c)) (hc : ∀ a b, op a b = op b a) (hz : ∀ a, op a z = a) (f g : Nat → α) (n : Nat) : zg op z (fun i => op (f i) (g i)) n = op (zg op z f n) (zg op z g n) := by
  induction n with
  | zero => exact (hz z).symm
  | succ n ih =>
    show op (zg op z (fun i => op (f i) (g i)) n) (op (f n) (g n)) = op (op (zg op z f n) (f n)) (op (zg op z g n) (g n))
    have e : op (zg op z g n) (op (f n) (g n)) = op (f n) (op (zg op z g n) (g n)) := by
      rw [← ha, hc (zg op z g n) (f n), ha]
    rw [ih, ha, e, ← ha]
theorem zg_swap {α : Type} {op : α → α → α} {z : α} (ha : ∀ a b c, op (op a b) c = op a (op b c)) (hc : ∀ a b, op a b = op b a) (hz : ∀ a, op a z = a) (f : Nat → Nat → α) (m n : Nat) : zg op z (fun i => zg op z (fun j => f i j) m) n = zg op z (fun j => zg op z (fun i => f i j) n) m := by
  induction n with
  | zero => exact (zg_zero hz m).symm
  | succ n ih =>
    show op (zg op z (fun i => zg op z (fun j => f i j) m) n) (zg op z (fun j => f n j) m) = _
    rw [ih, ← zg_op ha hc hz]
    rfl
theorem zg_pt {α : Type} {op : α → α → α} {z : α} (hc : ∀ a b, op a b = op b a) (hz : ∀ a, op a z = a) (v : α) (a n : Nat) : zg op z (fun i => if i = a then v else z) n = if a < n then v else z := by
  induction n with
  | zero => rw [if_neg (by omega)]; rfl
  | succ n ih =>
    show op (zg op z (fun i => if i = a then v else z) n) (if n = a then v else z) = _
    rw [ih]
    by_cases e : n = a
    · rw [if_neg (by omega), if_pos e, if_pos (by omega), hc, hz]
    · by_cases l : a < n
      · rw [if_pos l, if_neg e, if_pos (by omega), hz]
      · rw [if_neg l, if_neg e, if_neg (by omega), hz]
/-- p permutes the numbers below n -/
def zP (n : Nat) (p : Nat → Nat) : Prop := (∀ i, i < n → p i < n) ∧ (∀ i j, i < n → j < n → p i = p j → i = j)
theorem zP_surj : ∀ (n : Nat) (p : Nat → Nat), zP n p → ∀ j, j < n → ∃ i, i < n ∧ p i = j := by
  intro n
  induction n with
  | zero => intro p _ j hj; omega
  | succ n ih =>
    intro p hp j hj
    obtain ⟨hb, hi⟩ := hp
    by_cases e : j = p n
    · exact ⟨n, by omega, e.symm⟩
    by_cases en : j = n
    · by_cases ex : ∃ i, i < n + 1 ∧ p i = n
      · obtain ⟨i, hi', e'⟩ := ex
        exact ⟨i, hi', by omega⟩
      · exfalso
        have hne : ∀ i, i < n + 1 → p i ≠ n := fun i hi' e' => ex ⟨i, hi', e'⟩
        have hP : zP n p := ⟨fun i h => by have := hb i (by omega); have := hne i (by omega); omega, fun a b h1 h2 h3 => hi a b (by omega) (by omega) h3⟩
        have hpn : p n < n := by have := hb n (by omega); have := hne n (by omega); omega
        obtain ⟨i, hi', e'⟩ := ih p hP (p n) hpn
        have := hi i n (by omega) (by omega) e'
        omega
    · have hP : zP n (fun i => if p i = n then p n else p i) := by
        refine ⟨fun i h => ?_, fun a b h1 h2 h3 => ?_⟩
        · show (if p i = n then p n else p i) < n
          by_cases c : p i = n
          · rw [if_pos c]
            have := hb n (by omega)
            have : p n ≠ n := fun q => by have := hi i n (by omega) (by omega) (by omega); omega
            omega
          · rw [if_neg c]
            have := hb i (by omega)
            omega
        · have h3' : (if p a = n then p n else p a) = (if p b = n then p n else p b) := h3
          by_cases c : p a = n
          · by_cases d : p b = n
            · exact hi a b (by omega) (by omega) (by omega)
            · rw [if_pos c, if_neg d] at h3'
              have := hi n b (by omega) (by omega) h3'
              omega
          · by_cases d : p b = n
            · rw [if_neg c, if_pos d] at h3'
              have := hi a n (by omega) (by omega) h3'
              omega
            · rw [if_neg c, if_neg d] at h3'
              exact hi a b (by omega) (by omega) h3'
      obtain ⟨i, hi', e'⟩ := ih _ hP j (by omega)
      have e2 : (if p i = n then p n else p i) = j := e'
      by_cases c : p i = n
      · rw [if_pos c] at e2
        exact absurd e2.symm e
      · rw [if_neg c] at e2
        exact ⟨i, by omega, e2⟩
theorem zg_perm {α : Type} {op : α → α → α} {z : α} (ha : ∀ a b c, op (op a b) c = op a (op b c)) (hc : ∀ a b, op a b = op b a) (hz : ∀ a, op a z = a) (f : Nat → α) (n : Nat) (p : Nat → Nat) (hp : zP n p) : zg op z (fun i => f (p i)) n = zg op z f n := by
  have e1 : zg op z (fun i => f (p i)) n = zg op z (fun i => zg op z (fun j => if j = p i then f (p i) else z) n) n :=
    zg_congr (fun i hi => by rw [zg_pt hc hz, if_pos (hp.1 i hi)])
  rw [e1, zg_swap ha hc hz]
  apply zg_congr
  intro j hj
  obtain ⟨i0, hi0, e0⟩ := zP_surj n p hp j hj
  have e2 : zg op z (fun i => if j = p i then f (p i) else z) n = zg op z (fun i => if i = i0 then f j else z) n :=
    zg_congr (fun i hi => by
      by_cases c : i = i0
      · rw [if_pos c, if_pos (by rw [c, e0]), c, e0]
      · rw [if_neg c, if_neg (fun q => c (hp.2 i i0 hi hi0 (by rw [e0, q])))])
  rw [e2, zg_pt hc hz, if_pos hi0]
/-! ===== sums of naturals ===== -/
def zs (f : Nat → Nat) (n : Nat) : Nat := zg (fun a b => a + b) 0 f n
theorem zs_0 (f : Nat → Nat) : zs f 0 = 0 := rfl
theorem zs_s (f : Nat → Nat) (n : Nat) : zs f (n + 1) = zs f n + f n := rfl
theorem zs_congr {f g : Nat → Nat} {n : Nat} (h : ∀ i, i < n → f i = g i) : zs f n = zs g n := zg_congr h
theorem zs_zero {f : Nat → Nat} {n : Nat} (h : ∀ i, i < n → f i = 0) : zs f n = 0 := (zg_congr h).trans (zg_zero (fun a => Nat.add_zero a) n)
theorem zs_add (f g : Nat → Nat) (n : Nat) : zs (fun i => f i + g i) n = zs f n + zs g n := zg_op (fun a b c => Nat.add_assoc a b c) (fun a b => Nat.add_comm a b) (fun a => Nat.add_zero a) f g n
theorem zs_swap (f : Nat → Nat → Nat) (m n : Nat) : zs (fun i => zs (fun j => f i j) m) n = zs (fun j => zs (fun i => f i j) n) m := zg_swap (fun a b c => Nat.add_assoc a b c) (fun a b => Nat.add_comm a b) (fun a => Nat.add_zero a) f m n
theorem zs_pt (v a n : Nat) : zs (fun i => if i = a then v else 0) n = if a < n then v else 0 := zg_pt (fun a b => Nat.add_comm a b) (fun a => Nat.add_zero a) v a n
theorem zs_perm (f : Nat → Nat) (n : Nat) (p : Nat → Nat) (hp : zP n p) : zs (fun i => f (p i)) n = zs f n := zg_perm (fun a b c => Nat.add_assoc a b c) (fun a b => Nat.add_comm a b) (fun a => Nat.add_zero a) f n p hp
theorem zs_le {f g : Nat → Nat} {n : Nat} (h : ∀ i, i < n → f i ≤ g i) : zs f n ≤ zs g n := by
  induction n with
  | zero => exact Nat.le_refl _
  | succ n ih => rw [zs_s, zs_s]; have := ih (fun i hi => h i (by omega)); have := h n (by omega); omega
theorem zs_mul (c : Nat) (f : Nat → Nat) (n : Nat) : zs (fun i => c * f i) n = c * zs f n := by
  induction n with
  | zero => rfl
  | succ n ih => rw [zs_s, zs_s, ih, Nat.mul_add]
theorem zs_const (c n : Nat) : zs (fun _ => c) n = n * c := by
  induction n with
  | zero => rw [zs_0, Nat.zero_mul]
  | succ n ih => rw [zs_s, ih, Nat.succ_mul]
theorem zs_lt {f g : Nat → Nat} {n : Nat} (h : ∀ i, i < n → f i ≤ g i) (a : Nat) (ha : a < n) (hl : f a < g a) : zs f n < zs g n := by
  induction n with
  | zero => omega
  | succ n ih =>
    rw [zs_s, zs_s]
    have h1 := zs_le (fun i hi => h i (by omega) : ∀ i, i < n → f i ≤ g i)
    have h2 := h n (by omega)
    by_cases e : a = n
    · subst e; omega
    · have := ih (fun i hi => h i (by omega)) (by omega); omega
theorem zs_mono (f : Nat → Nat) {m n : Nat} (h : m ≤ n) : zs f m ≤ zs f n := by
  induction n with
  | zero => have : m = 0 := by omega
            subst this; exact Nat.le_refl _
  | succ n ih =>
    by_cases e : m = n + 1
    · rw [e]; exact Nat.le_refl _
    · have := ih (by omega); rw [zs_s]; omega
theorem zs_ext (f : Nat → Nat) {m n : Nat} (h : m ≤ n) (hz : ∀ i, m ≤ i → i < n → f i = 0) : zs f n = zs f m := by
  induction n with
  | zero => have : m = 0 := by omega
            subst this; rfl
  | succ n ih =>
    by_cases e : m = n + 1
    · rw [e]
    · rw [zs_s, ih (by omega) (fun i h1 h2 => hz i h1 (by omega)), hz n (by omega) (by omega), Nat.add_zero]
/-- one point taken out of a sum -/
theorem zs_out (f : Nat → Nat) {a n : Nat} (ha : a < n) : zs f n = f a + zs (fun i => if i = a then 0 else f i) n := by
  have e : zs f n = zs (fun i => (if i = a then f a else 0) + (if i = a then 0 else f i)) n := zs_congr (fun i _ => by
    by_cases c : i = a
    · rw [if_pos c, if_pos c, c, Nat.add_zero]
    · rw [if_neg c, if_neg c, Nat.zero_add])
  rw [e, zs_add, zs_pt, if_pos ha]
/-! ===== an if over a proposition, as a number ===== -/
noncomputable def zb (p : Prop) : Nat := @ite Nat p (Classical.propDecidable p) 1 0
theorem zb_t {p : Prop} (h : p) : zb p = 1 := if_pos h
theorem zb_f {p : Prop} (h : ¬ p) : zb p = 0 := if_neg h
theorem zb_le (p : Prop) : zb p ≤ 1 := by
  by_cases h : p
  · rw [zb_t h]; exact Nat.le_refl _
  · rw [zb_f h]; omega
theorem zb_mono {p q : Prop} (h : p → q) : zb p ≤ zb q := by
  by_cases c : p
  · rw [zb_t c, zb_t (h c)]; exact Nat.le_refl _
  · rw [zb_f c]; omega
theorem zb_iff {p q : Prop} (h : p ↔ q) : zb p = zb q := by
  have := zb_mono h.1; have := zb_mono h.2; omega
theorem zb_pos {p : Prop} (h : 0 < zb p) : p := by
  by_cases c : p
  · exact c
  · rw [zb_f c] at h; omega
/-! ===== pairs under a permutation ===== -/
/-- the sum over the pairs j < k below n -/
def zpr (f : Nat → Nat → Nat) (n : Nat) : Nat := zs (fun k => zs (fun j => f j k) k) n
theorem zs_cut (f : Nat → Nat) {k n : Nat} (h : k ≤ n) : zs (fun j => if j < k then f j else 0) n = zs f k := by
  rw [zs_ext (fun j => if j < k then f j else 0) h (fun i h1 _ => if_neg (by omega))]
  exact zs_congr (fun i hi => if_pos hi)
theorem zpr_cut (f : Nat → Nat → Nat) (n : Nat) : zpr f n = zs (fun k => zs (fun j => if j < k then f j k else 0) n) n :=
  zs_congr (fun k hk => (zs_cut (fun j => f j k) (by omega)).symm)
theorem zpr_all (f : Nat → Nat → Nat) (n : Nat) (hs : ∀ j k, j < n → k < n → f j k = f k j) : zs (fun k => zs (fun j => f j k) n) n = 2 * zpr f n + zs (fun k => f k k) n := by
  have e1 : zs (fun k => zs (fun j => f j k) n) n = zs (fun k => zs (fun j => if j < k then f j k else 0) n) n + (zs (fun k => zs (fun j => if k < j then f j k else 0) n) n + zs (fun k => zs (fun j => if j = k then f k k else 0) n) n) := by
    rw [← zs_add, ← zs_add]
    apply zs_congr
    intro k hk
    rw [← zs_add, ← zs_add]
    apply zs_congr
    intro j hj
    by_cases c : j < k
    · rw [if_pos c, if_neg (by omega), if_neg (by omega)]; omega
    · by_cases d : k < j
      · rw [if_neg c, if_pos d, if_neg (by omega)]; omega
      · have : j = k := by omega
        subst this
        rw [if_neg c, if_pos rfl]; omega
  have e2 : zs (fun k => zs (fun j => if k < j then f j k else 0) n) n = zpr f n := by
    rw [zs_swap, zpr_cut]
    apply zs_congr
    intro k hk
    apply zs_congr
    intro j hj
    by_cases c : j < k
    · rw [if_pos c, if_pos c, hs k j hk hj]
    · rw [if_neg c, if_neg c]
  have e3 : zs (fun k => zs (fun j => if j = k then f k k else 0) n) n = zs (fun k => f k k) n :=
    zs_congr (fun k hk => by rw [zs_pt, if_pos hk])
  rw [e1, e2, e3, ← zpr_cut]
  omega
theorem zpr_perm (f : Nat → Nat → Nat) (n : Nat) (hs : ∀ j k, j < n → k < n → f j k = f k j) (p : Nat → Nat) (hp : zP n p) : zpr (fun j k => f (p j) (p k)) n = zpr f n := by
  have h1 := zpr_all f n hs
  have h2 := zpr_all (fun j k => f (p j) (p k)) n (fun j k hj hk => hs _ _ (hp.1 j hj) (hp.1 k hk))
  have h3 : zs (fun k => zs (fun j => f (p j) (p k)) n) n = zs (fun k => zs (fun j => f j k) n) n := by
    have e : zs (fun k => zs (fun j => f (p j) (p k)) n) n = zs (fun k => zs (fun j => f j (p k)) n) n :=
      zs_congr (fun k _ => zs_perm (fun j => f j (p k)) n p hp)
    rw [e]
    exact zs_perm (fun k => zs (fun j => f j k) n) n p hp
  have h4 : zs (fun k => f (p k) (p k)) n = zs (fun k => f k k) n := zs_perm (fun k => f k k) n p hp
  have h2' : zs (fun k => zs (fun j => f (p j) (p k)) n) n = 2 * zpr (fun j k => f (p j) (p k)) n + zs (fun k => f (p k) (p k)) n := h2
  omega
end
section
/-! ===== the arrangements of the numbers below n in increasing order ===== -/
def zAsc (n k : Nat) (p : Nat → Nat) : Prop := ∀ x, k ≤ x → x + 1 < n → p x < p (x + 1)
def zDsc (n k : Nat) (p : Nat → Nat) : Prop := ∀ x, k ≤ x → x + 1 < n → p (x + 1) < p x
theorem zAsc_lt {n k : Nat} {p : Nat → Nat} (h : zAsc n k p) : ∀ d x, k ≤ x → x + d + 1 < n → p x < p (x + d + 1) := by
  intro d
  induction d with
  | zero => intro x h1 h2; exact h x h1 h2
  | succ d ih =>
    intro x h1 h2
    have a := ih x h1 (by omega)
    have b := h (x + d + 1) (by omega) (by omega)
    have e : x + (d + 1) + 1 = x + d + 1 + 1 := by omega
    rw [e]; omega
theorem zAsc_le {n k : Nat} {p : Nat → Nat} (h : zAsc n k p) {x y : Nat} (h1 : k ≤ x) (h2 : x < y) (h3 : y < n) : p x < p y := by
  have := zAsc_lt h (y - x - 1) x h1 (by omega)
  have e : x + (y - x - 1) + 1 = y := by omega
  rw [e] at this; exact this
theorem zDsc_lt {n k : Nat} {p : Nat → Nat} (h : zDsc n k p) : ∀ d x, k ≤ x → x + d + 1 < n → p (x + d + 1) < p x := by
  intro d
  induction d with
  | zero => intro x h1 h2; exact h x h1 h2
  | succ d ih =>
    intro x h1 h2
    have a := ih x h1 (by omega)
    have b := h (x + d + 1) (by omega) (by omega)
    have e : x + (d + 1) + 1 = x + d + 1 + 1 := by omega
    rw [e]; omega
theorem zDsc_le {n k : Nat} {p : Nat → Nat} (h : zDsc n k p) {x y : Nat} (h1 : k ≤ x) (h2 : x < y) (h3 : y < n) : p y < p x := by
  have := zDsc_lt h (y - x - 1) x h1 (by omega)
  have e : x + (y - x - 1) + 1 = y := by omega
  rw [e] at this; exact this
/-- q comes next behind p -/
def zNx (n : Nat) (p q : Nat → Nat) : Prop := ∃ k, k + 1 < n ∧ p k < p (k + 1) ∧ zDsc n (k + 1) p ∧ zP n q ∧ (∀ x, x < k → q x = p x) ∧ zAsc n (k + 1) q ∧ p k < q k ∧ (∀ x, k < x → x < n → p k < p x → q k ≤ p x)
theorem zNx_mk {n k j : Nat} {p q : Nat → Nat} (hp : zP n p) (hk : k + 1 < n) (ha : p k < p (k + 1)) (hd : zDsc n (k + 1) p) (hj : k < j) (hjn : j < n) (hg : p k < p j) (hl : ∀ x, j < x → x < n → ¬ p k < p x)
    (q0 : ∀ x, x < k → q x = p x) (q1 : q k = p j) (q2 : ∀ x, k < x → x < n → q x = if n + k - x = j then p k else p (n + k - x)) : zNx n p q := by
  obtain ⟨hb, hi⟩ := hp
  refine ⟨k, hk, ha, hd, ⟨?_, ?_⟩, q0, ?_, by omega, ?_⟩
  · intro x hx
    rcases Nat.lt_trichotomy x k with c | c | c
    · rw [q0 x c]; exact hb x hx
    · rw [c, q1]; exact hb j hjn
    · rw [q2 x c hx]
      by_cases e : n + k - x = j
      · rw [if_pos e]; exact hb k (by omega)
      · rw [if_neg e]; exact hb _ (by omega)
  · intro x y hx hy e
    have key : ∀ x, x < n → ∃ i, i < n ∧ q x = p i ∧ ((x < k ∧ i = x) ∨ (x = k ∧ i = j) ∨ (k < x ∧ n + k - x = j ∧ i = k) ∨ (k < x ∧ n + k - x ≠ j ∧ i = n + k - x)) := by
      intro x hx
      rcases Nat.lt_trichotomy x k with c | c | c
      · exact ⟨x, hx, q0 x c, Or.inl ⟨c, rfl⟩⟩
      · exact ⟨j, hjn, by rw [c, q1], Or.inr (Or.inl ⟨c, rfl⟩)⟩
      · by_cases e : n + k - x = j
        · exact ⟨k, by omega, by rw [q2 x c hx, if_pos e], Or.inr (Or.inr (Or.inl ⟨c, e, rfl⟩))⟩
        · exact ⟨n + k - x, by omega, by rw [q2 x c hx, if_neg e], Or.inr (Or.inr (Or.inr ⟨c, e, rfl⟩))⟩
    obtain ⟨a, ha1, ha2, ha3⟩ := key x hx
    obtain ⟨b, hb1, hb2, hb3⟩ := key y hy
    have hab : a = b := hi a b ha1 hb1 (by omega)
    omega
  · intro x h1 h2
    rw [q2 x (by omega) (by omega), q2 (x + 1) (by omega) (by omega)]
    have hy : n + k - x = n + k - (x + 1) + 1 := by omega
    rw [hy]
    generalize hy' : n + k - (x + 1) = y
    have hyk : k + 1 ≤ y := by omega
    have hyn : y + 1 < n := by omega
    have dd := hd y hyk hyn
    by_cases e : y + 1 = j
    · rw [if_pos e, if_neg (by omega)]
      rw [e] at dd; omega
    · rw [if_neg e]
      by_cases e2 : y = j
      · rw [if_pos e2]
        have := hl (y + 1) (by omega) hyn
        have : p (y + 1) ≠ p k := fun z => by have := hi (y + 1) k (by omega) (by omega) z; omega
        omega
      · rw [if_neg e2]; exact dd
  · intro x h1 h2 h3
    rw [q1]
    rcases Nat.lt_trichotomy x j with c | c | c
    · have := zDsc_le hd (show k + 1 ≤ x by omega) c hjn; omega
    · rw [c]; exact Nat.le_refl _
    · exact absurd h3 (hl x c h2)
/-! ===== a fold over all arrangements, place by place ===== -/
def zF {S : Type} (h : Nat → S → S) : Nat → S → S
  | 0, s => s
  | a + 1, s => h a (zF h a s)
theorem zF_congr {S : Type} {h h' : Nat → S → S} {n : Nat} (e : ∀ a s, a < n → h a s = h' a s) (s : S) : zF h n s = zF h' n s := by
  induction n with
  | zero => rfl
  | succ n ih =>
    show h n (zF h n s) = h' n (zF h' n s)
    rw [ih (fun a s ha => e a s (by omega)), e n _ (by omega)]
theorem zF_skip {S : Type} {h : Nat → S → S} {a b : Nat} (hab : a ≤ b) (e : ∀ c, a ≤ c → c < b → ∀ s, h c s = s) (s : S) : zF h b s = zF h a s := by
  induction b with
  | zero => have : a = 0 := by omega
            subst this; rfl
  | succ b ih =>
    by_cases c : a = b + 1
    · rw [c]
    · show h b (zF h b s) = _
      rw [e b (by omega) (by omega), ih (by omega) (fun c h1 h2 => e c h1 (by omega))]
def zu (p : Nat → Nat) (a : Nat) : Nat → Bool
  | 0 => false
  | k + 1 => zu p a k || p k == a
theorem zu_t {p : Nat → Nat} {a k : Nat} : zu p a k = true ↔ ∃ j, j < k ∧ p j = a := by
  induction k with
  | zero => exact ⟨fun h => Bool.noConfusion h, fun ⟨j, hj, _⟩ => by omega⟩
  | succ k ih =>
    show (zu p a k || p k == a) = true ↔ _
    rw [Bool.or_eq_true, ih, beq_iff_eq]
    constructor
    · rintro (⟨j, h1, h2⟩ | h)
      · exact ⟨j, by omega, h2⟩
      · exact ⟨k, by omega, h⟩
    · rintro ⟨j, h1, h2⟩
      by_cases c : j = k
      · right; rw [← c]; exact h2
      · left; exact ⟨j, by omega, h2⟩
theorem zu_f {p : Nat → Nat} {a k : Nat} : zu p a k = false ↔ ∀ j, j < k → p j ≠ a := by
  constructor
  · intro h j hj e
    have := zu_t.mpr ⟨j, hj, e⟩
    rw [h] at this; exact Bool.noConfusion this
  · intro h
    cases c : zu p a k
    · rfl
    · obtain ⟨j, hj, e⟩ := zu_t.mp c
      exact absurd e (h j hj)
theorem zu_congr {p q : Nat → Nat} {k : Nat} (h : ∀ x, x < k → p x = q x) (a : Nat) : zu p a k = zu q a k := by
  induction k with
  | zero => rfl
  | succ k ih =>
    show (zu p a k || p k == a) = (zu q a k || q k == a)
    rw [ih (fun x hx => h x (by omega)), h k (by omega)]
def zup (p : Nat → Nat) (k a : Nat) : Nat → Nat := fun x => if x = k then a else p x
theorem zup_s {p : Nat → Nat} {k a : Nat} : zup p k a k = a := if_pos rfl
theorem zup_n {p : Nat → Nat} {k a x : Nat} (h : x ≠ k) : zup p k a x = p x := if_neg h
def zT {S : Type} (n : Nat) (g : (Nat → Nat) → S → S) : Nat → Nat → (Nat → Nat) → S → S
  | 0, _, p, s => g p s
  | m + 1, k, p, s => zF (fun a s => if zu p a k = true then s else zT n g m (k + 1) (zup p k a) s) n s
/-- one choice at place k -/
def zTh {S : Type} (n : Nat) (g : (Nat → Nat) → S → S) (m k : Nat) (p : Nat → Nat) (a : Nat) (s : S) : S := if zu p a k = true then s else zT n g m (k + 1) (zup p k a) s
theorem zT_s {S : Type} {n : Nat} {g : (Nat → Nat) → S → S} {m k : Nat} {p : Nat → Nat} {s : S} : zT n g (m + 1) k p s = zF (zTh n g m k p) n s := rfl
theorem zTh_t {S : Type} {n : Nat} {g : (Nat → Nat) → S → S} {m k : Nat} {p : Nat → Nat} {a : Nat} (h : zu p a k = true) (s : S) : zTh n g m k p a s = s := if_pos h
theorem zTh_f {S : Type} {n : Nat} {g : (Nat → Nat) → S → S} {m k : Nat} {p : Nat → Nat} {a : Nat} (h : zu p a k = false) (s : S) : zTh n g m k p a s = zT n g m (k + 1) (zup p k a) s := if_neg (by rw [h]; exact Bool.noConfusion)
def zCg {S : Type} (n : Nat) (g : (Nat → Nat) → S → S) : Prop := ∀ p q s, (∀ x, x < n → p x = q x) → g p s = g q s
theorem zT_congr {S : Type} {n : Nat} {g : (Nat → Nat) → S → S} (hg : zCg n g) : ∀ m k, m + k = n → ∀ p q s, (∀ x, x < k → p x = q x) → zT n g m k p s = zT n g m k q s := by
  intro m
  induction m with
  | zero => intro k hk p q s h; exact hg p q s (fun x hx => h x (by omega))
  | succ m ih =>
    intro k hk p q s h
    rw [zT_s, zT_s]
    apply zF_congr
    intro a s _
    cases c : zu p a k
    · rw [zTh_f c, zTh_f (by rw [← zu_congr h]; exact c)]
      apply ih (k + 1) (by omega)
      intro x hx
      by_cases e : x = k
      · rw [e, zup_s, zup_s]
      · rw [zup_n e, zup_n e]; exact h x (by omega)
    · rw [zTh_t c, zTh_t (by rw [← zu_congr h]; exact c)]
/-- the first k places hold different numbers below n -/
def zI (n k : Nat) (p : Nat → Nat) : Prop := (∀ i, i < k → p i < n) ∧ (∀ i j, i < k → j < k → p i = p j → i = j)
theorem zI_up {n k a : Nat} {p : Nat → Nat} (h : zI n k p) (ha : a < n) (hu : zu p a k = false) : zI n (k + 1) (zup p k a) := by
  have hf := zu_f.mp hu
  refine ⟨fun i hi => ?_, fun i j hi hj e => ?_⟩
  · by_cases c : i = k
    · rw [c, zup_s]; exact ha
    · rw [zup_n c]; exact h.1 i (by omega)
  · by_cases c : i = k
    · by_cases d : j = k
      · omega
      · rw [c, zup_s, zup_n d] at e
        exact absurd e.symm (hf j (by omega))
    · by_cases d : j = k
      · rw [d, zup_s, zup_n c] at e
        exact absurd e (hf i (by omega))
      · rw [zup_n c, zup_n d] at e
        exact h.2 i j (by omega) (by omega) e
/-- what every arrangement that begins like p keeps, the fold keeps -/
theorem zT_inv {S : Type} {n : Nat} {g : (Nat → Nat) → S → S} (Q : S → Prop) : ∀ m k, m + k = n → ∀ p s, zI n k p → (∀ q s, zP n q → (∀ x, x < k → q x = p x) → Q s → Q (g q s)) → Q s → Q (zT n g m k p s) := by
  intro m
  induction m with
  | zero => intro k hk p s hp h hq; have e : k = n := by omega
            subst e; exact h p s hp (fun _ _ => rfl) hq
  | succ m ih =>
    intro k hk p s hp h hq
    rw [zT_s]
    have key : ∀ a, a ≤ n → Q (zF (zTh n g m k p) a s) := by
      intro a
      induction a with
      | zero => intro _; exact hq
      | succ a iha =>
        intro ha
        show Q (zTh n g m k p a (zF (zTh n g m k p) a s))
        have h0 := iha (by omega)
        cases c : zu p a k
        · rw [zTh_f c]
          refine ih (k + 1) (by omega) (zup p k a) _ (zI_up hp (by omega) c) (fun q s hqp hqa => h q s hqp (fun x hx => ?_)) h0
          rw [hqa x (by omega), zup_n (by omega)]
        · rw [zTh_t c]; exact h0
    exact key n (Nat.le_refl n)
/-- the fold comes by every arrangement -/
theorem zT_hit {S : Type} {n : Nat} {g : (Nat → Nat) → S → S} (Q : S → Prop) (r : Nat → Nat) (hr : zP n r) (hk : ∀ q s, zP n q → Q s → Q (g q s)) (hh : ∀ q s, (∀ x, x < n → q x = r x) → Q (g q s)) : ∀ m k, m + k = n → ∀ p s, zI n k p → (∀ x, x < k → p x = r x) → Q (zT n g m k p s) := by
  intro m
  induction m with
  | zero => intro k hkn p s hp h; exact hh p s (fun x hx => h x (by omega))
  | succ m ih =>
    intro k hkn p s hp h
    rw [zT_s]
    have key : ∀ a, a ≤ n → r k < a → Q (zF (zTh n g m k p) a s) := by
      intro a
      induction a with
      | zero => intro _ h; omega
      | succ a iha =>
        intro ha hra
        show Q (zTh n g m k p a (zF (zTh n g m k p) a s))
        by_cases e : r k = a
        · have c : zu p a k = false := zu_f.mpr (fun j hj ej => by
            have := hr.2 j k (by omega) (by omega) (by rw [← h j hj, ej, e])
            omega)
          rw [zTh_f c]
          refine ih (k + 1) (by omega) (zup p k a) _ (zI_up hp (by omega) c) (fun x hx => ?_)
          by_cases d : x = k
          · rw [d, zup_s]; exact e.symm
          · rw [zup_n d]; exact h x (by omega)
        · have h0 := iha (by omega) (by omega)
          cases c : zu p a k
          · rw [zTh_f c]
            exact zT_inv Q m (k + 1) (by omega) _ _ (zI_up hp (by omega) c) (fun q s h1 _ h3 => hk q s h1 h3) h0
          · rw [zTh_t c]; exact h0
    exact key n (Nat.le_refl n) (hr.1 k (by omega))
/-! ===== how many numbers are free ===== -/
def zfc (p : Nat → Nat) (k n a : Nat) : Nat := zs (fun b => if a ≤ b ∧ zu p b k = false then 1 else 0) n
theorem zfc_step {p : Nat → Nat} {k n a : Nat} (ha : a < n) : zfc p k n a = (if zu p a k = false then 1 else 0) + zfc p k n (a + 1) := by
  unfold zfc
  rw [zs_out _ ha]
  congr 1
  · by_cases c : zu p a k = false
    · rw [if_pos c, if_pos ⟨Nat.le_refl a, c⟩]
    · rw [if_neg c, if_neg (fun h => c h.2)]
  · apply zs_congr
    intro i _
    by_cases c : i = a
    · rw [if_pos c, if_neg (by omega)]
    · rw [if_neg c]
      by_cases d : a ≤ i ∧ zu p i k = false
      · rw [if_pos d, if_pos ⟨by omega, d.2⟩]
      · rw [if_neg d, if_neg (fun h => d ⟨by omega, h.2⟩)]
theorem zfc_skip {p : Nat → Nat} {k n a b : Nat} (hab : a ≤ b) (hb : b ≤ n) (h : ∀ c, a ≤ c → c < b → zu p c k = true) : zfc p k n a = zfc p k n b := by
  induction b with
  | zero => have : a = 0 := by omega
            rw [this]
  | succ b ih =>
    by_cases c : a = b + 1
    · rw [c]
    · rw [ih (by omega) (by omega) (fun c h1 h2 => h c h1 (by omega)), zfc_step (show b < n by omega), if_neg (by rw [h b (by omega) (by omega)]; exact Bool.noConfusion), Nat.zero_add]
theorem zfc_all {n : Nat} {p : Nat → Nat} : ∀ k, zI n k p → k ≤ n → zfc p k n 0 + k = n := by
  intro k
  induction k with
  | zero =>
    intro _ _
    have : zfc p 0 n 0 = zs (fun _ => 1) n := zs_congr (fun i _ => if_pos ⟨Nat.zero_le _, rfl⟩)
    rw [this, zs_const]; omega
  | succ k ih =>
    intro hp hk
    have h0 := ih ⟨fun i hi => hp.1 i (by omega), fun i j hi hj => hp.2 i j (by omega) (by omega)⟩ (by omega)
    have hpk : p k < n := hp.1 k (by omega)
    have e : zfc p k n 0 = 1 + zfc p (k + 1) n 0 := by
      unfold zfc
      rw [zs_out _ hpk]
      congr 1
      · rw [if_pos ⟨Nat.zero_le _, zu_f.mpr (fun j hj e => by have := hp.2 j k (by omega) (by omega) e; omega)⟩]
      · apply zs_congr
        intro i _
        by_cases c : i = p k
        · rw [if_pos c, if_neg (fun h => zu_f.mp h.2 k (by omega) c.symm)]
        · rw [if_neg c]
          by_cases d : zu p i k = false
          · rw [if_pos ⟨Nat.zero_le _, d⟩, if_pos ⟨Nat.zero_le _, zu_f.mpr (fun j hj e => by
              by_cases q : j = k
              · rw [q] at e; exact c e.symm
              · exact zu_f.mp d j (by omega) e)⟩]
          · rw [if_neg (fun h => d h.2), if_neg (fun h => d (zu_f.mpr (fun j hj => zu_f.mp h.2 j (by omega))))]
    omega
def zfac : Nat → Nat
  | 0 => 1
  | n + 1 => (n + 1) * zfac n
theorem zfac_pos (n : Nat) : 0 < zfac n := by
  induction n with
  | zero => exact Nat.one_pos
  | succ n ih => exact Nat.mul_pos (Nat.succ_pos n) ih
theorem zfac_8 {n : Nat} (h : n ≤ 8) : zfac n ≤ 40320 := by
  rcases n with _ | _ | _ | _ | _ | _ | _ | _ | _ | n
  any_goals decide
  omega
/-! ===== the loop by next arrangements does the fold ===== -/
theorem zE {S : Type} {n : Nat} {g : (Nat → Nat) → S → S} (hg : zCg n g) (W : Nat → (Nat → Nat) → S → Prop) (M : Nat)
    (hstep : ∀ t p s, t < M → zP n p → (∃ x, x + 1 < n ∧ p x < p (x + 1)) → (∀ q, zNx n p q → W (t + 1) q (g p s)) → W t p s) :
    ∀ m k, m + k = n → ∀ p s t, zP n p → zAsc n k p → t + zfac m ≤ M →
      (∀ q s' t', (∀ x, x < k → q x = p x) → zP n q → zDsc n k q → g q s' = zT n g m k p s → t' + 1 ≤ t + zfac m → W t' q s') → W t p s := by
  intro m
  induction m with
  | zero =>
    intro k hk p s t hp ha ht H
    exact H p s t (fun _ _ => rfl) hp (fun x h1 h2 => by omega) rfl (Nat.le_refl _)
  | succ m ih =>
    intro k hk p s t hp ha ht H
    have fm : zfac (m + 1) = (m + 1) * zfac m := rfl
    have hpI : zI n k p := ⟨fun i hi => hp.1 i (by omega), fun i j hi hj => hp.2 i j (by omega) (by omega)⟩
    have inner : ∀ c p' t', (∀ x, x < k → p' x = p x) → zP n p' → zAsc n (k + 1) p' → zfc p k n (p' k) ≤ c → t' + zfc p k n (p' k) * zfac m ≤ t + zfac (m + 1) → W t' p' (zF (zTh n g m k p) (p' k) s) := by
      intro c
      induction c with
      | zero =>
        intro p' t' h1 h2 h3 h4 h5
        exfalso
        have fr : zu p (p' k) k = false := zu_f.mpr (fun j hj e => by
          have := h2.2 j k (by omega) (by omega) (by rw [h1 j hj, e]); omega)
        rw [zfc_step (h2.1 k (by omega)), if_pos fr] at h4
        omega
      | succ c ihc =>
        intro p' t' h1 h2 h3 h4 h5
        have hpk : p' k < n := h2.1 k (by omega)
        have fr : zu p (p' k) k = false := zu_f.mpr (fun j hj e => by
          have := h2.2 j k (by omega) (by omega) (by rw [h1 j hj, e]); omega)
        have fs := zfc_step (p := p) (k := k) hpk
        rw [if_pos fr] at fs
        have fmul : zfc p k n (p' k) * zfac m = zfac m + zfc p k n (p' k + 1) * zfac m := by
          rw [fs, Nat.add_mul, Nat.one_mul]
        refine ih (k + 1) (by omega) p' _ t' h2 h3 (by omega) ?_
        intro q s'' t'' q1 q2 q3 q4 q5
        have key : zT n g m (k + 1) p' (zF (zTh n g m k p) (p' k) s) = zF (zTh n g m k p) (p' k + 1) s := by
          show _ = zTh n g m k p (p' k) (zF (zTh n g m k p) (p' k) s)
          rw [zTh_f fr]
          apply zT_congr hg m (k + 1) (by omega)
          intro x hx
          by_cases d : x = k
          · rw [d, zup_s]
          · rw [zup_n d]; exact h1 x (by omega)
        have qk : q k = p' k := q1 k (by omega)
        have free : ∀ b, b < n → zu p b k = false → b ≠ p' k → ∃ x, k < x ∧ x < n ∧ q x = b := by
          intro b hb hf hne
          obtain ⟨x, hx, e⟩ := zP_surj n q q2 b hb
          refine ⟨x, ?_, hx, e⟩
          rcases Nat.lt_trichotomy x k with d | d | d
          · exact absurd (by rw [← h1 x d, ← q1 x (by omega), e]) (zu_f.mp hf x d)
          · exfalso; rw [d, qk] at e; exact hne e.symm
          · exact d
        by_cases up : k + 1 < n ∧ q k < q (k + 1)
        · refine hstep t'' q s'' (by omega) q2 ⟨k, up⟩ (fun r hr => ?_)
          obtain ⟨k', r1, r2, r3, r4, r5, r6, r7, r8⟩ := hr
          have ek : k' = k := by
            rcases Nat.lt_trichotomy k' k with d | d | d
            · have := r3 k (by omega) up.1; omega
            · exact d
            · have := q3 k' (by omega) r1; omega
          subst ek
          rw [q4, key]
          have gap : ∀ b, p' k' + 1 ≤ b → b < r k' → zu p b k' = true := by
            intro b b1 b2
            cases d : zu p b k'
            · have hb : b < n := by have := r4.1 k' (by omega); omega
              obtain ⟨x, x1, x2, x3⟩ := free b hb d (by omega)
              have := r8 x x1 x2 (by omega)
              omega
            · rfl
          have es : zF (zTh n g m k' p) (r k') s = zF (zTh n g m k' p) (p' k' + 1) s :=
            zF_skip (by omega) (fun c c1 c2 s => zTh_t (gap c c1 c2) s) s
          have ef : zfc p k' n (p' k' + 1) = zfc p k' n (r k') := zfc_skip (by omega) (by have := r4.1 k' (by omega); omega) gap
          rw [← es]
          refine ihc r (t'' + 1) (fun x hx => by rw [r5 x hx, q1 x (by omega), h1 x hx]) r4 r6 (by omega) ?_
          rw [← ef]; omega
        · have dk : zDsc n k q := by
            intro x x1 x2
            by_cases d : x = k
            · subst d
              have : q x ≠ q (x + 1) := fun z => by have := q2.2 x (x + 1) (by omega) (by omega) z; omega
              have : ¬ q x < q (x + 1) := fun z => up ⟨x2, z⟩
              omega
            · exact q3 x (by omega) x2
          refine H q s'' t'' (fun x hx => by rw [q1 x (by omega), h1 x hx]) q2 dk ?_ (by omega)
          rw [q4, key, zT_s]
          refine (zF_skip (by omega) (fun c c1 c2 s => zTh_t ?_ s) s).symm
          cases d : zu p c k
          · obtain ⟨x, x1, x2, x3⟩ := free c c2 d (by omega)
            have := zDsc_le dk (Nat.le_refl k) x1 x2
            omega
          · rfl
    have low : ∀ b, 0 ≤ b → b < p k → zu p b k = true := by
      intro b _ hb
      cases d : zu p b k
      · obtain ⟨x, hx, e⟩ := zP_surj n p hp b (by have := hp.1 k (by omega); omega)
        rcases Nat.lt_trichotomy x k with c | c | c
        · exact absurd e (zu_f.mp d x c)
        · rw [c] at e; omega
        · have := zAsc_le ha (Nat.le_refl k) c hx; omega
      · rfl
    have e0 : zF (zTh n g m k p) (p k) s = s := zF_skip (Nat.zero_le _) (fun c c1 c2 s => zTh_t (low c c1 c2) s) s
    have ef : zfc p k n 0 = zfc p k n (p k) := zfc_skip (Nat.zero_le _) (by have := hp.1 k (by omega); omega) low
    have ft := zfc_all k hpI (by omega)
    have em : zfc p k n (p k) = m + 1 := by omega
    have := inner n p t (fun _ _ => rfl) hp (fun x h1 h2 => ha x (by omega) h2) (by omega) (by rw [em, fm]; exact Nat.le_refl _)
    rw [e0] at this
    exact this
theorem zE_top {S : Type} {n : Nat} {g : (Nat → Nat) → S → S} (hg : zCg n g) (W : Nat → (Nat → Nat) → S → Prop) (Fin : S → Prop) (M : Nat) (hM : zfac n ≤ M)
    (hstep : ∀ t p s, t < M → zP n p → (∃ x, x + 1 < n ∧ p x < p (x + 1)) → (∀ q, zNx n p q → W (t + 1) q (g p s)) → W t p s)
    (hlast : ∀ t p s, t < M → zP n p → zDsc n 0 p → Fin (g p s) → W t p s)
    (p0 : Nat → Nat) (hp : zP n p0) (ha : zAsc n 0 p0) (s : S) (h : Fin (zT n g n 0 p0 s)) : W 0 p0 s := by
  refine zE hg W M hstep n 0 (by omega) p0 s 0 hp ha (by omega) ?_
  intro q s' t' _ h2 h3 h4 h5
  exact hlast t' q s' (by omega) h2 h3 (by rw [h4]; exact h)
end
section
/-! ===== connected ===== -/
def zCl (n : Nat) (A : Nat → Nat → Prop) (S : Nat → Prop) : Prop := ∀ i j, i < n → j < n → A i j → S i → S j
def zConn (n : Nat) (A : Nat → Nat → Prop) : Prop := ∀ S : Nat → Prop, S 0 → zCl n A S → ∀ i, i < n → S i
def zSym (n : Nat) (A : Nat → Nat → Prop) : Prop := ∀ i j, i < n → j < n → A i j → A j i
theorem zConn_at {n : Nat} {A : Nat → Nat → Prop} (hs : zSym n A) (h : zConn n A) (S : Nat → Prop) (i : Nat) (hi : i < n) (h0 : S i) (hc : zCl n A S) : ∀ j, j < n → S j := by
  intro j hj
  by_cases c : S 0
  · exact h S c hc j hj
  · exact absurd h0 (h (fun x => ¬ S x) c (fun a b ha hb hab hna hsb => hna (hc b a hb ha (hs a b ha hb hab) hsb)) i hi)
theorem zConn_mono {n : Nat} {A A' : Nat → Nat → Prop} (hm : ∀ i j, i < n → j < n → A i j → A' i j) (h : zConn n A) : zConn n A' :=
  fun S s0 hc => h S s0 (fun i j hi hj a => hc i j hi hj (hm i j hi hj a))
theorem zConn_new {n c : Nat} {A A' : Nat → Nat → Prop} (h : zConn n A) (hc : c < n) (hm : ∀ i j, i < n → j < n → A i j → A' i j) (ha : A' c n) : zConn (n + 1) A' := by
  intro S s0 hcl i hi
  have h1 : ∀ i, i < n → S i := h S s0 (fun a b ha hb hab => hcl a b (by omega) (by omega) (hm a b ha hb hab))
  by_cases e : i = n
  · rw [e]; exact hcl c n (by omega) (by omega) ha (h1 c hc)
  · exact h1 i (by omega)
theorem zConn_0 (A : Nat → Nat → Prop) : zConn 0 A := fun _ _ _ i hi => by omega
theorem zConn_1 (A : Nat → Nat → Prop) : zConn 1 A := fun S s0 _ i hi => by
  have : i = 0 := by omega
  rw [this]; exact s0
theorem zConn_perm {n : Nat} {A : Nat → Nat → Prop} {p : Nat → Nat} (hp : zP n p) (hs : zSym n A) (h : zConn n A) : zConn n (fun i j => A (p i) (p j)) := by
  intro S s0 hc i hi
  have h0 : 0 < n := by omega
  have key := zConn_at hs h (fun y => ∃ x, x < n ∧ p x = y ∧ S x) (p 0) (hp.1 0 h0) ⟨0, h0, rfl, s0⟩ (by
    intro a b ha hb hab hsa
    obtain ⟨x, hx, ex, sx⟩ := hsa
    obtain ⟨y, hy, ey⟩ := zP_surj n p hp b hb
    refine ⟨y, hy, ey, hc x y hx hy ?_ sx⟩
    show A (p x) (p y)
    rw [ex, ey]; exact hab)
  obtain ⟨x, hx, ex, sx⟩ := key (p i) (hp.1 i hi)
  rw [← hp.2 x i hx hi ex]; exact sx
/-- how many numbers below n lie in R -/
noncomputable def zcd (n : Nat) (R : Nat → Prop) : Nat := zs (fun x => zb (R x)) n
theorem zcd_le (n : Nat) (R : Nat → Prop) : zcd n R ≤ n := by
  have h := zs_le (f := fun x => zb (R x)) (g := fun _ => 1) (n := n) (fun i _ => zb_le _)
  rw [zs_const] at h
  have : zcd n R = zs (fun x => zb (R x)) n := rfl
  omega
/-- one round of growing -/
theorem zrd {n r : Nat} {A : Nat → Nat → Prop} {R R' : Nat → Prop} (h : zCl n A R ∨ r + 1 ≤ zcd n R) (h1 : ∀ x, x < n → R x → R' x)
    (h2 : ∀ x y, x < n → y < n → R x → A x y → R' y) (h3 : ∀ S : Nat → Prop, (∀ x, x < n → R x → S x) → zCl n A S → ∀ x, x < n → R' x → S x) :
    zCl n A R' ∨ r + 1 + 1 ≤ zcd n R' := by
  by_cases c : zCl n A R
  · left
    have h4 := h3 R (fun _ _ h => h) c
    intro i j hi hj a hr
    exact h2 i j hi hj (h4 i hi hr) a
  · right
    have h5 : r + 1 ≤ zcd n R := by
      rcases h with h | h
      · exact absurd h c
      · exact h
    have h6 : ∃ i j, i < n ∧ j < n ∧ A i j ∧ R i ∧ ¬ R j := by
      apply Classical.byContradiction
      intro hn
      apply c
      intro i j hi hj a hr
      apply Classical.byContradiction
      intro hnr
      exact hn ⟨i, j, hi, hj, a, hr, hnr⟩
    obtain ⟨i, j, hi, hj, a, hr, hnr⟩ := h6
    have h7 : zcd n R < zcd n R' := by
      refine zs_lt (fun x hx => zb_mono (h1 x hx)) j hj ?_
      show zb (R j) < zb (R' j)
      rw [zb_f hnr, zb_t (h2 i j hi hj hr a)]; omega
    omega
theorem zrd_end {n r : Nat} {A : Nat → Nat → Prop} {R : Nat → Prop} (h : zCl n A R ∨ r + 1 ≤ zcd n R) (hr : n ≤ r) : zCl n A R := by
  rcases h with h | h
  · exact h
  · have := zcd_le n R; omega
theorem zcd_one {n i : Nat} {R : Nat → Prop} (hi : i < n) (h : R i) : 1 ≤ zcd n R := by
  have e := zs_out (fun x => zb (R x)) hi
  have e2 : zb (R i) = 1 := zb_t h
  have : zcd n R = zs (fun x => zb (R x)) n := rfl
  have e' : zs (fun x => zb (R x)) n = zb (R i) + zs (fun x => if x = i then 0 else zb (R x)) n := e
  omega
/-! ===== without one bond ===== -/
def zWo (B : Nat → Nat → Prop) (i j : Nat) : Nat → Nat → Prop := fun a b => B a b ∧ ¬ (a = i ∧ b = j) ∧ ¬ (a = j ∧ b = i)
def zWd (B : Nat → Nat → Prop) (i j : Nat) : Nat → Nat → Prop := fun a b => B a b ∧ ¬ (a = i ∧ b = j)
theorem zWo_t {n i j : Nat} {B : Nat → Nat → Prop} (hs : zSym n B) (hB : zConn n B) (h : ∀ S : Nat → Prop, S i → zCl n (zWd B i j) S → S j) : zConn n (zWo B i j) := by
  intro S s0 hc
  have cl : zCl n B S := by
    intro a b ha hb hab hsa
    by_cases e1 : a = i ∧ b = j
    · apply Classical.byContradiction
      intro hnb
      apply hnb
      rw [e1.2]
      refine h S (by rw [← e1.1]; exact hsa) (fun x y hx hy hxy hsx => ?_)
      by_cases e2 : x = j ∧ y = i
      · exact absurd hsx (by rw [e2.1, ← e1.2]; exact hnb)
      · exact hc x y hx hy ⟨hxy.1, hxy.2, e2⟩ hsx
    · by_cases e2 : a = j ∧ b = i
      · apply Classical.byContradiction
        intro hnb
        have := h (fun x => ¬ S x) (by rw [← e2.2]; exact hnb) (fun x y hx hy hxy hnx hsy => by
          by_cases e3 : x = j ∧ y = i
          · exact hnb (by rw [e2.2, ← e3.2]; exact hsy)
          · exact hnx (hc y x hy hx ⟨hs x y hx hy hxy.1, fun q => e3 ⟨q.2, q.1⟩, fun q => hxy.2 ⟨q.2, q.1⟩⟩ hsy))
        exact this (by rw [← e2.1]; exact hsa)
      · exact hc a b ha hb ⟨hab, e1, e2⟩ hsa
  exact hB S s0 cl
theorem zWo_f {n i j : Nat} {B : Nat → Nat → Prop} (hs : zSym n B) (hi : i < n) (hj : j < n) (S : Nat → Prop) (h1 : S i) (h2 : zCl n (zWd B i j) S) (h3 : ¬ S j) : ¬ zConn n (zWo B i j) := by
  intro h
  refine h3 (zConn_at (A := zWo B i j) (fun a b ha hb q => ⟨hs a b ha hb q.1, fun z => q.2.2 ⟨z.2, z.1⟩, fun z => q.2.1 ⟨z.2, z.1⟩⟩) h S i hi h1 (fun a b ha hb q => h2 a b ha hb ⟨q.1, q.2.1⟩) j hj)
end
section
/-! ===== signatures do not depend on the numbering ===== -/
def zis (f : Nat → Int32) (n : Nat) : Int32 := zg (fun a b => a + b) 0 f n
theorem zis_s (f : Nat → Int32) (n : Nat) : zis f (n + 1) = zis f n + f n := rfl
theorem zis_congr {f g : Nat → Int32} {n : Nat} (h : ∀ i, i < n → f i = g i) : zis f n = zis g n := zg_congr h
theorem zis_perm (f : Nat → Int32) (n : Nat) (p : Nat → Nat) (hp : zP n p) : zis (fun i => f (p i)) n = zis f n := zg_perm (fun a b c => Int32.add_assoc a b c) (fun a b => Int32.add_comm a b) (fun a => Int32.add_zero a) f n p hp
theorem zis_ext (f : Nat → Int32) {m n : Nat} (h : m ≤ n) (hz : ∀ i, m ≤ i → i < n → f i = 0) : zis f n = zis f m := by
  induction n with
  | zero => have : m = 0 := by omega
            subst this; rfl
  | succ n ih =>
    by_cases e : m = n + 1
    · rw [e]
    · rw [zis_s, ih (by omega) (fun i h1 h2 => hz i h1 (by omega)), hz n (by omega) (by omega), Int32.add_zero]
def zval (c : Int32) : Int32 := if c = 67 then 4 else if c = 66 then 3 else if c = 78 then 3 else if c = 79 then 2 else if c = 70 then 1 else 0
def zfree (k : Int32) (b : Nat → Int32) (m : Nat) : Int32 := zval k - zis b m
theorem zfree_0 (k : Int32) (b : Nat → Int32) : zfree k b 0 = zval k := by
  show zval k - 0 = zval k
  exact Int32.sub_zero _
theorem zfree_s (k : Int32) (b : Nat → Int32) (m : Nat) : zfree k b (m + 1) = zfree k b m - b m := by
  show zval k - zis b (m + 1) = zval k - zis b m - b m
  rw [zis_s]; grind
def zterm (s o : Int32) : Int32 := ((s ^^^ ((s.toUInt32 >>> ((5 : Int32).toUInt32 &&& Int32.toUInt32 31)).toInt32)) * ((2 * o) + 1)) + (s * s)
def zsgt (n : Nat) (b : Nat → Int32) (s : Nat → Int32) (j : Nat) : Int32 := zis (fun j => if b j = 0 then 0 else zterm (s j) (b j)) j
def zsig (n : Nat) (K : Nat → Int32) (B : Nat → Nat → Int32) : Nat → Nat → Int32
  | 0, i => K i * 16 + zfree (K i) (B i) 8
  | r + 1, i => (zsig n K B r i * 31 + 7) + zsgt n (B i) (zsig n K B r) n
/-- p maps the first molecule onto the second -/
def zMap (n : Nat) (K K' : Nat → Int32) (B B' : Nat → Nat → Int32) (p : Nat → Nat) : Prop := ∀ x, x < n → K x = K' (p x) ∧ ∀ y, y < x → B x y = B' (p x) (p y)
/-- symmetric, nothing on the diagonal or outside -/
def zMo (n : Nat) (B : Nat → Nat → Int32) : Prop := (∀ i j, i < n → j < n → B i j = B j i) ∧ (∀ i, i < n → B i i = 0) ∧ (∀ i j, i < n → n ≤ j → j < 8 → B i j = 0)
theorem zMap_all {n : Nat} {K K' : Nat → Int32} {B B' : Nat → Nat → Int32} {p : Nat → Nat} (hp : zP n p) (hB : zMo n B) (hB' : zMo n B') (h : zMap n K K' B B' p) {i j : Nat} (hi : i < n) (hj : j < n) : B i j = B' (p i) (p j) := by
  rcases Nat.lt_trichotomy i j with c | c | c
  · rw [hB.1 i j hi hj, hB'.1 _ _ (hp.1 i hi) (hp.1 j hj)]
    exact (h j hj).2 i c
  · rw [c, hB.2.1 j hj, hB'.2.1 _ (hp.1 j hj)]
  · exact (h i hi).2 j c
theorem zsig_iso {n : Nat} {K K' : Nat → Int32} {B B' : Nat → Nat → Int32} {p : Nat → Nat} (hn : n ≤ 8) (hp : zP n p) (hB : zMo n B) (hB' : zMo n B') (h : zMap n K K' B B' p) : ∀ r i, i < n → zsig n K B r i = zsig n K' B' r (p i) := by
  intro r
  induction r with
  | zero =>
    intro i hi
    show K i * 16 + (zval (K i) - zis (B i) 8) = K' (p i) * 16 + (zval (K' (p i)) - zis (B' (p i)) 8)
    rw [(h i hi).1, zis_ext (B i) hn (fun j h1 h2 => hB.2.2 i j hi h1 h2), zis_ext (B' (p i)) hn (fun j h1 h2 => hB'.2.2 _ j (hp.1 i hi) h1 h2)]
    rw [← zis_perm (B' (p i)) n p hp]
    rw [zis_congr (fun j hj => zMap_all hp hB hB' h hi hj)]
  | succ r ih =>
    intro i hi
    show (zsig n K B r i * 31 + 7) + zis (fun j => if B i j = 0 then 0 else zterm (zsig n K B r j) (B i j)) n = (zsig n K' B' r (p i) * 31 + 7) + zis (fun j => if B' (p i) j = 0 then 0 else zterm (zsig n K' B' r j) (B' (p i) j)) n
    rw [ih i hi, ← zis_perm (fun j => if B' (p i) j = 0 then 0 else zterm (zsig n K' B' r j) (B' (p i) j)) n p hp]
    congr 1
    apply zis_congr
    intro j hj
    rw [ih j hj, zMap_all hp hB hB' h hi hj]
theorem zMap_id {n : Nat} {K : Nat → Int32} {B : Nat → Nat → Int32} : zMap n K K B B (fun x => x) := fun _ _ => ⟨rfl, fun _ _ => rfl⟩
end
section
/-! ===== the line of an arrangement: k letters ka, bonds be by places, pa k = 1 + the parent's place (0: none) ===== -/
def zsy (b : Nat) : List Nat := if b = 2 then [61] else if b = 3 then [35] else []
theorem zsy_2 : zsy 2 = [61] := rfl
theorem zsy_3 : zsy 3 = [35] := rfl
theorem zsy_n {b : Nat} (h2 : b ≠ 2) (h3 : b ≠ 3) : zsy b = [] := by unfold zsy; rw [if_neg h2, if_neg h3]
/-- the least digit from d on, m tried, that holds c -/
def zfr (F : Nat → Nat) (c : Nat) : Nat → Nat → Nat
  | 0, d => d
  | m + 1, d => if F d = c then d else zfr F c m (d + 1)
def zfd (F : Nat → Nat) (c : Nat) : Nat := zfr F c 8 1
theorem zfr_spec {F : Nat → Nat} {c : Nat} : ∀ m d, (∃ e, d ≤ e ∧ e ≤ d + m ∧ F e = c) → d ≤ zfr F c m d ∧ zfr F c m d ≤ d + m ∧ F (zfr F c m d) = c ∧ ∀ e, d ≤ e → e < zfr F c m d → F e ≠ c := by
  intro m
  induction m with
  | zero =>
    intro d ⟨e, h1, h2, h3⟩
    have : e = d := by omega
    subst this
    have e0 : zfr F c 0 e = e := rfl
    rw [e0]
    exact ⟨Nat.le_refl _, Nat.le_refl _, h3, fun x hx hx2 => absurd hx2 (by omega)⟩
  | succ m ih =>
    intro d ⟨e, h1, h2, h3⟩
    by_cases q : F d = c
    · have : zfr F c (m + 1) d = d := if_pos q
      rw [this]
      exact ⟨Nat.le_refl _, by omega, q, fun x hx hx2 => by omega⟩
    · have e1 : zfr F c (m + 1) d = zfr F c m (d + 1) := if_neg q
      rw [e1]
      have hne : e ≠ d := fun z => q (by rw [← z]; exact h3)
      obtain ⟨a1, a2, a3, a4⟩ := ih (d + 1) ⟨e, by omega, by omega, h3⟩
      refine ⟨by omega, by omega, a3, fun x hx hx2 => ?_⟩
      by_cases z : x = d
      · rw [z]; exact q
      · exact a4 x (by omega) hx2
theorem zfd_spec {F : Nat → Nat} {c : Nat} (h : ∃ e, 1 ≤ e ∧ e ≤ 9 ∧ F e = c) : 1 ≤ zfd F c ∧ zfd F c ≤ 9 ∧ F (zfd F c) = c ∧ ∀ e, 1 ≤ e → e < zfd F c → F e ≠ c := zfr_spec 8 1 h
def zrg (be : Nat → Nat → Nat) (pa : Nat → Nat) (j k : Nat) : Prop := be j k ≠ 0 ∧ pa k ≠ j + 1
def zrb (be : Nat → Nat → Nat) (pa : Nat → Nat) (j k : Nat) : Bool := (be j k != 0) && (pa k != j + 1)
theorem zrb_t {be : Nat → Nat → Nat} {pa : Nat → Nat} {j k : Nat} : zrb be pa j k = true ↔ zrg be pa j k := by
  unfold zrb zrg
  rw [Bool.and_eq_true, bne_iff_ne, bne_iff_ne]
def zop (be : Nat → Nat → Nat) (k m : Nat) (s : List Nat × (Nat → Nat)) : List Nat × (Nat → Nat) := (s.1 ++ zsy (be k m) ++ [48 + zfd s.2 0], zup s.2 (zfd s.2 0) (1 + 8 * k + m))
def zcs (j k : Nat) (s : List Nat × (Nat → Nat)) : List Nat × (Nat → Nat) := (s.1 ++ [48 + zfd s.2 (1 + 8 * j + k)], zup s.2 (zfd s.2 (1 + 8 * j + k)) 0)
def zclh (be : Nat → Nat → Nat) (pa : Nat → Nat) (k j : Nat) (s : List Nat × (Nat → Nat)) : List Nat × (Nat → Nat) := if zrb be pa j k = true then zcs j k s else s
def zoph (be : Nat → Nat → Nat) (pa : Nat → Nat) (k m : Nat) (s : List Nat × (Nat → Nat)) : List Nat × (Nat → Nat) := if k < m ∧ zrb be pa k m = true then zop be k m s else s
def zlat (pa : Nat → Nat) (k : Nat) : Nat → Bool
  | 0 => false
  | c + 1 => zlat pa k c || (decide (k < c) && pa c == pa k)
theorem zlat_t {pa : Nat → Nat} {k n : Nat} : zlat pa k n = true ↔ ∃ c, k < c ∧ c < n ∧ pa c = pa k := by
  induction n with
  | zero => exact ⟨fun h => Bool.noConfusion h, fun ⟨c, _, h, _⟩ => by omega⟩
  | succ n ih =>
    show (zlat pa k n || (decide (k < n) && pa n == pa k)) = true ↔ _
    rw [Bool.or_eq_true, ih, Bool.and_eq_true, decide_eq_true_iff, beq_iff_eq]
    constructor
    · rintro (⟨c, h1, h2, h3⟩ | ⟨h1, h2⟩)
      · exact ⟨c, h1, by omega, h3⟩
      · exact ⟨n, h1, by omega, h2⟩
    · rintro ⟨c, h1, h2, h3⟩
      by_cases e : c = n
      · right; rw [← e]; exact ⟨h1, h3⟩
      · left; exact ⟨c, h1, by omega, h3⟩
def zhd (be : Nat → Nat → Nat) (pa : Nat → Nat) (n k : Nat) (l : List Nat) : List Nat := if k = 0 then l else (if zlat pa k n = true then l ++ [40] else l) ++ zsy (be (pa k - 1) k)
def zend (pa : Nat → Nat) (n k : Nat) (s : List Nat × (Nat → Nat)) : List Nat × (Nat → Nat) := if k + 1 < n ∧ pa (k + 1) ≠ k + 1 then (s.1 ++ [41], s.2) else s
def zpl (n : Nat) (ka : Nat → Nat) (be : Nat → Nat → Nat) (pa : Nat → Nat) (k : Nat) (s : List Nat × (Nat → Nat)) : List Nat × (Nat → Nat) :=
  zend pa n k (zF (zoph be pa k) n (zF (zclh be pa k) k (zhd be pa n k s.1 ++ [ka k], s.2)))
def zlf (n : Nat) (ka : Nat → Nat) (be : Nat → Nat → Nat) (pa : Nat → Nat) (k : Nat) : List Nat × (Nat → Nat) := zF (zpl n ka be pa) k ([], fun _ => 0)
def zline (n : Nat) (ka : Nat → Nat) (be : Nat → Nat → Nat) (pa : Nat → Nat) : List Nat := (zlf n ka be pa n).1
/-! ===== the digits in use ===== -/
/-- pairs opened before (k, o) -/
def zod (n : Nat) (be : Nat → Nat → Nat) (pa : Nat → Nat) (k o : Nat) : Nat := zs (fun i => zs (fun m => if i < m ∧ zrb be pa i m = true then 1 else 0) n) k + zs (fun m => if k < m ∧ zrb be pa k m = true then 1 else 0) o
def zcf (F : Nat → Nat) : Nat := zs (fun d => if F (d + 1) = 0 then 0 else 1) 9
def zPI (n : Nat) (be : Nat → Nat → Nat) (pa : Nat → Nat) (k a o : Nat) (F : Nat → Nat) : Prop :=
  (∀ d, F d ≤ 8 * k + o) ∧ (∀ d, F d ≠ 0 → 1 ≤ d ∧ d ≤ 9) ∧ (∀ d e, F d = F e → F d ≠ 0 → d = e) ∧
  (∀ j m, j < m → m < n → zrb be pa j m = true → (j < k ∨ (j = k ∧ m < o)) → (k < m ∨ (m = k ∧ a ≤ j)) → ∃ d, F d = 1 + 8 * j + m) ∧ zcf F ≤ zod n be pa k o
theorem zPI_0 (n : Nat) (be : Nat → Nat → Nat) (pa : Nat → Nat) : zPI n be pa 0 0 0 (fun _ => 0) :=
  ⟨fun _ => Nat.zero_le _, fun d h => absurd rfl h, fun d e _ h => absurd rfl h, fun j m h1 h2 h3 h4 h5 => by omega, by
    have : zcf (fun _ => 0) = 0 := zs_zero (fun i _ => if_pos rfl)
    omega⟩
/-- the digit of a pair that ends is there -/
theorem zPI_ex {n k a : Nat} {be : Nat → Nat → Nat} {pa : Nat → Nat} {F : Nat → Nat} (h : zPI n be pa k a 0 F) (hk : k < n) (ha : a < k) (hr : zrb be pa a k = true) : ∃ e, 1 ≤ e ∧ e ≤ 9 ∧ F e = 1 + 8 * a + k := by
  obtain ⟨d, hd⟩ := h.2.2.2.1 a k ha hk hr (Or.inl ha) (Or.inr ⟨rfl, Nat.le_refl _⟩)
  have := h.2.1 d (by omega)
  exact ⟨d, this.1, this.2, hd⟩
theorem zcf_up0 (F : Nat → Nat) (d : Nat) : zcf (zup F d 0) ≤ zcf F := by
  refine zs_le (fun i _ => ?_)
  by_cases c : i + 1 = d
  · rw [c, zup_s, if_pos rfl]; exact Nat.zero_le _
  · rw [zup_n c]; exact Nat.le_refl _
theorem zPI_cs {n k a : Nat} {be : Nat → Nat → Nat} {pa : Nat → Nat} {F : Nat → Nat} (hn : n ≤ 8) (hk : k < n) (ha : a < k) (hr : zrb be pa a k = true) (h : zPI n be pa k a 0 F) : zPI n be pa k (a + 1) 0 (zup F (zfd F (1 + 8 * a + k)) 0) := by
  obtain ⟨s1, s2, s3, s4⟩ := zfd_spec (zPI_ex h hk ha hr)
  generalize zfd F (1 + 8 * a + k) = d at s1 s2 s3 s4
  refine ⟨fun e => ?_, fun e he => ?_, fun e f hef he => ?_, fun j m h1 h2 h3 h4 h5 => ?_, Nat.le_trans (zcf_up0 F d) h.2.2.2.2⟩
  · by_cases c : e = d
    · rw [c, zup_s]; exact Nat.zero_le _
    · rw [zup_n c]; exact h.1 e
  · by_cases c : e = d
    · rw [c, zup_s] at he; exact absurd rfl he
    · rw [zup_n c] at he; exact h.2.1 e he
  · by_cases c : e = d
    · rw [c, zup_s] at he; exact absurd rfl he
    · by_cases c2 : f = d
      · rw [zup_n c] at he
        rw [zup_n c, c2, zup_s] at hef; exact absurd hef he
      · rw [zup_n c] at he
        rw [zup_n c, zup_n c2] at hef; exact h.2.2.1 e f hef he
  · obtain ⟨e, he⟩ := h.2.2.2.1 j m h1 h2 h3 h4 (by omega)
    refine ⟨e, ?_⟩
    rw [zup_n (fun z => by rw [z] at he; omega)]; exact he
theorem zPI_cn {n k a : Nat} {be : Nat → Nat → Nat} {pa : Nat → Nat} {F : Nat → Nat} (hr : zrb be pa a k = false) (h : zPI n be pa k a 0 F) : zPI n be pa k (a + 1) 0 F := by
  refine ⟨h.1, h.2.1, h.2.2.1, fun j m h1 h2 h3 h4 h5 => h.2.2.2.1 j m h1 h2 h3 h4 ?_, h.2.2.2.2⟩
  omega
theorem zPI_clh {n k a : Nat} {be : Nat → Nat → Nat} {pa : Nat → Nat} {s : List Nat × (Nat → Nat)} (hn : n ≤ 8) (hk : k < n) (ha : a < k) (h : zPI n be pa k a 0 s.2) : zPI n be pa k (a + 1) 0 (zclh be pa k a s).2 := by
  unfold zclh
  cases c : zrb be pa a k
  · rw [if_neg Bool.noConfusion]; exact zPI_cn c h
  · rw [if_pos rfl]; exact zPI_cs hn hk ha c h
theorem zod_mono {n : Nat} {be : Nat → Nat → Nat} {pa : Nat → Nat} {k o : Nat} (hk : k < n) (ho : o ≤ n) : zod n be pa k o ≤ zod n be pa n 0 := by
  unfold zod
  have h1 := zs_mono (fun i => zs (fun m => if i < m ∧ zrb be pa i m = true then 1 else 0) n) (show k + 1 ≤ n by omega)
  have h2 := zs_mono (fun m => if k < m ∧ zrb be pa k m = true then 1 else 0) ho
  rw [zs_s] at h1
  rw [zs_0]
  omega
/-- a digit is free when a pair begins -/
theorem zPI_fr {n k a o : Nat} {be : Nat → Nat → Nat} {pa : Nat → Nat} {F : Nat → Nat} (h9 : zod n be pa n 0 ≤ 9) (hk : k < n) (ho : o < n) (hko : k < o) (hr : zrb be pa k o = true) (h : zPI n be pa k a o F) : ∃ e, 1 ≤ e ∧ e ≤ 9 ∧ F e = 0 := by
  have h1 := zod_mono (be := be) (pa := pa) hk (show o + 1 ≤ n by omega)
  have h2 : zod n be pa k (o + 1) = zod n be pa k o + 1 := by
    unfold zod
    rw [zs_s, if_pos ⟨hko, hr⟩, Nat.add_assoc]
  have h3 := h.2.2.2.2
  apply Classical.byContradiction
  intro hn
  have h4 : zcf F = zs (fun _ => 1) 9 := zs_congr (fun i hi => if_neg (fun z => hn ⟨i + 1, by omega, by omega, z⟩))
  rw [zs_const] at h4
  omega
theorem zPI_op {n k o : Nat} {be : Nat → Nat → Nat} {pa : Nat → Nat} {F : Nat → Nat} (h9 : zod n be pa n 0 ≤ 9) (hn : n ≤ 8) (hk : k < n) (ho : o < n) (hko : k < o) (hr : zrb be pa k o = true) (h : zPI n be pa k k o F) : zPI n be pa k k (o + 1) (zup F (zfd F 0) (1 + 8 * k + o)) := by
  obtain ⟨s1, s2, s3, s4⟩ := zfd_spec (zPI_fr h9 hk ho hko hr h)
  generalize zfd F 0 = d at s1 s2 s3 s4
  have hb := h.1
  refine ⟨fun e => ?_, fun e he => ?_, fun e f hef he => ?_, fun j m h1 h2 h3 h4 h5 => ?_, ?_⟩
  · by_cases c : e = d
    · rw [c, zup_s]; omega
    · rw [zup_n c]; have := hb e; omega
  · by_cases c : e = d
    · omega
    · rw [zup_n c] at he; exact h.2.1 e he
  · by_cases c : e = d
    · by_cases c2 : f = d
      · omega
      · rw [c, zup_s, zup_n c2] at hef
        have := hb f; omega
    · by_cases c2 : f = d
      · rw [c2, zup_s, zup_n c] at hef
        have := hb e; omega
      · rw [zup_n c] at he
        rw [zup_n c, zup_n c2] at hef; exact h.2.2.1 e f hef he
  · by_cases c : j = k ∧ m = o
    · exact ⟨d, by rw [zup_s, c.1, c.2]⟩
    · obtain ⟨e, he⟩ := h.2.2.2.1 j m h1 h2 h3 (by omega) h5
      refine ⟨e, ?_⟩
      rw [zup_n (fun z => by rw [z] at he; omega)]; exact he
  · have e1 : zod n be pa k (o + 1) = zod n be pa k o + 1 := by
      unfold zod
      rw [zs_s, if_pos ⟨hko, hr⟩, Nat.add_assoc]
    have e2 : zcf (zup F d (1 + 8 * k + o)) ≤ zcf F + 1 := by
      have a1 : zcf (zup F d (1 + 8 * k + o)) ≤ zs (fun i => (if F (i + 1) = 0 then 0 else 1) + (if i = d - 1 then 1 else 0)) 9 := by
        refine zs_le (fun i _ => ?_)
        by_cases c : i + 1 = d
        · rw [c, zup_s, if_neg (by omega), if_pos (show i = d - 1 by omega)]; omega
        · rw [zup_n c]; omega
      rw [zs_add, zs_pt] at a1
      have : (if d - 1 < 9 then 1 else 0) ≤ 1 := by
        by_cases q : d - 1 < 9
        · rw [if_pos q]; exact Nat.le_refl _
        · rw [if_neg q]; omega
      have : zs (fun i => if F (i + 1) = 0 then 0 else 1) 9 = zcf F := rfl
      omega
    have := h.2.2.2.2
    omega
theorem zPI_on {n k o : Nat} {be : Nat → Nat → Nat} {pa : Nat → Nat} {F : Nat → Nat} (hr : ¬ (k < o ∧ zrb be pa k o = true)) (h : zPI n be pa k k o F) : zPI n be pa k k (o + 1) F := by
  refine ⟨fun d => by have := h.1 d; omega, h.2.1, h.2.2.1, fun j m h1 h2 h3 h4 h5 => ?_, ?_⟩
  · by_cases c : j = k ∧ m = o
    · exfalso
      apply hr
      rw [← c.1, ← c.2]
      exact ⟨h1, h3⟩
    · exact h.2.2.2.1 j m h1 h2 h3 (by omega) h5
  · refine Nat.le_trans h.2.2.2.2 ?_
    unfold zod
    rw [zs_s]; omega
theorem zPI_oph {n k o : Nat} {be : Nat → Nat → Nat} {pa : Nat → Nat} {s : List Nat × (Nat → Nat)} (h9 : zod n be pa n 0 ≤ 9) (hn : n ≤ 8) (hk : k < n) (ho : o < n) (h : zPI n be pa k k o s.2) : zPI n be pa k k (o + 1) (zoph be pa k o s).2 := by
  unfold zoph
  by_cases c : k < o ∧ zrb be pa k o = true
  · rw [if_pos c]; exact zPI_op h9 hn hk ho c.1 c.2 h
  · rw [if_neg c]; exact zPI_on c h
theorem zPI_next {n k : Nat} {be : Nat → Nat → Nat} {pa : Nat → Nat} {F : Nat → Nat} (hn : n ≤ 8) (h : zPI n be pa k k n F) : zPI n be pa (k + 1) 0 0 F := by
  refine ⟨fun d => by have := h.1 d; omega, h.2.1, h.2.2.1, fun j m h1 h2 h3 h4 h5 => h.2.2.2.1 j m h1 h2 h3 (by omega) (by omega), ?_⟩
  refine Nat.le_trans h.2.2.2.2 ?_
  unfold zod
  rw [zs_s, zs_0]; omega
theorem zend_2 {pa : Nat → Nat} {n k : Nat} {s : List Nat × (Nat → Nat)} : (zend pa n k s).2 = s.2 := by
  unfold zend
  by_cases c : k + 1 < n ∧ pa (k + 1) ≠ k + 1
  · rw [if_pos c]
  · rw [if_neg c]
theorem zPI_cls {n k : Nat} {be : Nat → Nat → Nat} {pa : Nat → Nat} {s : List Nat × (Nat → Nat)} (hn : n ≤ 8) (hk : k < n) (h : zPI n be pa k 0 0 s.2) : ∀ a, a ≤ k → zPI n be pa k a 0 (zF (zclh be pa k) a s).2 := by
  intro a
  induction a with
  | zero => intro _; exact h
  | succ a ih => intro ha; exact zPI_clh hn hk (by omega) (ih (by omega))
theorem zPI_ops {n k : Nat} {be : Nat → Nat → Nat} {pa : Nat → Nat} {s : List Nat × (Nat → Nat)} (h9 : zod n be pa n 0 ≤ 9) (hn : n ≤ 8) (hk : k < n) (h : zPI n be pa k k 0 s.2) : ∀ o, o ≤ n → zPI n be pa k k o (zF (zoph be pa k) o s).2 := by
  intro o
  induction o with
  | zero => intro _; exact h
  | succ o ih => intro ho; exact zPI_oph h9 hn hk (by omega) (ih (by omega))
theorem zPI_lf {n : Nat} {ka : Nat → Nat} {be : Nat → Nat → Nat} {pa : Nat → Nat} (h9 : zod n be pa n 0 ≤ 9) (hn : n ≤ 8) : ∀ k, k ≤ n → zPI n be pa k 0 0 (zlf n ka be pa k).2 := by
  intro k
  induction k with
  | zero => intro _; exact zPI_0 n be pa
  | succ k ih =>
    intro hk
    show zPI n be pa (k + 1) 0 0 (zpl n ka be pa k (zlf n ka be pa k)).2
    unfold zpl
    rw [zend_2]
    have h0 := zPI_cls (s := (zhd be pa n k (zlf n ka be pa k).1 ++ [ka k], (zlf n ka be pa k).2)) hn (by omega) (ih (by omega)) k (Nat.le_refl k)
    exact zPI_next hn (zPI_ops h9 hn (by omega) h0 n (Nat.le_refl n))
end
section
/-! ===== the length of a line ===== -/
def zsl (b : Nat) : Nat := (zsy b).length
theorem zsl_le (b : Nat) : zsl b ≤ 1 := by
  unfold zsl zsy
  by_cases h : b = 2
  · rw [if_pos h]; exact Nat.le_refl _
  · rw [if_neg h]
    by_cases h3 : b = 3
    · rw [if_pos h3]; exact Nat.le_refl _
    · rw [if_neg h3]; exact Nat.zero_le _
theorem zF_len {h : Nat → List Nat × (Nat → Nat) → List Nat × (Nat → Nat)} {f : Nat → Nat} (e : ∀ a s, (h a s).1.length = s.1.length + f a) (n : Nat) (s : List Nat × (Nat → Nat)) : (zF h n s).1.length = s.1.length + zs f n := by
  induction n with
  | zero => rfl
  | succ n ih =>
    show (h n (zF h n s)).1.length = _
    rw [e, ih, zs_s, Nat.add_assoc]
def zck (n : Nat) (be : Nat → Nat → Nat) (pa : Nat → Nat) (k : Nat) : Nat :=
  (if k = 0 then 0 else (if zlat pa k n = true then 1 else 0) + zsl (be (pa k - 1) k)) + 1 + zs (fun j => if zrb be pa j k = true then 1 else 0) k
   + zs (fun m => if k < m ∧ zrb be pa k m = true then zsl (be k m) + 1 else 0) n + (if k + 1 < n ∧ pa (k + 1) ≠ k + 1 then 1 else 0)
theorem zpl_len (n : Nat) (ka : Nat → Nat) (be : Nat → Nat → Nat) (pa : Nat → Nat) (k : Nat) (s : List Nat × (Nat → Nat)) : (zpl n ka be pa k s).1.length = s.1.length + zck n be pa k := by
  have h1 : ∀ a s, (zclh be pa k a s).1.length = s.1.length + (if zrb be pa a k = true then 1 else 0) := by
    intro a s
    unfold zclh
    by_cases c : zrb be pa a k = true
    · rw [if_pos c, if_pos c]
      show (s.1 ++ [_]).length = _
      rw [List.length_append]; rfl
    · rw [if_neg c, if_neg c]; rfl
  have h2 : ∀ m s, (zoph be pa k m s).1.length = s.1.length + (if k < m ∧ zrb be pa k m = true then zsl (be k m) + 1 else 0) := by
    intro m s
    unfold zoph
    by_cases c : k < m ∧ zrb be pa k m = true
    · rw [if_pos c, if_pos c]
      show (s.1 ++ zsy (be k m) ++ [_]).length = _
      rw [List.length_append, List.length_append, Nat.add_assoc]; rfl
    · rw [if_neg c, if_neg c]; rfl
  have h3 : ∀ s, (zend pa n k s).1.length = s.1.length + (if k + 1 < n ∧ pa (k + 1) ≠ k + 1 then 1 else 0) := by
    intro s
    unfold zend
    by_cases c : k + 1 < n ∧ pa (k + 1) ≠ k + 1
    · rw [if_pos c, if_pos c]
      show (s.1 ++ [_]).length = _
      rw [List.length_append]; rfl
    · rw [if_neg c, if_neg c]; rfl
  have h4 : ∀ l, (zhd be pa n k l ++ [ka k]).length = l.length + ((if k = 0 then 0 else (if zlat pa k n = true then 1 else 0) + zsl (be (pa k - 1) k)) + 1) := by
    intro l
    rw [List.length_append]
    unfold zhd
    show _ + 1 = _
    by_cases c : k = 0
    · rw [if_pos c, if_pos c]
    · rw [if_neg c, if_neg c, List.length_append]
      by_cases d : zlat pa k n = true
      · rw [if_pos d, if_pos d, List.length_append]
        show l.length + 1 + zsl _ + 1 = _
        omega
      · rw [if_neg d, if_neg d]
        show l.length + zsl _ + 1 = _
        omega
  unfold zpl
  rw [h3, zF_len h2, zF_len h1]
  show (zhd be pa n k s.1 ++ [ka k]).length + _ + _ + _ = _
  rw [h4]
  unfold zck
  omega
theorem zline_len (n : Nat) (ka : Nat → Nat) (be : Nat → Nat → Nat) (pa : Nat → Nat) : (zline n ka be pa).length = zs (zck n be pa) n := by
  show (zF (zpl n ka be pa) n ([], fun _ => 0)).1.length = _
  rw [zF_len (zpl_len n ka be pa)]
  exact Nat.zero_add _
/-- the parents of a listing -/
def zTree (n : Nat) (be : Nat → Nat → Nat) (pa : Nat → Nat) : Prop :=
  pa 0 = 0 ∧ (∀ k, 0 < k → k < n → 1 ≤ pa k ∧ pa k ≤ k ∧ be (pa k - 1) k ≠ 0) ∧ (∀ k c, k < c → c < n → pa c = k + 1 → pa (k + 1) = k + 1)
def zcc (pa : Nat → Nat) (k : Nat) : Nat := zs (fun i => if pa (i + 1) ≠ i + 1 then 1 else 0) k
def zed (be : Nat → Nat → Nat) (n : Nat) : Nat := zpr (fun j k => if be j k = 0 then 0 else 1) n
def zwt (be : Nat → Nat → Nat) (n : Nat) : Nat := zpr (fun j k => zsl (be j k) + 2 * (if be j k = 0 then 0 else 1)) n
theorem zpr_add (f g : Nat → Nat → Nat) (n : Nat) : zpr (fun j k => f j k + g j k) n = zpr f n + zpr g n := by
  unfold zpr
  rw [← zs_add]
  exact zs_congr (fun k _ => zs_add _ _ k)
theorem zpr_congr {f g : Nat → Nat → Nat} {n : Nat} (h : ∀ j k, j < k → k < n → f j k = g j k) : zpr f n = zpr g n :=
  zs_congr (fun k hk => zs_congr (fun j hj => h j k hj hk))
theorem zpr_le {f g : Nat → Nat → Nat} {n : Nat} (h : ∀ j k, j < k → k < n → f j k ≤ g j k) : zpr f n ≤ zpr g n :=
  zs_le (fun k hk => zs_le (fun j hj => h j k hj hk))
theorem zs_pos0 (n : Nat) (f : Nat → Nat) : zs (fun k => if k = 0 then 0 else f k) (n + 1) = zs (fun i => f (i + 1)) n := by
  induction n with
  | zero => rfl
  | succ n ih => rw [zs_s, ih, zs_s, if_neg (by omega)]
theorem zmax {P : Nat → Prop} {n : Nat} (h : ∃ c, c < n ∧ P c) : ∃ c, c < n ∧ P c ∧ ∀ e, c < e → e < n → ¬ P e := by
  induction n with
  | zero => obtain ⟨c, hc, _⟩ := h; omega
  | succ n ih =>
    by_cases hn : P n
    · exact ⟨n, by omega, hn, fun e h1 h2 => by omega⟩
    · obtain ⟨c, hc, hp⟩ := h
      have hcn : c ≠ n := fun z => hn (by rw [← z]; exact hp)
      obtain ⟨c', h1, h2, h3⟩ := ih ⟨c, by omega, hp⟩
      refine ⟨c', by omega, h2, fun e he1 he2 => ?_⟩
      by_cases z : e = n
      · rw [z]; exact hn
      · exact h3 e he1 (by omega)
/-- as many opening as closing brackets -/
theorem zbrk {n : Nat} {be : Nat → Nat → Nat} {pa : Nat → Nat} (h : zTree (n + 1) be pa) : zs (fun k => if k = 0 then 0 else if zlat pa k (n + 1) = true then 1 else 0) (n + 1) = zcc pa n := by
  obtain ⟨t0, t1, t2⟩ := h
  have e1 : zs (fun k => if k = 0 then 0 else if zlat pa k (n + 1) = true then 0 else 1) (n + 1) = zs (fun i => if pa (i + 1) = i + 1 then 1 else 0) n := by
    have a1 : zs (fun k => if k = 0 then 0 else if zlat pa k (n + 1) = true then 0 else 1) (n + 1) = zs (fun k => zs (fun j => if k ≠ 0 ∧ zlat pa k (n + 1) = false ∧ pa k = j + 1 then 1 else 0) (n + 1)) (n + 1) := by
      apply zs_congr
      intro k hk
      by_cases k0 : k = 0
      · rw [if_pos k0]
        exact (zs_zero (fun j _ => if_neg (fun z => z.1 k0))).symm
      · rw [if_neg k0]
        have := t1 k (by omega) hk
        cases c : zlat pa k (n + 1)
        · rw [if_neg Bool.noConfusion]
          have e : zs (fun j => if k ≠ 0 ∧ false = false ∧ pa k = j + 1 then 1 else 0) (n + 1) = zs (fun j => if j = pa k - 1 then 1 else 0) (n + 1) := zs_congr (fun j _ => by
            by_cases q : j = pa k - 1
            · rw [if_pos q, if_pos ⟨k0, rfl, by omega⟩]
            · rw [if_neg q, if_neg (fun z => q (by omega))])
          rw [e, zs_pt, if_pos (by omega)]
        · rw [if_pos rfl]
          exact (zs_zero (fun j _ => if_neg (fun z => Bool.noConfusion z.2.1))).symm
    rw [a1, zs_swap]
    have a2 : zs (fun i => if pa (i + 1) = i + 1 then 1 else 0) n = zs (fun j => if j < n ∧ pa (j + 1) = j + 1 then 1 else 0) (n + 1) := by
      rw [zs_s, if_neg (show ¬ (n < n ∧ pa (n + 1) = n + 1) by omega), Nat.add_zero]
      exact zs_congr (fun i hi => by
        by_cases q : pa (i + 1) = i + 1
        · rw [if_pos q, if_pos ⟨hi, q⟩]
        · rw [if_neg q, if_neg (fun z => q z.2)])
    rw [a2]
    apply zs_congr
    intro j hj
    by_cases c : j < n ∧ pa (j + 1) = j + 1
    · rw [if_pos c]
      obtain ⟨k0, hk1, hk2, hk3⟩ := zmax (P := fun k => pa k = j + 1) (n := n + 1) ⟨j + 1, by omega, c.2⟩
      have k00 : k0 ≠ 0 := fun z => by rw [z, t0] at hk2; omega
      have e : zs (fun k => if k ≠ 0 ∧ zlat pa k (n + 1) = false ∧ pa k = j + 1 then 1 else 0) (n + 1) = zs (fun k => if k = k0 then 1 else 0) (n + 1) := zs_congr (fun k hk => by
        by_cases q : k = k0
        · rw [if_pos q, if_pos]
          refine ⟨by omega, ?_, by rw [q]; exact hk2⟩
          cases d : zlat pa k (n + 1)
          · rfl
          · obtain ⟨e, e1, e2, e3⟩ := zlat_t.mp d
            exact absurd (by rw [e3, q]; exact hk2) (hk3 e (by omega) e2)
        · rw [if_neg q, if_neg]
          intro z
          have lt : k < k0 := by
            rcases Nat.lt_trichotomy k k0 with y | y | y
            · exact y
            · exact absurd y q
            · exact absurd z.2.2 (hk3 k y hk)
          have := zlat_t.mpr (⟨k0, lt, hk1, by rw [z.2.2]; exact hk2⟩ : ∃ c, k < c ∧ c < n + 1 ∧ pa c = pa k)
          rw [z.2.1] at this
          exact Bool.noConfusion this)
      rw [e, zs_pt, if_pos hk1]
    · rw [if_neg c]
      refine zs_zero (fun k hk => if_neg (fun z => c ?_))
      have := t1 k (by omega) hk
      exact ⟨by omega, t2 j k (by omega) hk z.2.2⟩
  have e2 : zs (fun k => if k = 0 then 0 else if zlat pa k (n + 1) = true then 1 else 0) (n + 1) + zs (fun k => if k = 0 then 0 else if zlat pa k (n + 1) = true then 0 else 1) (n + 1) = n := by
    rw [← zs_add]
    have : zs (fun k => (if k = 0 then 0 else if zlat pa k (n + 1) = true then 1 else 0) + (if k = 0 then 0 else if zlat pa k (n + 1) = true then 0 else 1)) (n + 1) = zs (fun k => if k = 0 then 0 else 1) (n + 1) := zs_congr (fun k _ => by
      by_cases q : k = 0
      · rw [if_pos q, if_pos q, if_pos q]
      · rw [if_neg q, if_neg q, if_neg q]
        by_cases d : zlat pa k (n + 1) = true
        · rw [if_pos d, if_pos d]
        · rw [if_neg d, if_neg d])
    rw [this, zs_pos0 n (fun _ => 1), zs_const]; omega
  have e3 : zcc pa n + zs (fun i => if pa (i + 1) = i + 1 then 1 else 0) n = n := by
    unfold zcc
    rw [← zs_add]
    have : zs (fun i => (if pa (i + 1) ≠ i + 1 then 1 else 0) + (if pa (i + 1) = i + 1 then 1 else 0)) n = zs (fun _ => 1) n := zs_congr (fun i _ => by
      by_cases q : pa (i + 1) = i + 1
      · rw [if_pos q, if_neg (fun z => z q)]
      · rw [if_neg q, if_pos q])
    rw [this, zs_const]; omega
  omega
theorem ztr_n {n : Nat} {be : Nat → Nat → Nat} {pa : Nat → Nat} (h : zTree (n + 1) be pa) (g : Nat → Nat → Nat) : zpr (fun j k => if pa k = j + 1 then g j k else 0) (n + 1) = zs (fun k => if k = 0 then 0 else g (pa k - 1) k) (n + 1) := by
  apply zs_congr
  intro k hk
  by_cases k0 : k = 0
  · rw [if_pos k0, k0]; rfl
  · rw [if_neg k0]
    have := h.2.1 k (by omega) hk
    have e : zs (fun j => if pa k = j + 1 then g j k else 0) k = zs (fun j => if j = pa k - 1 then g (pa k - 1) k else 0) k := zs_congr (fun j _ => by
      by_cases q : j = pa k - 1
      · rw [if_pos q, if_pos (by omega), q]
      · rw [if_neg q, if_neg (by omega)])
    rw [e, zs_pt, if_pos (by omega)]
theorem zpr_sw (f : Nat → Nat → Nat) (n : Nat) : zs (fun k => zs (fun m => if k < m then f k m else 0) n) n = zpr f n := by
  rw [zs_swap, zpr_cut]
theorem zod_pr (n : Nat) (be : Nat → Nat → Nat) (pa : Nat → Nat) : zod n be pa n 0 = zpr (fun j k => if zrb be pa j k = true then 1 else 0) n := by
  unfold zod
  rw [zs_0, Nat.add_zero, ← zpr_sw]
  apply zs_congr
  intro k _
  apply zs_congr
  intro m _
  by_cases c : k < m
  · rw [if_pos c]
    by_cases d : zrb be pa k m = true
    · rw [if_pos d, if_pos ⟨c, d⟩]
    · rw [if_neg d, if_neg (fun z => d z.2)]
  · rw [if_neg c, if_neg (fun z => c z.1)]
/-- every bond is a tree bond or a ring -/
theorem zring {n : Nat} {be : Nat → Nat → Nat} {pa : Nat → Nat} (h : zTree (n + 1) be pa) : zod (n + 1) be pa (n + 1) 0 + n = zed be (n + 1) := by
  rw [zod_pr]
  have e1 : zpr (fun j k => if pa k = j + 1 then 1 else 0) (n + 1) = n := by
    rw [ztr_n h (fun _ _ => 1), zs_pos0 n (fun _ => 1), zs_const]; omega
  unfold zed
  have e2 : zpr (fun j k => if be j k = 0 then 0 else 1) (n + 1) = zpr (fun j k => (if zrb be pa j k = true then 1 else 0) + (if pa k = j + 1 then 1 else 0)) (n + 1) := zpr_congr (fun j k hj hk => by
    by_cases c : pa k = j + 1
    · have := h.2.1 k (by omega) hk
      have b : be j k ≠ 0 := by
        have e : pa k - 1 = j := by omega
        rw [e] at this; exact this.2.2
      rw [if_neg b, if_pos c, if_neg (fun z => (zrb_t.mp z).2 c)]
    · rw [if_neg c]
      by_cases b : be j k = 0
      · rw [if_pos b, if_neg (fun z => (zrb_t.mp z).1 b)]
      · rw [if_neg b, if_pos (zrb_t.mpr ⟨b, c⟩)])
  rw [e2, zpr_add, e1]
theorem zlen {n : Nat} {ka : Nat → Nat} {be : Nat → Nat → Nat} {pa : Nat → Nat} (h : zTree (n + 1) be pa) : (zline (n + 1) ka be pa).length + 2 * n = n + 1 + 2 * zcc pa n + zwt be (n + 1) := by
  rw [zline_len]
  have s1 : zs (zck (n + 1) be pa) (n + 1) = zs (fun k => if k = 0 then 0 else if zlat pa k (n + 1) = true then 1 else 0) (n + 1) + zs (fun k => if k = 0 then 0 else zsl (be (pa k - 1) k)) (n + 1) + (n + 1)
      + zpr (fun j k => if zrb be pa j k = true then 1 else 0) (n + 1) + zpr (fun j k => if zrb be pa j k = true then zsl (be j k) + 1 else 0) (n + 1) + zcc pa n := by
    have a1 : zs (zck (n + 1) be pa) (n + 1) = zs (fun k => (if k = 0 then 0 else if zlat pa k (n + 1) = true then 1 else 0) + (if k = 0 then 0 else zsl (be (pa k - 1) k)) + 1
        + zs (fun j => if zrb be pa j k = true then 1 else 0) k + zs (fun m => if k < m then (if zrb be pa k m = true then zsl (be k m) + 1 else 0) else 0) (n + 1) + (if k < n ∧ pa (k + 1) ≠ k + 1 then 1 else 0)) (n + 1) := by
      apply zs_congr
      intro k hk
      unfold zck
      have b1 : (if k = 0 then 0 else (if zlat pa k (n + 1) = true then 1 else 0) + zsl (be (pa k - 1) k)) = (if k = 0 then 0 else if zlat pa k (n + 1) = true then 1 else 0) + (if k = 0 then 0 else zsl (be (pa k - 1) k)) := by
        by_cases q : k = 0
        · rw [if_pos q, if_pos q, if_pos q]
        · rw [if_neg q, if_neg q, if_neg q]
      have b2 : zs (fun m => if k < m ∧ zrb be pa k m = true then zsl (be k m) + 1 else 0) (n + 1) = zs (fun m => if k < m then (if zrb be pa k m = true then zsl (be k m) + 1 else 0) else 0) (n + 1) := zs_congr (fun m _ => by
        by_cases c : k < m
        · rw [if_pos c]
          by_cases d : zrb be pa k m = true
          · rw [if_pos d, if_pos ⟨c, d⟩]
          · rw [if_neg d, if_neg (fun z => d z.2)]
        · rw [if_neg c, if_neg (fun z => c z.1)])
      have b3 : (if k + 1 < n + 1 ∧ pa (k + 1) ≠ k + 1 then 1 else 0) = (if k < n ∧ pa (k + 1) ≠ k + 1 then 1 else 0) := by
        by_cases c : k < n ∧ pa (k + 1) ≠ k + 1
        · rw [if_pos c, if_pos ⟨by omega, c.2⟩]
        · rw [if_neg c, if_neg (fun z => c ⟨by omega, z.2⟩)]
      rw [b1, b2, b3]
    rw [a1, zs_add, zs_add, zs_add, zs_add, zs_add, zs_const, zpr_sw]
    have a2 : zs (fun k => if k < n ∧ pa (k + 1) ≠ k + 1 then 1 else 0) (n + 1) = zcc pa n := by
      rw [zs_s, if_neg (show ¬ (n < n ∧ pa (n + 1) ≠ n + 1) by omega), Nat.add_zero]
      exact zs_congr (fun i hi => by
        by_cases q : pa (i + 1) ≠ i + 1
        · rw [if_pos q, if_pos ⟨hi, q⟩]
        · rw [if_neg q, if_neg (fun z => q z.2)])
    rw [a2, Nat.mul_one]
    rfl
  rw [zbrk h] at s1
  rw [← ztr_n h (fun j k => zsl (be j k))] at s1
  have s2 : zpr (fun j k => if pa k = j + 1 then 1 else 0) (n + 1) = n := by
    rw [ztr_n h (fun _ _ => 1), zs_pos0 n (fun _ => 1), zs_const]; omega
  have s3 : zwt be (n + 1) = zpr (fun j k => (if pa k = j + 1 then zsl (be j k) else 0) + (if zrb be pa j k = true then 1 else 0) + (if zrb be pa j k = true then zsl (be j k) + 1 else 0) + ((if pa k = j + 1 then 1 else 0) + (if pa k = j + 1 then 1 else 0))) (n + 1) := zpr_congr (fun j k hj hk => by
    by_cases c : pa k = j + 1
    · have := h.2.1 k (by omega) hk
      have b : be j k ≠ 0 := by
        have e : pa k - 1 = j := by omega
        rw [e] at this; exact this.2.2
      have d : ¬ zrb be pa j k = true := fun z => (zrb_t.mp z).2 c
      rw [if_neg b, if_pos c, if_pos c, if_neg d, if_neg d]
    · rw [if_neg c, if_neg c]
      by_cases b : be j k = 0
      · have d : ¬ zrb be pa j k = true := fun z => (zrb_t.mp z).1 b
        rw [if_pos b, if_neg d, if_neg d, b]; rfl
      · have d : zrb be pa j k = true := zrb_t.mpr ⟨b, c⟩
        rw [if_neg b, if_pos d, if_pos d]; omega)
  rw [zpr_add, zpr_add, zpr_add, zpr_add, s2] at s3
  omega
end
section
/-! ===== molecules, listings ===== -/
def zMol (n : Nat) (B : Nat → Nat → Nat) : Prop := n ≤ 8 ∧ (∀ i j, i < 8 → j < 8 → B i j = B j i) ∧ (∀ i, i < 8 → B i i = 0) ∧ (∀ i j, i < 8 → j < 8 → n ≤ j → B i j = 0) ∧ zConn n (fun i j => B i j ≠ 0) ∧ zed B n ≤ n + 8
def zhs (be : Nat → Nat → Nat) (k j : Nat) : Nat → Bool
  | 0 => false
  | x + 1 => zhs be k j x || (decide (k ≤ x) && be j x != 0)
theorem zhs_t {be : Nat → Nat → Nat} {k j n : Nat} : zhs be k j n = true ↔ ∃ x, k ≤ x ∧ x < n ∧ be j x ≠ 0 := by
  induction n with
  | zero => exact ⟨fun h => Bool.noConfusion h, fun ⟨c, _, h, _⟩ => by omega⟩
  | succ n ih =>
    show (zhs be k j n || (decide (k ≤ n) && be j n != 0)) = true ↔ _
    rw [Bool.or_eq_true, ih, Bool.and_eq_true, decide_eq_true_iff, bne_iff_ne]
    constructor
    · rintro (⟨c, h1, h2, h3⟩ | ⟨h1, h2⟩)
      · exact ⟨c, h1, by omega, h3⟩
      · exact ⟨n, h1, by omega, h2⟩
    · rintro ⟨c, h1, h2, h3⟩
      by_cases e : c = n
      · right; rw [← e]; exact ⟨h1, h3⟩
      · left; exact ⟨c, h1, by omega, h3⟩
theorem zhs_f {be : Nat → Nat → Nat} {k j n : Nat} : zhs be k j n = false ↔ ∀ x, k ≤ x → x < n → be j x = 0 := by
  constructor
  · intro h x h1 h2
    apply Classical.byContradiction
    intro h3
    have := zhs_t.mpr ⟨x, h1, h2, h3⟩
    rw [h] at this; exact Bool.noConfusion this
  · intro h
    cases c : zhs be k j n
    · rfl
    · obtain ⟨x, h1, h2, h3⟩ := zhs_t.mp c
      exact absurd (h x h1 h2) h3
def zpg (be : Nat → Nat → Nat) (n k : Nat) : Nat → Nat
  | 0 => 0
  | j + 1 => if zhs be k j n = true then j + 1 else zpg be n k j
/-- 1 + the place of the parent of place k, 0 if there is none -/
def zpa (be : Nat → Nat → Nat) (n k : Nat) : Nat := zpg be n k k
theorem zpg_le {be : Nat → Nat → Nat} {n k j : Nat} : zpg be n k j ≤ j := by
  induction j with
  | zero => exact Nat.le_refl _
  | succ j ih =>
    show (if zhs be k j n = true then j + 1 else zpg be n k j) ≤ j + 1
    by_cases c : zhs be k j n = true
    · rw [if_pos c]; exact Nat.le_refl _
    · rw [if_neg c]; omega
theorem zpg_s {be : Nat → Nat → Nat} {n k j : Nat} (h : zpg be n k j ≠ 0) : zhs be k (zpg be n k j - 1) n = true ∧ ∀ e, zpg be n k j - 1 < e → e < j → zhs be k e n = false := by
  induction j with
  | zero => exact absurd rfl h
  | succ j ih =>
    cases c : zhs be k j n
    · have e1 : zpg be n k (j + 1) = zpg be n k j := if_neg (by rw [c]; exact Bool.noConfusion)
      rw [e1] at h ⊢
      obtain ⟨h1, h2⟩ := ih h
      refine ⟨h1, fun e he1 he2 => ?_⟩
      by_cases q : e = j
      · rw [q]; exact c
      · exact h2 e he1 (by omega)
    · have e1 : zpg be n k (j + 1) = j + 1 := if_pos c
      rw [e1]
      exact ⟨c, fun e he1 he2 => by omega⟩
theorem zpg_0 {be : Nat → Nat → Nat} {n k j : Nat} (h : zpg be n k j = 0) : ∀ e, e < j → zhs be k e n = false := by
  induction j with
  | zero => intro e he; omega
  | succ j ih =>
    cases c : zhs be k j n
    · have e1 : zpg be n k (j + 1) = zpg be n k j := if_neg (by rw [c]; exact Bool.noConfusion)
      rw [e1] at h
      intro e he
      by_cases q : e = j
      · rw [q]; exact c
      · exact ih h e (by omega)
    · have e1 : zpg be n k (j + 1) = j + 1 := if_pos c
      omega
theorem zpg_eq {be : Nat → Nat → Nat} {n k i : Nat} : ∀ j, i < j → zhs be k i n = true → (∀ e, i < e → e < j → zhs be k e n = false) → zpg be n k j = i + 1 := by
  intro j
  induction j with
  | zero => intro h; omega
  | succ j ih =>
    intro h1 h2 h3
    by_cases c : i = j
    · rw [← c]; exact if_pos h2
    · have : zhs be k j n = false := h3 j (by omega) (by omega)
      have e1 : zpg be n k (j + 1) = zpg be n k j := if_neg (by rw [this]; exact Bool.noConfusion)
      rw [e1]
      exact ih (by omega) h2 (fun e he1 he2 => h3 e he1 (by omega))
def zbp (B : Nat → Nat → Nat) (p : Nat → Nat) : Nat → Nat → Nat := fun j k => B (p j) (p k)
theorem zpa_pos {n : Nat} {B : Nat → Nat → Nat} {p : Nat → Nat} (hM : zMol n B) (hp : zP n p) {k : Nat} (h0 : 0 < k) (hk : k < n) : zpa (zbp B p) n k ≠ 0 := by
  intro h
  have h1 := zpg_0 h
  obtain ⟨m1, m2, m3, m4, m5, m6⟩ := hM
  have key := zConn_at (n := n) (A := fun i j => B i j ≠ 0) (fun i j hi hj q => by show B j i ≠ 0; rw [m2 j i (by omega) (by omega)]; exact q) m5 (fun y => ∃ i, i < k ∧ p i = y) (p 0) (hp.1 0 (by omega)) ⟨0, h0, rfl⟩ (by
    intro a b ha hb hab hsa
    obtain ⟨i, hi, ei⟩ := hsa
    obtain ⟨x, hx, ex⟩ := zP_surj n p hp b hb
    by_cases c : x < k
    · exact ⟨x, c, ex⟩
    · exfalso
      have := zhs_f.mp (h1 i hi) x (by omega) hx
      apply hab
      rw [← ei, ← ex]; exact this)
  obtain ⟨i, hi, ei⟩ := key (p k) (hp.1 k hk)
  have := hp.2 i k (by omega) hk ei
  omega
def zisL (n : Nat) (B : Nat → Nat → Nat) (p : Nat → Nat) : Prop := ∀ k, 0 < k → k < n → zpa (zbp B p) n k ≠ 0 ∧ zbp B p (zpa (zbp B p) n k - 1) k ≠ 0
theorem zisL_tree {n : Nat} {B : Nat → Nat → Nat} {p : Nat → Nat} (h : zisL n B p) : zTree n (zbp B p) (zpa (zbp B p) n) := by
  refine ⟨rfl, fun k h0 hk => ?_, fun k c h1 h2 h3 => ?_⟩
  · obtain ⟨a, b⟩ := h k h0 hk
    exact ⟨by omega, zpg_le, b⟩
  · have a : zpg (zbp B p) n c c = k + 1 := h3
    have b := (zpg_s (be := zbp B p) (n := n) (k := c) (j := c) (by omega)).1
    rw [a] at b
    obtain ⟨x, x1, x2, x3⟩ := zhs_t.mp b
    exact zpg_eq (k + 1) (by omega) (zhs_t.mpr ⟨x, by omega, x2, x3⟩) (fun e h1 h2 => by omega)
def zlp (n : Nat) (ka : Nat → Nat) (B : Nat → Nat → Nat) (p : Nat → Nat) : List Nat := zline n (fun k => ka (p k)) (zbp B p) (zpa (zbp B p) n)
/-- the number of closing brackets of an arrangement -/
def zcl2 (n : Nat) (B : Nat → Nat → Nat) (p : Nat → Nat) : Nat := zcc (zpa (zbp B p) n) (n - 1)
theorem zed_perm {n : Nat} {B : Nat → Nat → Nat} {p : Nat → Nat} (hM : zMol n B) (hp : zP n p) : zed (zbp B p) n = zed B n := by
  unfold zed
  exact zpr_perm (fun j k => if B j k = 0 then 0 else 1) n (fun j k hj hk => by have := hM.1; show (if B j k = 0 then 0 else 1) = (if B k j = 0 then 0 else 1); rw [hM.2.1 j k (by omega) (by omega)]) p hp
theorem zwt_perm {n : Nat} {B : Nat → Nat → Nat} {p : Nat → Nat} (hM : zMol n B) (hp : zP n p) : zwt (zbp B p) n = zwt B n := by
  unfold zwt
  exact zpr_perm (fun j k => zsl (B j k) + 2 * (if B j k = 0 then 0 else 1)) n (fun j k hj hk => by have := hM.1; show zsl (B j k) + 2 * (if B j k = 0 then 0 else 1) = zsl (B k j) + 2 * (if B k j = 0 then 0 else 1); rw [hM.2.1 j k (by omega) (by omega)]) p hp
theorem zlp_len {n : Nat} {ka : Nat → Nat} {B : Nat → Nat → Nat} {p : Nat → Nat} (hM : zMol n B) (hp : zP n p) (h0 : 0 < n) (hL : zisL n B p) : (zlp n ka B p).length + 2 * (n - 1) = n + 2 * zcl2 n B p + zwt B n := by
  obtain ⟨m, rfl⟩ : ∃ m, n = m + 1 := ⟨n - 1, by omega⟩
  rw [← zwt_perm hM hp]
  exact zlen (zisL_tree hL)
theorem zcc_le (pa : Nat → Nat) (k : Nat) : zcc pa k ≤ k := by
  have h := zs_le (f := fun i => if pa (i + 1) ≠ i + 1 then 1 else 0) (g := fun _ => 1) (n := k) (fun i _ => by
    show (if pa (i + 1) ≠ i + 1 then 1 else 0) ≤ 1
    by_cases c : pa (i + 1) ≠ i + 1
    · rw [if_pos c]; exact Nat.le_refl _
    · rw [if_neg c]; exact Nat.zero_le _)
  rw [zs_const] at h
  have : zcc pa k = zs (fun i => if pa (i + 1) ≠ i + 1 then 1 else 0) k := rfl
  omega
theorem zwt_le (B : Nat → Nat → Nat) (n : Nat) : zwt B n ≤ 3 * zed B n := by
  have e : 3 * zed B n = zpr (fun j k => 3 * (if B j k = 0 then 0 else 1)) n := by
    unfold zed zpr
    rw [← zs_mul]
    exact zs_congr (fun k _ => (zs_mul _ _ _).symm)
  rw [e]
  refine zpr_le (fun j k _ _ => ?_)
  by_cases c : B j k = 0
  · rw [if_pos c, c]; exact Nat.le_refl _
  · rw [if_neg c]; have := zsl_le (B j k); omega
theorem zlp_56 {n : Nat} {ka : Nat → Nat} {B : Nat → Nat → Nat} {p : Nat → Nat} (hM : zMol n B) (hp : zP n p) (h0 : 0 < n) (hL : zisL n B p) : (zlp n ka B p).length ≤ 56 := by
  have h1 := zlp_len (ka := ka) hM hp h0 hL
  have h2 : zcl2 n B p ≤ n - 1 := zcc_le _ _
  have h3 := zwt_le B n
  have h4 := hM.2.2.2.2.2
  have h5 := hM.1
  omega
theorem zod_9 {n : Nat} {B : Nat → Nat → Nat} {p : Nat → Nat} (hM : zMol n B) (hp : zP n p) (h0 : 0 < n) (hL : zisL n B p) : zod n (zbp B p) (zpa (zbp B p) n) n 0 ≤ 9 := by
  obtain ⟨m, rfl⟩ : ∃ m, n = m + 1 := ⟨n - 1, by omega⟩
  have h1 := zring (zisL_tree hL)
  rw [zed_perm hM hp] at h1
  have h4 := hM.2.2.2.2.2
  omega
/-! ===== the characters of a list ===== -/
def zat : List Nat → Nat → Nat
  | [], _ => 0
  | a :: _, 0 => a
  | _ :: t, i + 1 => zat t i
theorem zat_l {l t : List Nat} {i : Nat} (h : i < l.length) : zat (l ++ t) i = zat l i := by
  induction l generalizing i with
  | nil => exact absurd h (Nat.not_lt_zero _)
  | cons a l ih =>
    cases i with
    | zero => rfl
    | succ i => exact ih (Nat.lt_of_succ_lt_succ h)
theorem zat_e {l : List Nat} {c : Nat} : zat (l ++ [c]) l.length = c := by
  induction l with
  | nil => rfl
  | cons a l ih => exact ih
theorem zat_ext {l t : List Nat} (h : l.length = t.length) (e : ∀ i, i < l.length → zat l i = zat t i) : l = t := by
  induction l generalizing t with
  | nil => cases t with
    | nil => rfl
    | cons b t => exact absurd h (by simp)
  | cons a l ih => cases t with
    | nil => exact absurd h (by simp)
    | cons b t =>
      have h1 : a = b := e 0 (Nat.succ_pos _)
      have h2 : l = t := ih (Nat.succ.inj h) (fun i hi => e (i + 1) (Nat.succ_lt_succ hi))
      rw [h1, h2]
def zlx (l t : List Nat) : Prop := ∃ i, i < l.length ∧ (∀ j, j < i → zat l j = zat t j) ∧ zat l i < zat t i
def zless (l t : List Nat) : Prop := l.length < t.length ∨ (l.length = t.length ∧ zlx l t)
theorem zless_gt {l t : List Nat} {i : Nat} (h : l.length = t.length) (hi : i < l.length) (he : ∀ j, j < i → zat l j = zat t j) (hg : zat t i < zat l i) : ¬ zless l t ∧ l ≠ t := by
  refine ⟨?_, fun e => by rw [e] at hg; omega⟩
  rintro (a | ⟨_, j, j1, j2, j3⟩)
  · omega
  · rcases Nat.lt_trichotomy i j with c | c | c
    · have := j2 i c; omega
    · rw [c] at hg; omega
    · have := he j c; omega
theorem zless_lg {l t : List Nat} (h : t.length < l.length) : ¬ zless l t ∧ l ≠ t := by
  refine ⟨?_, fun e => by rw [e] at h; omega⟩
  rintro (a | ⟨a, _⟩) <;> omega
theorem zless_ir (l : List Nat) : ¬ zless l l := by
  rintro (a | ⟨_, j, j1, j2, j3⟩) <;> omega
theorem zF_pre {h : Nat → List Nat × (Nat → Nat) → List Nat × (Nat → Nat)} (e : ∀ a s, ∃ t, (h a s).1 = s.1 ++ t) (n : Nat) (s : List Nat × (Nat → Nat)) : ∃ t, (zF h n s).1 = s.1 ++ t := by
  induction n with
  | zero => exact ⟨[], (List.append_nil _).symm⟩
  | succ n ih =>
    obtain ⟨t, ht⟩ := ih
    obtain ⟨t', ht'⟩ := e n (zF h n s)
    exact ⟨t ++ t', by show (h n (zF h n s)).1 = _; rw [ht', ht, List.append_assoc]⟩
theorem zclh_pre (be : Nat → Nat → Nat) (pa : Nat → Nat) (k a : Nat) (s : List Nat × (Nat → Nat)) : ∃ t, (zclh be pa k a s).1 = s.1 ++ t := by
  unfold zclh
  by_cases c : zrb be pa a k = true
  · rw [if_pos c]; exact ⟨_, rfl⟩
  · rw [if_neg c]; exact ⟨[], (List.append_nil _).symm⟩
theorem zoph_pre (be : Nat → Nat → Nat) (pa : Nat → Nat) (k a : Nat) (s : List Nat × (Nat → Nat)) : ∃ t, (zoph be pa k a s).1 = s.1 ++ t := by
  unfold zoph
  by_cases c : k < a ∧ zrb be pa k a = true
  · rw [if_pos c]; exact ⟨_, List.append_assoc _ _ _⟩
  · rw [if_neg c]; exact ⟨[], (List.append_nil _).symm⟩
theorem zend_pre (pa : Nat → Nat) (n k : Nat) (s : List Nat × (Nat → Nat)) : ∃ t, (zend pa n k s).1 = s.1 ++ t := by
  unfold zend
  by_cases c : k + 1 < n ∧ pa (k + 1) ≠ k + 1
  · rw [if_pos c]; exact ⟨_, rfl⟩
  · rw [if_neg c]; exact ⟨[], (List.append_nil _).symm⟩
theorem zpl_pre (n : Nat) (ka : Nat → Nat) (be : Nat → Nat → Nat) (pa : Nat → Nat) (k : Nat) (s : List Nat × (Nat → Nat)) : ∃ t, (zpl n ka be pa k s).1 = (zhd be pa n k s.1 ++ [ka k]) ++ t := by
  unfold zpl
  obtain ⟨t1, e1⟩ := zend_pre pa n k (zF (zoph be pa k) n (zF (zclh be pa k) k (zhd be pa n k s.1 ++ [ka k], s.2)))
  obtain ⟨t2, e2⟩ := zF_pre (zoph_pre be pa k) n (zF (zclh be pa k) k (zhd be pa n k s.1 ++ [ka k], s.2))
  obtain ⟨t3, e3⟩ := zF_pre (zclh_pre be pa k) k (zhd be pa n k s.1 ++ [ka k], s.2)
  exact ⟨t3 ++ t2 ++ t1, by rw [e1, e2, e3]; simp [List.append_assoc]⟩
theorem zhd_pre (be : Nat → Nat → Nat) (pa : Nat → Nat) (n k : Nat) (l : List Nat) : ∃ t, zhd be pa n k l = l ++ t := by
  unfold zhd
  by_cases c : k = 0
  · rw [if_pos c]; exact ⟨[], (List.append_nil _).symm⟩
  · rw [if_neg c]
    by_cases d : zlat pa k n = true
    · rw [if_pos d]; exact ⟨_, List.append_assoc _ _ _⟩
    · rw [if_neg d]; exact ⟨_, rfl⟩
/-- the first letter -/
theorem zline_0 {n : Nat} (ka : Nat → Nat) (be : Nat → Nat → Nat) (pa : Nat → Nat) : ∀ k, ∃ t, (zlf n ka be pa (k + 1)).1 = ka 0 :: t := by
  intro k
  induction k with
  | zero =>
    obtain ⟨t, e⟩ := zpl_pre n ka be pa 0 ([], fun _ => 0)
    exact ⟨t, e⟩
  | succ k ih =>
    obtain ⟨t, e⟩ := ih
    obtain ⟨t1, e1⟩ := zpl_pre n ka be pa (k + 1) (zlf n ka be pa (k + 1))
    obtain ⟨t2, e2⟩ := zhd_pre be pa n (k + 1) (zlf n ka be pa (k + 1)).1
    refine ⟨t ++ t2 ++ [ka (k + 1)] ++ t1, ?_⟩
    show (zpl n ka be pa (k + 1) (zlf n ka be pa (k + 1))).1 = _
    rw [e1, e2, e]
    simp [List.append_assoc]
theorem zlp_0 {n : Nat} (ka : Nat → Nat) (B : Nat → Nat → Nat) (p : Nat → Nat) (h0 : 0 < n) : 0 < (zlp n ka B p).length ∧ zat (zlp n ka B p) 0 = ka (p 0) := by
  obtain ⟨m, rfl⟩ : ∃ m, n = m + 1 := ⟨n - 1, by omega⟩
  obtain ⟨t, e⟩ := zline_0 (n := m + 1) (fun k => ka (p k)) (zbp B p) (zpa (zbp B p) (m + 1)) m
  have e' : zlp (m + 1) ka B p = ka (p 0) :: t := e
  rw [e']
  exact ⟨Nat.succ_pos _, rfl⟩
/-! ===== all characters are small ===== -/
def zsm (l : List Nat) : Prop := ∀ x, x ∈ l → x < 128
theorem zsm_a {l t : List Nat} (h : zsm l) (h' : zsm t) : zsm (l ++ t) := fun x hx => by
  rcases List.mem_append.mp hx with c | c
  · exact h x c
  · exact h' x c
theorem zsm_1 {c : Nat} (h : c < 128) : zsm [c] := fun x hx => by
  have : x = c := by simpa using hx
  omega
theorem zsm_0 : zsm [] := fun x hx => by simp at hx
theorem zsm_sy (b : Nat) : zsm (zsy b) := by
  unfold zsy
  by_cases h : b = 2
  · rw [if_pos h]; exact zsm_1 (by decide)
  · rw [if_neg h]
    by_cases h3 : b = 3
    · rw [if_pos h3]; exact zsm_1 (by decide)
    · rw [if_neg h3]; exact zsm_0
theorem zfr_le (F : Nat → Nat) (c : Nat) : ∀ m d, zfr F c m d ≤ d + m := by
  intro m
  induction m with
  | zero => intro d; exact Nat.le_refl _
  | succ m ih =>
    intro d
    show (if F d = c then d else zfr F c m (d + 1)) ≤ _
    by_cases h : F d = c
    · rw [if_pos h]; omega
    · rw [if_neg h]; have := ih (d + 1); omega
theorem zfd_le (F : Nat → Nat) (c : Nat) : zfd F c ≤ 9 := zfr_le F c 8 1
theorem zF_sm {h : Nat → List Nat × (Nat → Nat) → List Nat × (Nat → Nat)} {n : Nat} (e : ∀ a s, a < n → zsm s.1 → zsm (h a s).1) (s : List Nat × (Nat → Nat)) (hs : zsm s.1) : zsm (zF h n s).1 := by
  induction n with
  | zero => exact hs
  | succ n ih => exact e n _ (by omega) (ih (fun a s ha => e a s (by omega)))
theorem zlp_sm {n : Nat} {ka : Nat → Nat} {B : Nat → Nat → Nat} {p : Nat → Nat} (hk : ∀ k, k < n → ka (p k) < 128) : zsm (zlp n ka B p) := by
  refine zF_sm (fun k s hkn hs => ?_) _ zsm_0
  unfold zpl
  have h1 : zsm (zhd (zbp B p) (zpa (zbp B p) n) n k s.1 ++ [ka (p k)]) := by
    refine zsm_a ?_ (zsm_1 (hk k hkn))
    unfold zhd
    by_cases c : k = 0
    · rw [if_pos c]; exact hs
    · rw [if_neg c]
      refine zsm_a ?_ (zsm_sy _)
      by_cases d : zlat (zpa (zbp B p) n) k n = true
      · rw [if_pos d]; exact zsm_a hs (zsm_1 (by decide))
      · rw [if_neg d]; exact hs
  have h2 := zF_sm (h := zclh (zbp B p) (zpa (zbp B p) n) k) (n := k) (fun a s _ hs => by
    unfold zclh
    by_cases c : zrb (zbp B p) (zpa (zbp B p) n) a k = true
    · rw [if_pos c]; exact zsm_a hs (zsm_1 (by have := zfd_le s.2 (1 + 8 * a + k); omega))
    · rw [if_neg c]; exact hs) (zhd (zbp B p) (zpa (zbp B p) n) n k s.1 ++ [ka (p k)], s.2) h1
  have h3 := zF_sm (h := zoph (zbp B p) (zpa (zbp B p) n) k) (n := n) (fun a s _ hs => by
    unfold zoph
    by_cases c : k < a ∧ zrb (zbp B p) (zpa (zbp B p) n) k a = true
    · rw [if_pos c]; exact zsm_a (zsm_a hs (zsm_sy _)) (zsm_1 (by have := zfd_le s.2 0; omega))
    · rw [if_neg c]; exact hs) _ h2
  unfold zend
  by_cases c : k + 1 < n ∧ zpa (zbp B p) n (k + 1) ≠ k + 1
  · rw [if_pos c]; exact zsm_a h3 (zsm_1 (by decide))
  · rw [if_neg c]; exact h3
theorem zsm_at {l : List Nat} (h : zsm l) {i : Nat} : zat l i < 128 := by
  induction l generalizing i with
  | nil => exact (by decide : 0 < 128)
  | cons a l ih =>
    cases i with
    | zero => exact h a (by simp)
    | succ i => exact ih (fun x hx => h x (by simp [hx]))
end
section
/-! ===== numbers, indices, bits ===== -/
theorem zi8 (a : Nat) : nI a * 8 = nI (a * 8) := pk_mul a 8
theorem zi64 (a : Nat) : nI a * 64 = nI (a * 64) := pk_mul a 64
theorem zix (m i j : Nat) : nI m * 64 + nI i * 8 + nI j = nI (m * 64 + i * 8 + j) := by rw [zi64, zi8, nI_add, nI_add]
theorem zkx (m i : Nat) : nI m * 8 + nI i = nI (m * 8 + i) := by rw [zi8, nI_add]
theorem zix_c {m i j : Nat} (hm : m < 4) (hi : i < 8) (hj : j < 8) : (nI m * 64 + nI i * 8 + nI j).toNatClampNeg = m * 64 + i * 8 + j := by
  rw [zix]; exact nI_clamp (by omega)
theorem zix_in {m i j : Nat} (hm : m < 4) (hi : i < 8) (hj : j < 8) : vp_in (nI m * 64 + nI i * 8 + nI j) 256 := by
  rw [zix]; exact vp_in_nI (by omega) (by decide)
theorem zkx_c {m i : Nat} (hm : m < 4) (hi : i < 8) : (nI m * 8 + nI i).toNatClampNeg = m * 8 + i := by
  rw [zkx]; exact nI_clamp (by omega)
theorem zkx_in {m i : Nat} (hm : m < 4) (hi : i < 8) : vp_in (nI m * 8 + nI i) 32 := by
  rw [zkx]; exact vp_in_nI (by omega) (by decide)
theorem zcl {n : Nat} (h : n < 1000000) : (nI n).toNatClampNeg = n := nI_clamp (by omega)
theorem zin {i n : Nat} (h : i < n) (hn : n < 1000000) : vp_in (nI i) n := vp_in_nI h (by omega)
theorem zm1 : (-1 : Int32) < 0 := by decide
theorem zm1n (a : Nat) (h : a < 1000000) : ¬ (-1 : Int32) = nI a := by
  intro e
  have := congrArg Int32.toInt e
  rw [nI_toInt (by omega)] at this
  have q : (-1 : Int32).toInt = -1 := by decide
  omega
/-- the clamp of an entry -/
def zc (a : Nat → Int32) (i : Nat) : Nat := (a i).toNatClampNeg
theorem zc_of {a : Nat → Int32} {i v : Nat} (h : a i = nI v) (hv : v < 1000000) : zc a i = v := by
  unfold zc; rw [h]; exact zcl hv
/-! ===== bits ===== -/
theorem zb1 : ∀ i, i < 32 → bt 1 i = decide (i = 0) := by decide +kernel
theorem zbsh : ∀ i, i < 32 → ∀ j, j < 32 → bt ((1 : Int32) <<< (nI i &&& 31)) j = decide (j = i) := by
  intro i hi j hj
  rw [b_shl i hi 1 hj]
  by_cases c : i ≤ j
  · rw [decide_eq_true c, Bool.true_and, zb1 (j - i) (by omega)]
    by_cases d : j = i
    · rw [decide_eq_true d, decide_eq_true (by omega)]
    · rw [decide_eq_false d, decide_eq_false (by omega)]
  · rw [decide_eq_false c, Bool.false_and, decide_eq_false (by omega)]
theorem zbtst {x : Int32} {i : Nat} (hi : i < 32) : ((x >>> (nI i &&& 31)) &&& 1) = 0 ↔ bt x i = false := by
  have h0 : bt ((x >>> (nI i &&& 31)) &&& 1) 0 = bt x i := by
    rw [b_and, b_sshr i hi x (by decide), Nat.add_zero, if_pos hi, zb1 0 (by decide), decide_eq_true rfl, Bool.and_true]
  constructor
  · intro h
    rw [← h0, h, b_0]
  · intro h
    apply b_ext
    intro j hj
    rw [b_0]
    by_cases c : j = 0
    · rw [c, h0, h]
    · rw [b_and, zb1 j hj, decide_eq_false c, Bool.and_false]
theorem zbnot {x : Int32} {i : Nat} (hi : i < 32) : bt (x ^^^ (-1)) i = !bt x i := by
  rw [b_xor, b_m1 i hi, Bool.xor_true]
theorem zb_z {x : Int32} (h : ∀ i, i < 32 → bt x i = false) : x = 0 := b_ext (fun i hi => by rw [h i hi, b_0])
theorem zb_nz {x : Int32} {i : Nat} (h : bt x i = true) : ¬ x = 0 := fun e => by rw [e, b_0] at h; exact Bool.noConfusion h
end
section
/-! ===== X: the small helpers ===== -/
section
variable {f_atomLimit f_ringLimit f_slotCount f_readState f_currentAtom f_pendingOrder f_branchDepth f_writtenLength f_writtenAtoms f_writtenCount f_bestClosed f_draftLength : Int32} {a_count a_kinds a_bonds a_branches a_ringAtom a_ringOrder a_line a_listing a_draft a_near a_place a_parent a_closed a_left a_pairDigit a_image a_signature a_nextSignature : Nat → Int32}
theorem zx_val {post : Int32 → Prop} (c : Int32) (h : post (zval c)) : wpX_valenceOf post (f_atomLimit, f_ringLimit, f_slotCount, f_readState, f_currentAtom, f_pendingOrder, f_branchDepth, f_writtenLength, f_writtenAtoms, f_writtenCount, f_bestClosed, f_draftLength, a_count, a_kinds, a_bonds, a_branches, a_ringAtom, a_ringOrder, a_line, a_listing, a_draft, a_near, a_place, a_parent, a_closed, a_left, a_pairDigit, a_image, a_signature, a_nextSignature) c := by
  unfold zval at h
  show ((c = 67 → _) ∧ _)
  by_cases h1 : c = 67
  · rw [if_pos h1] at h; exact br_t h1 h
  rw [if_neg h1] at h; refine br_f h1 ?_
  by_cases h2 : c = 66
  · rw [if_pos h2] at h; exact br_t h2 h
  rw [if_neg h2] at h; refine br_f h2 ?_
  by_cases h3 : c = 78
  · rw [if_pos h3] at h; exact br_t h3 h
  rw [if_neg h3] at h; refine br_f h3 ?_
  by_cases h4 : c = 79
  · rw [if_pos h4] at h; exact br_t h4 h
  rw [if_neg h4] at h; refine br_f h4 ?_
  by_cases h5 : c = 70
  · rw [if_pos h5] at h; exact br_t h5 h
  rw [if_neg h5] at h; exact br_f h5 h
theorem zx_free_l {post : Int32 → Prop} {m i : Nat} {K : Int32} (hm : m < 4) (hi : i < 8) (h : post (zfree K (fun j => a_bonds (m * 64 + i * 8 + j)) 8)) :
    ∀ d j n x, x = zfree K (fun j => a_bonds (m * 64 + i * 8 + j)) j → j + d = 8 → d < n → wX_freeValence_30 post (nI (m * 64 + i * 8)) f_atomLimit f_ringLimit f_slotCount f_readState f_currentAtom f_pendingOrder f_branchDepth f_writtenLength f_writtenAtoms f_writtenCount f_bestClosed f_draftLength a_count a_kinds a_bonds a_branches a_ringAtom a_ringOrder a_line a_listing a_draft a_near a_place a_parent a_closed a_left a_pairDigit a_image a_signature a_nextSignature n x (nI j) := by
  intro d
  induction d with
  | zero =>
    intro j n x ex hj hn
    obtain ⟨n, rfl⟩ : ∃ n', n = n' + 1 := ⟨n - 1, by omega⟩
    have : j = 8 := by omega
    subst this
    rw [ex]
    exact br_t (by decide) h
  | succ d ih =>
    intro j n x ex hj hn
    obtain ⟨n, rfl⟩ : ∃ n', n = n' + 1 := ⟨n - 1, by omega⟩
    refine br_f (nI_ge (b := 8) (by omega) (by decide)) ⟨by rw [nI_add]; exact vp_in_nI (by omega) (by decide), fun y ey => nm_r (nI_1 j) (ih (j + 1) n y ?_ (by omega) (by omega))⟩
    rw [ey, ex, nI_add, nI_clamp (by omega), zfree_s]
theorem zx_free {post : Int32 → Prop} {m i : Nat} (hm : m < 4) (hi : i < 8) (h : post (zfree (a_kinds (m * 8 + i)) (fun j => a_bonds (m * 64 + i * 8 + j)) 8)) : wpX_freeValence post (f_atomLimit, f_ringLimit, f_slotCount, f_readState, f_currentAtom, f_pendingOrder, f_branchDepth, f_writtenLength, f_writtenAtoms, f_writtenCount, f_bestClosed, f_draftLength, a_count, a_kinds, a_bonds, a_branches, a_ringAtom, a_ringOrder, a_line, a_listing, a_draft, a_near, a_place, a_parent, a_closed, a_left, a_pairDigit, a_image, a_signature, a_nextSignature) (nI m) (nI i) := by
  unfold wpX_freeValence
  dsimp only
  refine ⟨zkx_in hm hi, zx_val _ ?_⟩
  rw [zkx_c hm hi]
  refine nm_r (e' := nI (m * 64 + i * 8)) (by rw [zi64, zi8, nI_add]) ⟨9, ?_⟩
  exact zx_free_l hm hi h 8 0 9 _ (zfree_0 _ _).symm rfl (by decide)
end
end
section
/-! ===== arrays filled, copied; masks of neighbours; counts of bonds ===== -/
def zfill (a : Nat → Int32) (lo hi : Nat) (v : Int32) : Nat → Int32 := fun i => if lo ≤ i ∧ i < hi then v else a i
theorem zfill_0 (a : Nat → Int32) (lo : Nat) (v : Int32) : zfill a lo lo v = a := by
  funext i; exact if_neg (by omega)
theorem zfill_u {a : Nat → Int32} {lo j : Nat} {v : Int32} (h : lo ≤ j) (hj : j < 1000000) : upd (zfill a lo j v) (nI j).toNatClampNeg v = zfill a lo (j + 1) v := by
  rw [zcl hj]
  funext i
  by_cases c : i = j
  · rw [c, pk_us]; exact (if_pos ⟨h, by omega⟩).symm
  · rw [pk_un c]
    show (if lo ≤ i ∧ i < j then v else a i) = (if lo ≤ i ∧ i < j + 1 then v else a i)
    by_cases d : lo ≤ i ∧ i < j
    · rw [if_pos d, if_pos ⟨d.1, by omega⟩]
    · rw [if_neg d, if_neg (fun z => d ⟨z.1, by omega⟩)]
theorem zfill_t {a : Nat → Int32} {lo hi i : Nat} {v : Int32} (h1 : lo ≤ i) (h2 : i < hi) : zfill a lo hi v i = v := if_pos ⟨h1, h2⟩
theorem zfill_f {a : Nat → Int32} {lo hi i : Nat} {v : Int32} (h : i < lo ∨ hi ≤ i) : zfill a lo hi v i = a i := if_neg (by omega)
/-- len entries from src on copied to dst -/
def zcpy (a : Nat → Int32) (dst src len : Nat) : Nat → Int32 := fun i => if dst ≤ i ∧ i < dst + len then a (src + (i - dst)) else a i
theorem zcpy_0 (a : Nat → Int32) (dst src : Nat) : zcpy a dst src 0 = a := by
  funext i; exact if_neg (by omega)
theorem zcpy_t {a : Nat → Int32} {dst src len i : Nat} (h : i < len) : zcpy a dst src len (dst + i) = a (src + i) := by
  have e : dst + i - dst = i := by omega
  unfold zcpy
  rw [if_pos ⟨by omega, by omega⟩, e]
theorem zcpy_f {a : Nat → Int32} {dst src len i : Nat} (h : i < dst ∨ dst + len ≤ i) : zcpy a dst src len i = a i := if_neg (by omega)
theorem zcpy_u {a : Nat → Int32} {dst src len j : Nat} (h : j < len) (hs : dst + len ≤ src) (hb : src + len < 1000000) : upd (zcpy a dst src j) (nI (dst + j)).toNatClampNeg (zcpy a dst src j (nI (src + j)).toNatClampNeg) = zcpy a dst src (j + 1) := by
  rw [zcl (by omega), zcl (by omega)]
  funext i
  by_cases c : i = dst + j
  · rw [c, pk_us, zcpy_t (by omega), zcpy_f (by omega)]
  · rw [pk_un c]
    by_cases d : i < dst ∨ dst + j ≤ i
    · rw [zcpy_f d, zcpy_f (by omega)]
    · obtain ⟨t, rfl⟩ : ∃ t, i = dst + t := ⟨i - dst, by omega⟩
      rw [zcpy_t (by omega), zcpy_t (by omega)]
def zput (a : Nat → Int32) (m i j : Nat) (v : Int32) : Nat → Int32 := upd (upd a (m * 64 + i * 8 + j) v) (m * 64 + j * 8 + i) v
/-! ===== the mask of the nonzero entries ===== -/
def zmk (f : Nat → Int32) : Nat → Int32
  | 0 => 0
  | j + 1 => if f j = 0 then zmk f j else zmk f j ||| ((1 : Int32) <<< (nI j &&& 31))
theorem zdc {p q : Prop} [Decidable p] [Decidable q] (h : p ↔ q) : decide p = decide q := by
  by_cases c : p
  · rw [decide_eq_true c, decide_eq_true (h.1 c)]
  · rw [decide_eq_false c, decide_eq_false (fun z => c (h.2 z))]
theorem zmk_b {f : Nat → Int32} : ∀ j, j ≤ 32 → ∀ i, i < 32 → bt (zmk f j) i = (decide (i < j) && decide (f i ≠ 0)) := by
  intro j
  induction j with
  | zero => intro _ i hi; rw [decide_eq_false (by omega), Bool.false_and]; exact b_0 i
  | succ j ih =>
    intro hj i hi
    show bt (if f j = 0 then zmk f j else zmk f j ||| ((1 : Int32) <<< (nI j &&& 31))) i = _
    by_cases c : f j = 0
    · rw [if_pos c, ih (by omega) i hi]
      by_cases d : i = j
      · rw [d, decide_eq_false (p := j < j) (by omega), decide_eq_false (p := f j ≠ 0) (fun z => z c), Bool.and_false, Bool.and_false]
      · rw [zdc (p := i < j) (q := i < j + 1) (by omega)]
    · rw [if_neg c, b_or, ih (by omega) i hi, zbsh j (by omega) i hi]
      by_cases d : i = j
      · rw [d, decide_eq_true (p := j = j) rfl, Bool.or_true, decide_eq_true (p := j < j + 1) (by omega), decide_eq_true (p := f j ≠ 0) c]; rfl
      · rw [decide_eq_false d, Bool.or_false, zdc (p := i < j) (q := i < j + 1) (by omega)]
/-! ===== the number of bonds: entry (k, j) with j < k ===== -/
def zec (f : Nat → Nat → Int32) (n : Nat) : Nat := zs (fun k => zs (fun j => if f k j = 0 then 0 else 1) k) n
theorem zec_le (f : Nat → Nat → Int32) {n : Nat} (h : n ≤ 8) : zec f n ≤ 64 := by
  have h1 : zec f n ≤ zs (fun _ => 8) n := zs_le (fun k hk => by
    have h2 : zs (fun j => if f k j = 0 then 0 else 1) k ≤ zs (fun _ => 1) k := zs_le (fun j _ => by
      by_cases c : f k j = 0
      · rw [if_pos c]; exact Nat.zero_le _
      · rw [if_neg c]; exact Nat.le_refl _)
    rw [zs_const] at h2
    omega)
  rw [zs_const] at h1
  omega
def zrv (e n : Nat) : Int32 := (1 - nI n) + nI e
theorem zrv_s (e n : Nat) : zrv e n + 1 = zrv (e + 1) n := by
  unfold zrv; rw [nI_succ]; grind
theorem zrv_0 (n : Nat) : 1 - nI n = zrv 0 n := by
  unfold zrv; rw [nI_0, Int32.add_zero]
theorem zrv_y (e n : Nat) : nI e - nI n + 1 = zrv e n := by
  unfold zrv; grind
theorem zrv_i {e n : Nat} (he : e < 1000) (hn : n < 1000) : (zrv e n).toInt = 1 - (n : Int) + e := by
  have h1 : (zrv e n) = nI (1 + e) - nI n := by
    unfold zrv
    rw [← nI_add]
    have : nI 1 = 1 := rfl
    rw [this]; grind
  rw [h1, pk_sub_toInt (by omega) (by omega)]
  omega
end
section
/-! ===== X: bonds, reset, store ===== -/
section
variable {f_atomLimit f_ringLimit f_slotCount f_readState f_currentAtom f_pendingOrder f_branchDepth f_writtenLength f_writtenAtoms f_writtenCount f_bestClosed f_draftLength : Int32} {a_count a_kinds a_bonds a_branches a_ringAtom a_ringOrder a_line a_listing a_draft a_near a_place a_parent a_closed a_left a_pairDigit a_image a_signature a_nextSignature : Nat → Int32}
theorem zx_put {post : SX → Prop} {m i j : Nat} {v : Int32} (hm : m < 4) (hi : i < 8) (hj : j < 8) (h : post (f_atomLimit, f_ringLimit, f_slotCount, f_readState, f_currentAtom, f_pendingOrder, f_branchDepth, f_writtenLength, f_writtenAtoms, f_writtenCount, f_bestClosed, f_draftLength, a_count, a_kinds, zput a_bonds m i j v, a_branches, a_ringAtom, a_ringOrder, a_line, a_listing, a_draft, a_near, a_place, a_parent, a_closed, a_left, a_pairDigit, a_image, a_signature, a_nextSignature)) : wpX_putBond post (f_atomLimit, f_ringLimit, f_slotCount, f_readState, f_currentAtom, f_pendingOrder, f_branchDepth, f_writtenLength, f_writtenAtoms, f_writtenCount, f_bestClosed, f_draftLength, a_count, a_kinds, a_bonds, a_branches, a_ringAtom, a_ringOrder, a_line, a_listing, a_draft, a_near, a_place, a_parent, a_closed, a_left, a_pairDigit, a_image, a_signature, a_nextSignature) (nI m) (nI i) (nI j) v := by
  unfold wpX_putBond
  dsimp only
  refine ⟨zix_in hm hi hj, nm_r (e' := upd a_bonds (m * 64 + i * 8 + j) v) (by rw [zix_c hm hi hj]) ⟨zix_in hm hj hi, nm_r (e' := zput a_bonds m i j v) (by rw [zix_c hm hj hi]; rfl) h⟩⟩
theorem zx_rb_in {post : Int32 → Prop} {J : Int32 → Int32 → Prop} {m k c : Nat} {x2 : Int32} {N : Nat} (hm : m < 4) (hk : k < 8) (h : J (zrv (c + zs (fun j => if a_bonds (m * 64 + k * 8 + j) = 0 then 0 else 1) k) N) (nI (k + 1))) :
    ∀ d j, j + d = k → wX_ringBonds_23 post J (nI m) x2 (nI k) f_atomLimit f_ringLimit f_slotCount f_readState f_currentAtom f_pendingOrder f_branchDepth f_writtenLength f_writtenAtoms f_writtenCount f_bestClosed f_draftLength a_count a_kinds a_bonds a_branches a_ringAtom a_ringOrder a_line a_listing a_draft a_near a_place a_parent a_closed a_left a_pairDigit a_image a_signature a_nextSignature (d + 1) (zrv (c + zs (fun j => if a_bonds (m * 64 + k * 8 + j) = 0 then 0 else 1) j) N) (nI j) := by
  intro d
  induction d with
  | zero =>
    intro j hj
    have : j = k := by omega
    subst this
    exact br_t (nI_le (Nat.le_refl _) (by omega)) (nm_r (nI_1 j) h)
  | succ d ih =>
    intro j hj
    refine br_f (nI_ge (by omega) (by omega)) ⟨zix_in hm hk (by omega), ?_⟩
    have ih' := ih (j + 1) (by omega)
    rw [zs_s] at ih'
    rw [zix_c hm hk (by omega)]
    by_cases c0 : a_bonds (m * 64 + k * 8 + j) = 0
    · refine br_t c0 (nm_r (nI_1 j) ?_)
      rw [if_pos c0, Nat.add_zero] at ih'
      exact ih'
    · refine br_f c0 (nm_r (zrv_s _ _) (nm_r (nI_1 j) ?_))
      rw [if_neg c0, ← Nat.add_assoc] at ih'
      exact ih'
theorem zx_rb_out {post : Int32 → Prop} {m n : Nat} (hm : m < 4) (hn : n ≤ 8) (h : post (zrv (zec (fun k j => a_bonds (m * 64 + k * 8 + j)) n) n)) :
    ∀ d k, k + d = n → wX_ringBonds_14 post (nI m) (nI n) f_atomLimit f_ringLimit f_slotCount f_readState f_currentAtom f_pendingOrder f_branchDepth f_writtenLength f_writtenAtoms f_writtenCount f_bestClosed f_draftLength a_count a_kinds a_bonds a_branches a_ringAtom a_ringOrder a_line a_listing a_draft a_near a_place a_parent a_closed a_left a_pairDigit a_image a_signature a_nextSignature (d + 1) (zrv (zec (fun k j => a_bonds (m * 64 + k * 8 + j)) k) n) (nI k) := by
  intro d
  induction d with
  | zero =>
    intro k hk
    have : k = n := by omega
    subst this
    exact br_t (nI_le (Nat.le_refl _) (by omega)) h
  | succ d ih =>
    intro k hk
    refine br_f (nI_ge (by omega) (by omega)) ⟨k + 1, ?_⟩
    exact zx_rb_in hm (by omega) (ih (k + 1) (by omega)) k 0 (by omega)
theorem zx_rb {post : Int32 → Prop} {m n : Nat} (hm : m < 4) (hn : n ≤ 8) (hc : a_count m = nI n) (h : post (zrv (zec (fun k j => a_bonds (m * 64 + k * 8 + j)) n) n)) : wpX_ringBonds post (f_atomLimit, f_ringLimit, f_slotCount, f_readState, f_currentAtom, f_pendingOrder, f_branchDepth, f_writtenLength, f_writtenAtoms, f_writtenCount, f_bestClosed, f_draftLength, a_count, a_kinds, a_bonds, a_branches, a_ringAtom, a_ringOrder, a_line, a_listing, a_draft, a_near, a_place, a_parent, a_closed, a_left, a_pairDigit, a_image, a_signature, a_nextSignature) (nI m) := by
  unfold wpX_ringBonds
  dsimp only
  rw [zcl (show m < 1000000 by omega), hc]
  exact ⟨zin hm (by decide), nm_e (nm_r (zrv_0 n) ⟨n + 1, zx_rb_out hm hn h n 0 (by omega)⟩)⟩
theorem zx_nm_l {post : Int32 → Prop} {m i : Nat} (hm : m < 4) (hi : i < 8) (h : post (zmk (fun j => a_bonds (m * 64 + i * 8 + j)) 8)) :
    ∀ d j, j + d = 8 → wX_neighbourMask_5 post (nI m) (nI i) f_atomLimit f_ringLimit f_slotCount f_readState f_currentAtom f_pendingOrder f_branchDepth f_writtenLength f_writtenAtoms f_writtenCount f_bestClosed f_draftLength a_count a_kinds a_bonds a_branches a_ringAtom a_ringOrder a_line a_listing a_draft a_near a_place a_parent a_closed a_left a_pairDigit a_image a_signature a_nextSignature (d + 1) (zmk (fun j => a_bonds (m * 64 + i * 8 + j)) j) (nI j) := by
  intro d
  induction d with
  | zero =>
    intro j hj
    have : j = 8 := by omega
    subst this
    exact br_t (by decide) h
  | succ d ih =>
    intro j hj
    refine br_f (nI_ge (b := 8) (by omega) (by decide)) ⟨zix_in hm hi (by omega), ?_⟩
    rw [zix_c hm hi (by omega)]
    have ih' := ih (j + 1) (by omega)
    have e : zmk (fun j => a_bonds (m * 64 + i * 8 + j)) (j + 1) = if a_bonds (m * 64 + i * 8 + j) = 0 then zmk (fun j => a_bonds (m * 64 + i * 8 + j)) j else zmk (fun j => a_bonds (m * 64 + i * 8 + j)) j ||| ((1 : Int32) <<< (nI j &&& 31)) := rfl
    by_cases c0 : a_bonds (m * 64 + i * 8 + j) = 0
    · rw [e, if_pos c0] at ih'
      exact br_t c0 (nm_r (nI_1 j) ih')
    · rw [e, if_neg c0] at ih'
      exact br_f c0 (nm_e (nm_r (nI_1 j) ih'))
theorem zx_nm {post : Int32 → Prop} {m i : Nat} (hm : m < 4) (hi : i < 8) (h : post (zmk (fun j => a_bonds (m * 64 + i * 8 + j)) 8)) : wpX_neighbourMask post (f_atomLimit, f_ringLimit, f_slotCount, f_readState, f_currentAtom, f_pendingOrder, f_branchDepth, f_writtenLength, f_writtenAtoms, f_writtenCount, f_bestClosed, f_draftLength, a_count, a_kinds, a_bonds, a_branches, a_ringAtom, a_ringOrder, a_line, a_listing, a_draft, a_near, a_place, a_parent, a_closed, a_left, a_pairDigit, a_image, a_signature, a_nextSignature) (nI m) (nI i) := by
  unfold wpX_neighbourMask
  dsimp only
  exact ⟨9, zx_nm_l hm hi h 8 0 (by omega)⟩
/-! ===== reset ===== -/
theorem zx_rs75 {post : SX → Prop} (h : post (f_atomLimit, f_ringLimit, f_slotCount, f_readState, f_currentAtom, f_pendingOrder, f_branchDepth, f_writtenLength, f_writtenAtoms, f_writtenCount, f_bestClosed, f_draftLength, a_count, a_kinds, a_bonds, a_branches, zfill a_ringAtom 0 10 (-1), zfill a_ringOrder 0 10 0, a_line, a_listing, a_draft, a_near, a_place, a_parent, a_closed, a_left, a_pairDigit, a_image, a_signature, a_nextSignature)) :
    ∀ d j, j + d = 10 → wX_reset_75 post f_atomLimit f_ringLimit f_slotCount f_readState f_currentAtom f_pendingOrder f_branchDepth f_writtenLength f_writtenAtoms f_writtenCount f_bestClosed f_draftLength (d + 1) (nI j) a_count a_kinds a_bonds a_branches (zfill a_ringAtom 0 j (-1)) (zfill a_ringOrder 0 j 0) a_line a_listing a_draft a_near a_place a_parent a_closed a_left a_pairDigit a_image a_signature a_nextSignature := by
  intro d
  induction d with
  | zero =>
    intro j hj
    have : j = 10 := by omega
    subst this
    exact br_t (by decide) h
  | succ d ih =>
    intro j hj
    exact br_f (nI_ge (b := 10) (by omega) (by decide)) ⟨zin (by omega) (by decide), nm_r (zfill_u (by omega) (by omega)) ⟨zin (by omega) (by decide), nm_r (zfill_u (by omega) (by omega)) (nm_r (nI_1 j) (ih (j + 1) (by omega)))⟩⟩
theorem zx_rs33 {post : SX → Prop} (h : post (f_atomLimit, f_ringLimit, f_slotCount, 0, -1, 0, 0, f_writtenLength, f_writtenAtoms, f_writtenCount, f_bestClosed, f_draftLength, a_count, a_kinds, zfill a_bonds 192 256 0, a_branches, zfill a_ringAtom 0 10 (-1), zfill a_ringOrder 0 10 0, a_line, a_listing, a_draft, a_near, a_place, a_parent, a_closed, a_left, a_pairDigit, a_image, a_signature, a_nextSignature)) :
    ∀ d j, 192 ≤ j → j + d = 256 → wX_reset_33 post f_atomLimit f_ringLimit f_slotCount f_readState f_currentAtom f_pendingOrder f_branchDepth f_writtenLength f_writtenAtoms f_writtenCount f_bestClosed f_draftLength (d + 1) (nI j) a_count a_kinds (zfill a_bonds 192 j 0) a_branches a_ringAtom a_ringOrder a_line a_listing a_draft a_near a_place a_parent a_closed a_left a_pairDigit a_image a_signature a_nextSignature := by
  intro d
  induction d with
  | zero =>
    intro j hl hj
    have : j = 256 := by omega
    subst this
    refine br_t (by decide) ⟨11, ?_⟩
    have := zx_rs75 (a_bonds := zfill a_bonds 192 256 0) h 10 0 (by omega)
    rw [zfill_0, zfill_0] at this
    exact this
  | succ d ih =>
    intro j hl hj
    exact br_f (nI_ge (b := 256) (by omega) (by decide)) ⟨zin (by omega) (by decide), nm_r (zfill_u (by omega) (by omega)) (nm_r (nI_1 j) (ih (j + 1) (by omega) (by omega)))⟩
theorem zx_rs10 {post : SX → Prop} (h : post (f_atomLimit, f_ringLimit, f_slotCount, 0, -1, 0, 0, f_writtenLength, f_writtenAtoms, f_writtenCount, f_bestClosed, f_draftLength, a_count, zfill a_kinds 24 32 0, zfill a_bonds 192 256 0, a_branches, zfill a_ringAtom 0 10 (-1), zfill a_ringOrder 0 10 0, a_line, a_listing, a_draft, a_near, a_place, a_parent, a_closed, a_left, a_pairDigit, a_image, a_signature, a_nextSignature)) :
    ∀ d j, 24 ≤ j → j + d = 32 → wX_reset_10 post f_atomLimit f_ringLimit f_slotCount f_readState f_currentAtom f_pendingOrder f_branchDepth f_writtenLength f_writtenAtoms f_writtenCount f_bestClosed f_draftLength (d + 1) (nI j) a_count (zfill a_kinds 24 j 0) a_bonds a_branches a_ringAtom a_ringOrder a_line a_listing a_draft a_near a_place a_parent a_closed a_left a_pairDigit a_image a_signature a_nextSignature := by
  intro d
  induction d with
  | zero =>
    intro j hl hj
    have : j = 32 := by omega
    subst this
    refine br_t (by decide) ⟨65, ?_⟩
    have := zx_rs33 (f_readState := f_readState) (f_currentAtom := f_currentAtom) (f_pendingOrder := f_pendingOrder) (f_branchDepth := f_branchDepth) (a_kinds := zfill a_kinds 24 32 0) h 64 192 (by omega) (by omega)
    rw [zfill_0] at this
    exact this
  | succ d ih =>
    intro j hl hj
    exact br_f (nI_ge (b := 32) (by omega) (by decide)) ⟨zin (by omega) (by decide), nm_r (zfill_u (by omega) (by omega)) (nm_r (nI_1 j) (ih (j + 1) (by omega) (by omega)))⟩
theorem zx_reset {post : SX → Prop} (h : post (f_atomLimit, f_ringLimit, f_slotCount, 0, -1, 0, 0, f_writtenLength, f_writtenAtoms, f_writtenCount, f_bestClosed, f_draftLength, upd a_count 3 0, zfill a_kinds 24 32 0, zfill a_bonds 192 256 0, a_branches, zfill a_ringAtom 0 10 (-1), zfill a_ringOrder 0 10 0, a_line, a_listing, a_draft, a_near, a_place, a_parent, a_closed, a_left, a_pairDigit, a_image, a_signature, a_nextSignature)) : wpX_reset post (f_atomLimit, f_ringLimit, f_slotCount, f_readState, f_currentAtom, f_pendingOrder, f_branchDepth, f_writtenLength, f_writtenAtoms, f_writtenCount, f_bestClosed, f_draftLength, a_count, a_kinds, a_bonds, a_branches, a_ringAtom, a_ringOrder, a_line, a_listing, a_draft, a_near, a_place, a_parent, a_closed, a_left, a_pairDigit, a_image, a_signature, a_nextSignature) := by
  unfold wpX_reset
  dsimp only
  refine nm_e ⟨9, ?_⟩
  have := zx_rs10 (f_readState := f_readState) (f_currentAtom := f_currentAtom) (f_pendingOrder := f_pendingOrder) (f_branchDepth := f_branchDepth) h 8 24 (by omega) (by omega)
  rw [zfill_0] at this
  exact this
/-! ===== store ===== -/
theorem zx_st48 {post : SX → Prop} {s : Nat} (hs : s < 3) (h : post (f_atomLimit, f_ringLimit, f_slotCount, f_readState, f_currentAtom, f_pendingOrder, f_branchDepth, f_writtenLength, f_writtenAtoms, f_writtenCount, f_bestClosed, f_draftLength, a_count, a_kinds, zcpy a_bonds (s * 64) 192 64, a_branches, a_ringAtom, a_ringOrder, a_line, a_listing, a_draft, a_near, a_place, a_parent, a_closed, a_left, a_pairDigit, a_image, a_signature, a_nextSignature)) :
    ∀ d j, j + d = 64 → wX_storeReading_48 post (nI s) f_atomLimit f_ringLimit f_slotCount f_readState f_currentAtom f_pendingOrder f_branchDepth f_writtenLength f_writtenAtoms f_writtenCount f_bestClosed f_draftLength (d + 1) (nI j) a_count a_kinds (zcpy a_bonds (s * 64) 192 j) a_branches a_ringAtom a_ringOrder a_line a_listing a_draft a_near a_place a_parent a_closed a_left a_pairDigit a_image a_signature a_nextSignature := by
  intro d
  induction d with
  | zero =>
    intro j hj
    have : j = 64 := by omega
    subst this
    exact br_t (by decide) h
  | succ d ih =>
    intro j hj
    have e1 : (192 : Int32) + nI j = nI (192 + j) := nI_add 192 j
    have e2 : nI s * 64 + nI j = nI (s * 64 + j) := by rw [zi64, nI_add]
    refine br_f (nI_ge (b := 64) (by omega) (by decide)) ?_
    rw [e1, e2]
    exact ⟨zin (by omega) (by decide), zin (by omega) (by decide), nm_r (zcpy_u (len := 64) (by omega) (by omega) (by omega)) (nm_r (nI_1 j) (ih (j + 1) (by omega)))⟩
theorem zx_st14 {post : SX → Prop} {s : Nat} (hs : s < 3) (h : post (f_atomLimit, f_ringLimit, f_slotCount, f_readState, f_currentAtom, f_pendingOrder, f_branchDepth, f_writtenLength, f_writtenAtoms, f_writtenCount, f_bestClosed, f_draftLength, a_count, zcpy a_kinds (s * 8) 24 8, zcpy a_bonds (s * 64) 192 64, a_branches, a_ringAtom, a_ringOrder, a_line, a_listing, a_draft, a_near, a_place, a_parent, a_closed, a_left, a_pairDigit, a_image, a_signature, a_nextSignature)) :
    ∀ d j, j + d = 8 → wX_storeReading_14 post (nI s) f_atomLimit f_ringLimit f_slotCount f_readState f_currentAtom f_pendingOrder f_branchDepth f_writtenLength f_writtenAtoms f_writtenCount f_bestClosed f_draftLength (d + 1) (nI j) a_count (zcpy a_kinds (s * 8) 24 j) a_bonds a_branches a_ringAtom a_ringOrder a_line a_listing a_draft a_near a_place a_parent a_closed a_left a_pairDigit a_image a_signature a_nextSignature := by
  intro d
  induction d with
  | zero =>
    intro j hj
    have : j = 8 := by omega
    subst this
    refine br_t (by decide) ⟨65, ?_⟩
    have := zx_st48 (a_kinds := zcpy a_kinds (s * 8) 24 8) hs h 64 0 (by omega)
    rw [zcpy_0] at this
    exact this
  | succ d ih =>
    intro j hj
    have e1 : (24 : Int32) + nI j = nI (24 + j) := nI_add 24 j
    have e2 : nI s * 8 + nI j = nI (s * 8 + j) := by rw [zi8, nI_add]
    refine br_f (nI_ge (b := 8) (by omega) (by decide)) ?_
    rw [e1, e2]
    exact ⟨zin (by omega) (by decide), zin (by omega) (by decide), nm_r (zcpy_u (len := 8) (by omega) (by omega) (by omega)) (nm_r (nI_1 j) (ih (j + 1) (by omega)))⟩
theorem zx_store {post : SX → Prop} {s : Nat} (hs : s < 3) (h : post (f_atomLimit, f_ringLimit, f_slotCount, f_readState, f_currentAtom, f_pendingOrder, f_branchDepth, f_writtenLength, f_writtenAtoms, f_writtenCount, f_bestClosed, f_draftLength, upd a_count s (a_count 3), zcpy a_kinds (s * 8) 24 8, zcpy a_bonds (s * 64) 192 64, a_branches, a_ringAtom, a_ringOrder, a_line, a_listing, a_draft, a_near, a_place, a_parent, a_closed, a_left, a_pairDigit, a_image, a_signature, a_nextSignature)) : wpX_storeReading post (f_atomLimit, f_ringLimit, f_slotCount, f_readState, f_currentAtom, f_pendingOrder, f_branchDepth, f_writtenLength, f_writtenAtoms, f_writtenCount, f_bestClosed, f_draftLength, a_count, a_kinds, a_bonds, a_branches, a_ringAtom, a_ringOrder, a_line, a_listing, a_draft, a_near, a_place, a_parent, a_closed, a_left, a_pairDigit, a_image, a_signature, a_nextSignature) (nI s) := by
  unfold wpX_storeReading
  dsimp only
  refine ⟨zin (by omega) (by decide), nm_r (e' := upd a_count s (a_count 3)) (by rw [zcl (by omega)]) ⟨9, ?_⟩⟩
  have := zx_st14 (a_count := upd a_count s (a_count 3)) hs h 8 0 (by omega)
  rw [zcpy_0] at this
  exact this
end
end
section
/-! ===== Y: the small helpers ===== -/
/-- the entries of the table of bonds are 0 .. 3 -/
def zBd (a : Nat → Int32) : Prop := ∀ t, a t = nI (zc a t) ∧ zc a t ≤ 3
theorem zBd_z {a : Nat → Int32} (h : zBd a) (t : Nat) : a t = 0 ↔ zc a t = 0 := by
  have h1 := h t
  constructor
  · intro e; unfold zc; rw [e]; rfl
  · intro e; rw [h1.1, e]; rfl
theorem zBd_le {a : Nat → Int32} (h : zBd a) (t : Nat) : a t ≤ 0 ↔ a t = 0 := by
  have h1 := h t
  rw [zBd_z h, h1.1]
  exact (nI_leI (b := 0) (by omega) (by decide)).trans (by omega)
section
variable {f_maxAtoms f_maxRings f_slotCount f_st f_cur f_pend f_depth f_lineLen f_listingLen f_count f_candLen : Int32} {a_size a_kinds a_bonds a_stack a_ringAtom a_ringOrder a_line a_listing a_perm a_cand a_digitFrom a_digitTo a_reach : Nat → Int32}
theorem zy_val {post : Int32 → Prop} (c : Int32) (h : post (zval c)) : wpY_valence post (f_maxAtoms, f_maxRings, f_slotCount, f_st, f_cur, f_pend, f_depth, f_lineLen, f_listingLen, f_count, f_candLen, a_size, a_kinds, a_bonds, a_stack, a_ringAtom, a_ringOrder, a_line, a_listing, a_perm, a_cand, a_digitFrom, a_digitTo, a_reach) c := by
  unfold zval at h
  show ((c = 67 → _) ∧ _)
  by_cases h1 : c = 67
  · rw [if_pos h1] at h; exact br_t h1 h
  rw [if_neg h1] at h; refine br_f h1 ?_
  by_cases h2 : c = 66
  · rw [if_pos h2] at h; exact br_t h2 h
  rw [if_neg h2] at h; refine br_f h2 ?_
  by_cases h3 : c = 78
  · rw [if_pos h3] at h; exact br_t h3 h
  rw [if_neg h3] at h; refine br_f h3 ?_
  by_cases h4 : c = 79
  · rw [if_pos h4] at h; exact br_t h4 h
  rw [if_neg h4] at h; refine br_f h4 ?_
  by_cases h5 : c = 70
  · rw [if_pos h5] at h; exact br_t h5 h
  rw [if_neg h5] at h; exact br_f h5 h
theorem zy_get {post : Int32 → Prop} {m i j : Nat} (hm : m < 4) (hi : i < 8) (hj : j < 8) (h : post (a_bonds (m * 64 + i * 8 + j))) : wpY_get post (f_maxAtoms, f_maxRings, f_slotCount, f_st, f_cur, f_pend, f_depth, f_lineLen, f_listingLen, f_count, f_candLen, a_size, a_kinds, a_bonds, a_stack, a_ringAtom, a_ringOrder, a_line, a_listing, a_perm, a_cand, a_digitFrom, a_digitTo, a_reach) (nI m) (nI i) (nI j) := by
  unfold wpY_get
  dsimp only
  rw [zix_c hm hi hj]
  exact ⟨zix_in hm hi hj, h⟩
theorem zy_free_l {post : Int32 → Prop} {m i n : Nat} {K : Int32} (hm : m < 4) (hi : i < 8) (hn : n ≤ 8) (hc : a_size m = nI n) (h : post (zfree K (fun j => a_bonds (m * 64 + i * 8 + j)) n)) :
    ∀ d j x, x = zfree K (fun j => a_bonds (m * 64 + i * 8 + j)) j → j + d = n → wY_free_19 post (nI m) (nI i) f_maxAtoms f_maxRings f_slotCount f_st f_cur f_pend f_depth f_lineLen f_listingLen f_count f_candLen a_size a_kinds a_bonds a_stack a_ringAtom a_ringOrder a_line a_listing a_perm a_cand a_digitFrom a_digitTo a_reach (d + 1) x (nI j) := by
  intro d
  induction d with
  | zero =>
    intro j x ex hj
    have : j = n := by omega
    subst this
    refine ⟨zin hm (by decide), ?_⟩
    rw [zcl (by omega), hc, ex]
    exact br_t (nI_le (Nat.le_refl _) (by omega)) h
  | succ d ih =>
    intro j x ex hj
    refine ⟨zin hm (by decide), ?_⟩
    rw [zcl (show m < 1000000 by omega), hc]
    exact br_f (nI_ge (by omega) (by omega)) (zy_get hm hi (by omega) (fun y ey => nm_r (nI_1 j) (ih (j + 1) y (by rw [ey, ex, zfree_s]) (by omega))))
theorem zy_free {post : Int32 → Prop} {m i n : Nat} (hm : m < 4) (hi : i < 8) (hn : n ≤ 8) (hc : a_size m = nI n) (h : post (zfree (a_kinds (m * 8 + i)) (fun j => a_bonds (m * 64 + i * 8 + j)) n)) : wpY_free post (f_maxAtoms, f_maxRings, f_slotCount, f_st, f_cur, f_pend, f_depth, f_lineLen, f_listingLen, f_count, f_candLen, a_size, a_kinds, a_bonds, a_stack, a_ringAtom, a_ringOrder, a_line, a_listing, a_perm, a_cand, a_digitFrom, a_digitTo, a_reach) (nI m) (nI i) := by
  unfold wpY_free
  dsimp only
  refine ⟨zkx_in hm hi, zy_val _ ?_⟩
  rw [zkx_c hm hi]
  exact ⟨n + 1, zy_free_l hm hi hn hc h n 0 _ (zfree_0 _ _).symm (by omega)⟩
theorem zy_put {post : SY → Prop} {m i j : Nat} {v : Int32} (hm : m < 4) (hi : i < 8) (hj : j < 8) (h : post (f_maxAtoms, f_maxRings, f_slotCount, f_st, f_cur, f_pend, f_depth, f_lineLen, f_listingLen, f_count, f_candLen, a_size, a_kinds, zput a_bonds m i j v, a_stack, a_ringAtom, a_ringOrder, a_line, a_listing, a_perm, a_cand, a_digitFrom, a_digitTo, a_reach)) : wpY_put post (f_maxAtoms, f_maxRings, f_slotCount, f_st, f_cur, f_pend, f_depth, f_lineLen, f_listingLen, f_count, f_candLen, a_size, a_kinds, a_bonds, a_stack, a_ringAtom, a_ringOrder, a_line, a_listing, a_perm, a_cand, a_digitFrom, a_digitTo, a_reach) (nI m) (nI i) (nI j) v := by
  unfold wpY_put
  dsimp only
  refine ⟨zix_in hm hi hj, nm_r (e' := upd a_bonds (m * 64 + i * 8 + j) v) (by rw [zix_c hm hi hj]) ⟨zix_in hm hj hi, nm_r (e' := zput a_bonds m i j v) (by rw [zix_c hm hj hi]; rfl) h⟩⟩
theorem zy_rb_in {post : Int32 → Prop} {J : Int32 → Int32 → Prop} {m k c : Nat} (hb : zBd a_bonds) (hm : m < 4) (hk : k < 8) (h : J (nI (c + zs (fun j => if a_bonds (m * 64 + k * 8 + j) = 0 then 0 else 1) k)) (nI (k + 1))) :
    ∀ d j, j + d = k → wY_ringBonds_17 post J (nI m) (nI k) f_maxAtoms f_maxRings f_slotCount f_st f_cur f_pend f_depth f_lineLen f_listingLen f_count f_candLen a_size a_kinds a_bonds a_stack a_ringAtom a_ringOrder a_line a_listing a_perm a_cand a_digitFrom a_digitTo a_reach (d + 1) (nI (c + zs (fun j => if a_bonds (m * 64 + k * 8 + j) = 0 then 0 else 1) j)) (nI j) := by
  intro d
  induction d with
  | zero =>
    intro j hj
    have : j = k := by omega
    subst this
    exact br_t (nI_le (Nat.le_refl _) (by omega)) (nm_r (nI_1 j) h)
  | succ d ih =>
    intro j hj
    refine br_f (nI_ge (by omega) (by omega)) (zy_get hm hk (by omega) ?_)
    have ih' := ih (j + 1) (by omega)
    rw [zs_s] at ih'
    by_cases c0 : a_bonds (m * 64 + k * 8 + j) = 0
    · refine br_t ((zBd_le hb _).mpr c0) (nm_r (nI_1 j) ?_)
      rw [if_pos c0, Nat.add_zero] at ih'
      exact ih'
    · refine br_f (fun z => c0 ((zBd_le hb _).mp z)) (nm_r (nI_1 _) (nm_r (nI_1 j) ?_))
      rw [if_neg c0, ← Nat.add_assoc] at ih'
      exact ih'
theorem zy_rb_out {post : Int32 → Prop} {m n : Nat} (hb : zBd a_bonds) (hm : m < 4) (hn : n ≤ 8) (hc : a_size m = nI n) (h : post (zrv (zec (fun k j => a_bonds (m * 64 + k * 8 + j)) n) n)) :
    ∀ d k, k + d = n → wY_ringBonds_4 post (nI m) f_maxAtoms f_maxRings f_slotCount f_st f_cur f_pend f_depth f_lineLen f_listingLen f_count f_candLen a_size a_kinds a_bonds a_stack a_ringAtom a_ringOrder a_line a_listing a_perm a_cand a_digitFrom a_digitTo a_reach (d + 1) (nI (zec (fun k j => a_bonds (m * 64 + k * 8 + j)) k)) (nI k) := by
  intro d
  induction d with
  | zero =>
    intro k hk
    have : k = n := by omega
    subst this
    refine ⟨zin hm (by decide), ?_⟩
    rw [zcl (show m < 1000000 by omega), hc]
    refine br_t (nI_le (Nat.le_refl _) (by omega)) ⟨zin hm (by decide), ?_⟩
    rw [zrv_y]; exact h
  | succ d ih =>
    intro k hk
    refine ⟨zin hm (by decide), ?_⟩
    rw [zcl (show m < 1000000 by omega), hc]
    exact br_f (nI_ge (by omega) (by omega)) ⟨k + 1, zy_rb_in hb hm (by omega) (ih (k + 1) (by omega)) k 0 (by omega)⟩
theorem zy_rb {post : Int32 → Prop} {m n : Nat} (hb : zBd a_bonds) (hm : m < 4) (hn : n ≤ 8) (hc : a_size m = nI n) (h : post (zrv (zec (fun k j => a_bonds (m * 64 + k * 8 + j)) n) n)) : wpY_ringBonds post (f_maxAtoms, f_maxRings, f_slotCount, f_st, f_cur, f_pend, f_depth, f_lineLen, f_listingLen, f_count, f_candLen, a_size, a_kinds, a_bonds, a_stack, a_ringAtom, a_ringOrder, a_line, a_listing, a_perm, a_cand, a_digitFrom, a_digitTo, a_reach) (nI m) := by
  unfold wpY_ringBonds
  dsimp only
  exact ⟨n + 1, zy_rb_out hb hm hn hc h n 0 (by omega)⟩
/-! ===== reset ===== -/
theorem zy_rs53 {post : SY → Prop} (h : post (f_maxAtoms, f_maxRings, f_slotCount, f_st, f_cur, f_pend, f_depth, f_lineLen, f_listingLen, f_count, f_candLen, a_size, a_kinds, a_bonds, a_stack, zfill a_ringAtom 0 10 (-1), a_ringOrder, a_line, a_listing, a_perm, a_cand, a_digitFrom, a_digitTo, a_reach)) :
    ∀ d j, j + d = 10 → wY_reset_53 post f_maxAtoms f_maxRings f_slotCount f_st f_cur f_pend f_depth f_lineLen f_listingLen f_count f_candLen (d + 1) (nI j) a_size a_kinds a_bonds a_stack (zfill a_ringAtom 0 j (-1)) a_ringOrder a_line a_listing a_perm a_cand a_digitFrom a_digitTo a_reach := by
  intro d
  induction d with
  | zero =>
    intro j hj
    have : j = 10 := by omega
    subst this
    exact br_t (by decide) h
  | succ d ih =>
    intro j hj
    exact br_f (nI_ge (b := 10) (by omega) (by decide)) ⟨zin (by omega) (by decide), nm_r (zfill_u (by omega) (by omega)) (nm_r (nI_1 j) (ih (j + 1) (by omega)))⟩
theorem zy_rs11 {post : SY → Prop} (h : post (f_maxAtoms, f_maxRings, f_slotCount, 0, -1, 0, 0, f_lineLen, f_listingLen, f_count, f_candLen, a_size, a_kinds, zfill a_bonds 192 256 0, a_stack, zfill a_ringAtom 0 10 (-1), a_ringOrder, a_line, a_listing, a_perm, a_cand, a_digitFrom, a_digitTo, a_reach)) :
    ∀ d j, 192 ≤ j → j + d = 256 → wY_reset_11 post f_maxAtoms f_maxRings f_slotCount f_st f_cur f_pend f_depth f_lineLen f_listingLen f_count f_candLen (d + 1) (nI j) a_size a_kinds (zfill a_bonds 192 j 0) a_stack a_ringAtom a_ringOrder a_line a_listing a_perm a_cand a_digitFrom a_digitTo a_reach := by
  intro d
  induction d with
  | zero =>
    intro j hl hj
    have : j = 256 := by omega
    subst this
    refine br_t (by decide) ⟨11, ?_⟩
    have := zy_rs53 (a_bonds := zfill a_bonds 192 256 0) h 10 0 (by omega)
    rw [zfill_0] at this
    exact this
  | succ d ih =>
    intro j hl hj
    exact br_f (nI_ge (b := 256) (by omega) (by decide)) ⟨zin (by omega) (by decide), nm_r (zfill_u (by omega) (by omega)) (nm_r (nI_1 j) (ih (j + 1) (by omega) (by omega)))⟩
theorem zy_reset {post : SY → Prop} (h : post (f_maxAtoms, f_maxRings, f_slotCount, 0, -1, 0, 0, f_lineLen, f_listingLen, f_count, f_candLen, upd a_size 3 0, a_kinds, zfill a_bonds 192 256 0, a_stack, zfill a_ringAtom 0 10 (-1), a_ringOrder, a_line, a_listing, a_perm, a_cand, a_digitFrom, a_digitTo, a_reach)) : wpY_reset post (f_maxAtoms, f_maxRings, f_slotCount, f_st, f_cur, f_pend, f_depth, f_lineLen, f_listingLen, f_count, f_candLen, a_size, a_kinds, a_bonds, a_stack, a_ringAtom, a_ringOrder, a_line, a_listing, a_perm, a_cand, a_digitFrom, a_digitTo, a_reach) := by
  unfold wpY_reset
  dsimp only
  refine nm_e ⟨65, ?_⟩
  have := zy_rs11 (f_st := f_st) (f_cur := f_cur) (f_pend := f_pend) (f_depth := f_depth) h 64 192 (by omega) (by omega)
  rw [zfill_0] at this
  exact this
/-! ===== the end of finish ===== -/
theorem zy_fi124 {post : Int32 → SY → Prop} {s : Nat} (hs : s < 3) (h : post (upd a_size 3 0 s) (f_maxAtoms, f_maxRings, f_slotCount, 0, -1, 0, 0, f_lineLen, f_listingLen, f_count, f_candLen, upd a_size 3 0, a_kinds, zfill (zcpy a_bonds (s * 64) 192 64) 192 256 0, a_stack, zfill a_ringAtom 0 10 (-1), a_ringOrder, a_line, a_listing, a_perm, a_cand, a_digitFrom, a_digitTo, a_reach)) :
    ∀ d j, j + d = 64 → wY_finish_124 post (nI s) f_maxAtoms f_maxRings f_slotCount f_st f_cur f_pend f_depth f_lineLen f_listingLen f_count f_candLen (d + 1) (nI j) a_size a_kinds (zcpy a_bonds (s * 64) 192 j) a_stack a_ringAtom a_ringOrder a_line a_listing a_perm a_cand a_digitFrom a_digitTo a_reach := by
  intro d
  induction d with
  | zero =>
    intro j hj
    have : j = 64 := by omega
    subst this
    refine br_t (by decide) (zy_reset ⟨zin (by omega) (by decide), ?_⟩)
    rw [zcl (show s < 1000000 by omega)]
    exact h
  | succ d ih =>
    intro j hj
    have e1 : (192 : Int32) + nI j = nI (192 + j) := nI_add 192 j
    have e2 : nI s * 64 + nI j = nI (s * 64 + j) := by rw [zi64, nI_add]
    refine br_f (nI_ge (b := 64) (by omega) (by decide)) ?_
    rw [e1, e2]
    exact ⟨zin (by omega) (by decide), zin (by omega) (by decide), nm_r (zcpy_u (len := 64) (by omega) (by omega) (by omega)) (nm_r (nI_1 j) (ih (j + 1) (by omega)))⟩
theorem zy_fi90 {post : Int32 → SY → Prop} {s : Nat} (hs : s < 3) (h : post (upd a_size 3 0 s) (f_maxAtoms, f_maxRings, f_slotCount, 0, -1, 0, 0, f_lineLen, f_listingLen, f_count, f_candLen, upd a_size 3 0, zcpy a_kinds (s * 8) 24 8, zfill (zcpy a_bonds (s * 64) 192 64) 192 256 0, a_stack, zfill a_ringAtom 0 10 (-1), a_ringOrder, a_line, a_listing, a_perm, a_cand, a_digitFrom, a_digitTo, a_reach)) :
    ∀ d j, j + d = 8 → wY_finish_90 post (nI s) f_maxAtoms f_maxRings f_slotCount f_st f_cur f_pend f_depth f_lineLen f_listingLen f_count f_candLen (d + 1) (nI j) a_size (zcpy a_kinds (s * 8) 24 j) a_bonds a_stack a_ringAtom a_ringOrder a_line a_listing a_perm a_cand a_digitFrom a_digitTo a_reach := by
  intro d
  induction d with
  | zero =>
    intro j hj
    have : j = 8 := by omega
    subst this
    refine br_t (by decide) ⟨65, ?_⟩
    have := zy_fi124 (f_st := f_st) (f_cur := f_cur) (f_pend := f_pend) (f_depth := f_depth) (a_kinds := zcpy a_kinds (s * 8) 24 8) hs h 64 0 (by omega)
    rw [zcpy_0] at this
    exact this
  | succ d ih =>
    intro j hj
    have e1 : (24 : Int32) + nI j = nI (24 + j) := nI_add 24 j
    have e2 : nI s * 8 + nI j = nI (s * 8 + j) := by rw [zi8, nI_add]
    refine br_f (nI_ge (b := 8) (by omega) (by decide)) ?_
    rw [e1, e2]
    exact ⟨zin (by omega) (by decide), zin (by omega) (by decide), nm_r (zcpy_u (len := 8) (by omega) (by omega) (by omega)) (nm_r (nI_1 j) (ih (j + 1) (by omega)))⟩
end
end
section
/-! ===== the relation ===== -/
def zbm (a : Nat → Int32) (m : Nat) : Nat → Nat → Nat := fun i j => zc a (m * 64 + i * 8 + j)
def zLim (f_atomLimit f_ringLimit f_slotCount : Int32) : Prop := ∃ al rl sc, f_atomLimit = nI al ∧ 2 ≤ al ∧ al ≤ 8 ∧ f_ringLimit = nI rl ∧ rl ≤ 9 ∧ f_slotCount = nI sc ∧ 1 ≤ sc ∧ sc ≤ 3
def zSto (a_count a_kinds b_kinds a_bonds : Nat → Int32) : Prop :=
  zBd a_bonds ∧ (∀ m, m < 4 → a_count m = nI (zc a_count m) ∧ zMol (zc a_count m) (zbm a_bonds m)) ∧
  (∀ m i, m < 4 → i < zc a_count m → a_kinds (m * 8 + i) = b_kinds (m * 8 + i) ∧ a_kinds (m * 8 + i) = nI (zc a_kinds (m * 8 + i)) ∧ zc a_kinds (m * 8 + i) < 128)
def zRing (n : Nat) (a_ringAtom a_ringOrder b_ringOrder : Nat → Int32) : Prop :=
  ∀ d, 1 ≤ d → d ≤ 9 → a_ringAtom d = -1 ∨ ((∃ a, a_ringAtom d = nI a ∧ a < n) ∧ a_ringOrder d = b_ringOrder d ∧ ∃ o, o ≤ 3 ∧ a_ringOrder d = nI o)
def zCu (x : Int32) (n : Nat) : Prop := ∃ cu, x = nI cu ∧ cu < n
def zRd (f_atomLimit f_readState f_currentAtom f_pendingOrder f_branchDepth : Int32) (n : Nat) (a_branches : Nat → Int32) : Prop :=
  ∃ al st dp pe, f_atomLimit = nI al ∧ al ≤ 8 ∧ n ≤ al ∧ f_readState = nI st ∧ st ≤ 5 ∧ f_branchDepth = nI dp ∧ f_pendingOrder = nI pe ∧ pe ≤ 3 ∧ (st = 0 → n = 0) ∧ (st ≠ 0 → zCu f_currentAtom n) ∧ dp ≤ n ∧
   ((st = 1 ∨ st = 2 ∨ st = 4) → dp < n) ∧ (∀ i, i < dp → zCu (a_branches i) n)
def zWri (f_writtenLength f_writtenAtoms : Int32) (a_line b_line a_listing b_listing : Nat → Int32) : Prop :=
  ∃ ll la, f_writtenLength = nI ll ∧ ll ≤ 64 ∧ f_writtenAtoms = nI la ∧ la ≤ 8 ∧ (∀ i, i < ll → a_line i = b_line i) ∧ (∀ i, i < la → a_listing i = b_listing i)
def i_Rel (k : Nat) (u : SX) (v : SY) : Prop := match u, v with
  | (f_atomLimit, f_ringLimit, f_slotCount, f_readState, f_currentAtom, f_pendingOrder, f_branchDepth, f_writtenLength, f_writtenAtoms, f_writtenCount, f_bestClosed, f_draftLength, a_count, a_kinds, a_bonds, a_branches, a_ringAtom, a_ringOrder, a_line, a_listing, a_draft, a_near, a_place, a_parent, a_closed, a_left, a_pairDigit, a_image, a_signature, a_nextSignature), (f_maxAtomsq, f_maxRingsq, f_slotCountq, f_stq, f_curq, f_pendq, f_depthq, f_lineLenq, f_listingLenq, f_countq, f_candLenq, a_sizeq, a_kindsq, a_bondsq, a_stackq, a_ringAtomq, a_ringOrderq, a_lineq, a_listingq, a_permq, a_candq, a_digitFromq, a_digitToq, a_reachq) => (f_maxAtomsq = f_atomLimit ∧ f_maxRingsq = f_ringLimit ∧ f_slotCountq = f_slotCount ∧ f_stq = f_readState ∧ f_curq = f_currentAtom ∧ f_pendq = f_pendingOrder ∧ f_depthq = f_branchDepth ∧ f_lineLenq = f_writtenLength ∧ f_listingLenq = f_writtenAtoms ∧ f_countq = f_writtenCount
      ∧ a_sizeq = a_count ∧ a_bondsq = a_bonds ∧ a_stackq = a_branches ∧ a_ringAtomq = a_ringAtom)
     ∧ zLim f_atomLimit f_ringLimit f_slotCount ∧ zSto a_count a_kinds a_kindsq a_bonds ∧ zRing (zc a_count 3) a_ringAtom a_ringOrder a_ringOrderq
     ∧ zRd f_atomLimit f_readState f_currentAtom f_pendingOrder f_branchDepth (zc a_count 3) a_branches ∧ zWri f_writtenLength f_writtenAtoms a_line a_lineq a_listing a_listingq
theorem i_up {k : Nat} {u : SX} {v : SY} (h : i_Rel k u v) : i_Rel (k + 5) u v := h
theorem zz_el {P : SX → SY → Prop} {k : Nat} {u : SX} {v : SY}
    (h : ∀ f_atomLimit f_ringLimit f_slotCount f_readState f_currentAtom f_pendingOrder f_branchDepth f_writtenLength f_writtenAtoms f_writtenCount f_bestClosed f_draftLength a_count a_kinds a_bonds a_branches a_ringAtom a_ringOrder a_line a_listing a_draft a_near a_place a_parent a_closed a_left a_pairDigit a_image a_signature a_nextSignature f_candLen b_kinds b_ringOrder b_line b_listing a_perm a_cand a_digitFrom a_digitTo a_reach, zLim f_atomLimit f_ringLimit f_slotCount → zSto a_count a_kinds b_kinds a_bonds → zRing (zc a_count 3) a_ringAtom a_ringOrder b_ringOrder
     → zRd f_atomLimit f_readState f_currentAtom f_pendingOrder f_branchDepth (zc a_count 3) a_branches → zWri f_writtenLength f_writtenAtoms a_line b_line a_listing b_listing → P (f_atomLimit, f_ringLimit, f_slotCount, f_readState, f_currentAtom, f_pendingOrder, f_branchDepth, f_writtenLength, f_writtenAtoms, f_writtenCount, f_bestClosed, f_draftLength, a_count, a_kinds, a_bonds, a_branches, a_ringAtom, a_ringOrder, a_line, a_listing, a_draft, a_near, a_place, a_parent, a_closed, a_left, a_pairDigit, a_image, a_signature, a_nextSignature) (f_atomLimit, f_ringLimit, f_slotCount, f_readState, f_currentAtom, f_pendingOrder, f_branchDepth, f_writtenLength, f_writtenAtoms, f_writtenCount, f_candLen, a_count, b_kinds, a_bonds, a_branches, a_ringAtom, b_ringOrder, b_line, b_listing, a_perm, a_cand, a_digitFrom, a_digitTo, a_reach)) (I : i_Rel k u v) : P u v := by
  match u, v with
  | (f_atomLimit, f_ringLimit, f_slotCount, f_readState, f_currentAtom, f_pendingOrder, f_branchDepth, f_writtenLength, f_writtenAtoms, f_writtenCount, f_bestClosed, f_draftLength, a_count, a_kinds, a_bonds, a_branches, a_ringAtom, a_ringOrder, a_line, a_listing, a_draft, a_near, a_place, a_parent, a_closed, a_left, a_pairDigit, a_image, a_signature, a_nextSignature), (f_maxAtomsq, f_maxRingsq, f_slotCountq, f_stq, f_curq, f_pendq, f_depthq, f_lineLenq, f_listingLenq, f_countq, f_candLenq, a_sizeq, a_kindsq, a_bondsq, a_stackq, a_ringAtomq, a_ringOrderq, a_lineq, a_listingq, a_permq, a_candq, a_digitFromq, a_digitToq, a_reachq) =>
    obtain ⟨⟨e1, e2, e3, e4, e5, e6, e7, e8, e9, e10, e11, e12, e13, e14⟩, h1, h2, h3, h4, h5⟩ := I
    subst e1; subst e2; subst e3; subst e4; subst e5; subst e6; subst e7; subst e8; subst e9; subst e10; subst e11; subst e12; subst e13; subst e14
    exact h _ _ _ _ _ _ _ _ _ _ _ _ _ _ _ _ _ _ _ _ _ _ _ _ _ _ _ _ _ _ _ _ _ _ _ _ _ _ _ _ h1 h2 h3 h4 h5
section
variable {f_atomLimit f_ringLimit f_slotCount f_readState f_currentAtom f_pendingOrder f_branchDepth f_writtenLength f_writtenAtoms f_writtenCount f_bestClosed f_draftLength : Int32} {a_count a_kinds a_bonds a_branches a_ringAtom a_ringOrder a_line a_listing a_draft a_near a_place a_parent a_closed a_left a_pairDigit a_image a_signature a_nextSignature : Nat → Int32}
variable {f_candLen : Int32} {b_kinds b_ringOrder b_line b_listing a_perm a_cand a_digitFrom a_digitTo a_reach : Nat → Int32}
theorem zz_in {k : Nat} (h1 : zLim f_atomLimit f_ringLimit f_slotCount) (h2 : zSto a_count a_kinds b_kinds a_bonds) (h3 : zRing (zc a_count 3) a_ringAtom a_ringOrder b_ringOrder)
     (h4 : zRd f_atomLimit f_readState f_currentAtom f_pendingOrder f_branchDepth (zc a_count 3) a_branches) (h5 : zWri f_writtenLength f_writtenAtoms a_line b_line a_listing b_listing) : i_Rel k (f_atomLimit, f_ringLimit, f_slotCount, f_readState, f_currentAtom, f_pendingOrder, f_branchDepth, f_writtenLength, f_writtenAtoms, f_writtenCount, f_bestClosed, f_draftLength, a_count, a_kinds, a_bonds, a_branches, a_ringAtom, a_ringOrder, a_line, a_listing, a_draft, a_near, a_place, a_parent, a_closed, a_left, a_pairDigit, a_image, a_signature, a_nextSignature) (f_atomLimit, f_ringLimit, f_slotCount, f_readState, f_currentAtom, f_pendingOrder, f_branchDepth, f_writtenLength, f_writtenAtoms, f_writtenCount, f_candLen, a_count, b_kinds, a_bonds, a_branches, a_ringAtom, b_ringOrder, b_line, b_listing, a_perm, a_cand, a_digitFrom, a_digitTo, a_reach) :=
  ⟨⟨rfl, rfl, rfl, rfl, rfl, rfl, rfl, rfl, rfl, rfl, rfl, rfl, rfl, rfl⟩, h1, h2, h3, h4, h5⟩
end
end
section
/-! ===== what the edits do to a molecule ===== -/
theorem zMol_congr {n : Nat} {B B' : Nat → Nat → Nat} (e : ∀ i j, i < 8 → j < 8 → B' i j = B i j) (h : zMol n B) : zMol n B' := by
  obtain ⟨m1, m2, m3, m4, m5, m6⟩ := h
  refine ⟨m1, fun i j hi hj => by rw [e i j hi hj, e j i hj hi, m2 i j hi hj], fun i hi => by rw [e i i hi hi, m3 i hi], fun i j hi hj hn => by rw [e i j hi hj, m4 i j hi hj hn], ?_, ?_⟩
  · exact zConn_mono (fun i j hi hj h => by show B' i j ≠ 0; rw [e i j (by omega) (by omega)]; exact h) m5
  · have : zed B' n = zed B n := zpr_congr (fun j k hj hk => by rw [e j k (by omega) (by omega)])
    omega
theorem zMol_0 {B : Nat → Nat → Nat} (e : ∀ i j, i < 8 → j < 8 → B i j = 0) : zMol 0 B :=
  ⟨by omega, fun i j hi hj => by rw [e i j hi hj, e j i hj hi], fun i hi => e i i hi hi, fun i j hi hj _ => e i j hi hj, zConn_0 _, Nat.zero_le _⟩
theorem zMol_1 {B : Nat → Nat → Nat} (h : zMol 0 B) : zMol 1 B := by
  obtain ⟨m1, m2, m3, m4, m5, m6⟩ := h
  exact ⟨by omega, m2, m3, fun i j hi hj _ => m4 i j hi hj (by omega), zConn_1 _, Nat.zero_le _⟩
def zpt (B : Nat → Nat → Nat) (i j v : Nat) : Nat → Nat → Nat := fun x y => if (x = i ∧ y = j) ∨ (x = j ∧ y = i) then v else B x y
theorem zpt_t {B : Nat → Nat → Nat} {i j v x y : Nat} (h : (x = i ∧ y = j) ∨ (x = j ∧ y = i)) : zpt B i j v x y = v := if_pos h
theorem zpt_f {B : Nat → Nat → Nat} {i j v x y : Nat} (h : ¬ ((x = i ∧ y = j) ∨ (x = j ∧ y = i))) : zpt B i j v x y = B x y := if_neg h
theorem zpr_pt (a b n : Nat) : zpr (fun j k => if j = a ∧ k = b then 1 else 0) n ≤ 1 := by
  have h : zpr (fun j k => if j = a ∧ k = b then 1 else 0) n ≤ zs (fun k => if k = b then 1 else 0) n := by
    refine zs_le (fun k _ => ?_)
    by_cases c : k = b
    · rw [if_pos c]
      have : zs (fun j => if j = a ∧ k = b then 1 else 0) k = zs (fun j => if j = a then 1 else 0) k := zs_congr (fun j _ => by
        by_cases d : j = a
        · rw [if_pos d, if_pos ⟨d, c⟩]
        · rw [if_neg d, if_neg (fun z => d z.1)])
      rw [this, zs_pt]
      by_cases q : a < k
      · rw [if_pos q]; exact Nat.le_refl _
      · rw [if_neg q]; exact Nat.zero_le _
    · rw [if_neg c]
      exact Nat.le_of_eq (zs_zero (fun j _ => if_neg (fun z => c z.2)))
  rw [zs_pt] at h
  by_cases q : b < n
  · rw [if_pos q] at h; exact h
  · rw [if_neg q] at h; omega
theorem zed_put (B : Nat → Nat → Nat) (i j v n : Nat) : zed (zpt B i j v) n ≤ zed B n + 1 := by
  have key : ∀ a b, (a = i ∧ b = j) ∨ (a = j ∧ b = i) → a ≤ b → zed (zpt B i j v) n ≤ zed B n + 1 := by
    intro a b hab hle
    have h1 : zed (zpt B i j v) n ≤ zpr (fun x y => (if B x y = 0 then 0 else 1) + (if x = a ∧ y = b then 1 else 0)) n := by
      refine zpr_le (fun x y hx hy => ?_)
      by_cases c : (x = i ∧ y = j) ∨ (x = j ∧ y = i)
      · have : x = a ∧ y = b := by omega
        rw [if_pos this]
        by_cases d : zpt B i j v x y = 0
        · rw [if_pos d]; omega
        · rw [if_neg d]; omega
      · rw [zpt_f c]; omega
    rw [zpr_add] at h1
    have := zpr_pt a b n
    have e : zed B n = zpr (fun x y => if B x y = 0 then 0 else 1) n := rfl
    omega
  by_cases c : i ≤ j
  · exact key i j (Or.inl ⟨rfl, rfl⟩) c
  · exact key j i (Or.inr ⟨rfl, rfl⟩) (by omega)
theorem zed_put2 (B : Nat → Nat → Nat) (i j v n : Nat) (h : v = 0 ∨ (B i j ≠ 0 ∧ B j i ≠ 0)) : zed (zpt B i j v) n ≤ zed B n := by
  refine zpr_le (fun x y hx hy => ?_)
  by_cases c : (x = i ∧ y = j) ∨ (x = j ∧ y = i)
  · rw [zpt_t c]
    rcases h with h | h
    · rw [if_pos h]; exact Nat.zero_le _
    · have : B x y ≠ 0 := by
        rcases c with c | c
        · rw [c.1, c.2]; exact h.1
        · rw [c.1, c.2]; exact h.2
      rw [if_neg this]
      by_cases d : v = 0
      · rw [if_pos d]; exact Nat.zero_le _
      · rw [if_neg d]; exact Nat.le_refl _
  · rw [zpt_f c]; exact Nat.le_refl _
theorem zMol_put {n i j v : Nat} {B : Nat → Nat → Nat} (h : zMol n B) (hi : i < n) (hj : j < n) (hij : i ≠ j) (hc : v ≠ 0 ∨ zConn n (fun x y => zpt B i j v x y ≠ 0)) (he : zed (zpt B i j v) n ≤ n + 8) : zMol n (zpt B i j v) := by
  obtain ⟨m1, m2, m3, m4, m5, m6⟩ := h
  refine ⟨m1, fun x y hx hy => ?_, fun x hx => ?_, fun x y hx hy hn => ?_, ?_, he⟩
  · by_cases c : (x = i ∧ y = j) ∨ (x = j ∧ y = i)
    · rw [zpt_t c, zpt_t (by omega)]
    · rw [zpt_f c, zpt_f (by omega), m2 x y hx hy]
  · rw [zpt_f (by omega), m3 x hx]
  · rw [zpt_f (by omega), m4 x y hx hy hn]
  · rcases hc with hc | hc
    · refine zConn_mono (fun x y hx hy q => ?_) m5
      show zpt B i j v x y ≠ 0
      by_cases c : (x = i ∧ y = j) ∨ (x = j ∧ y = i)
      · rw [zpt_t c]; exact hc
      · rw [zpt_f c]; exact q
    · exact hc
theorem zMol_new {n c v : Nat} {B : Nat → Nat → Nat} (h : zMol n B) (hc : c < n) (hn : n < 8) (hv : v ≠ 0) : zMol (n + 1) (zpt B c n v) := by
  obtain ⟨m1, m2, m3, m4, m5, m6⟩ := h
  refine ⟨by omega, fun x y hx hy => ?_, fun x hx => ?_, fun x y hx hy hn => ?_, ?_, ?_⟩
  · by_cases d : (x = c ∧ y = n) ∨ (x = n ∧ y = c)
    · rw [zpt_t d, zpt_t (by omega)]
    · rw [zpt_f d, zpt_f (by omega), m2 x y hx hy]
  · rw [zpt_f (by omega), m3 x hx]
  · rw [zpt_f (by omega), m4 x y hx hy (by omega)]
  · refine zConn_new m5 hc (fun x y hx hy q => ?_) ?_
    · show zpt B c n v x y ≠ 0
      rw [zpt_f (by omega)]; exact q
    · show zpt B c n v c n ≠ 0
      rw [zpt_t (Or.inl ⟨rfl, rfl⟩)]; exact hv
  · have e1 : zed (zpt B c n v) (n + 1) = zed (zpt B c n v) n + zs (fun j => if zpt B c n v j n = 0 then 0 else 1) n := rfl
    have e2 : zed (zpt B c n v) n = zed B n := zpr_congr (fun j k hj hk => by rw [zpt_f (by omega)])
    have e3 : zs (fun j => if zpt B c n v j n = 0 then 0 else 1) n ≤ zs (fun j => if j = c then 1 else 0) n := zs_le (fun j hj => by
      by_cases d : j = c
      · rw [if_pos d]
        by_cases q : zpt B c n v j n = 0
        · rw [if_pos q]; omega
        · rw [if_neg q]; exact Nat.le_refl _
      · rw [zpt_f (by omega), m4 j n (by omega) hn (Nat.le_refl _), if_pos rfl]; exact Nat.zero_le _)
    rw [zs_pt, if_pos hc] at e3
    omega
/-- exchange of two numbers -/
def zsw (i j x : Nat) : Nat := if x = i then j else if x = j then i else x
theorem zsw_i (i j : Nat) : zsw i j i = j := if_pos rfl
theorem zsw_j (i j : Nat) : zsw i j j = i := by
  unfold zsw
  by_cases c : j = i
  · rw [if_pos c]; exact c
  · rw [if_neg c, if_pos rfl]
theorem zsw_n {i j x : Nat} (h1 : x ≠ i) (h2 : x ≠ j) : zsw i j x = x := by
  unfold zsw; rw [if_neg h1, if_neg h2]
theorem zsw_P {n i j : Nat} (hi : i < n) (hj : j < n) : zP n (zsw i j) := by
  refine ⟨fun x hx => ?_, fun x y hx hy e => ?_⟩
  · by_cases c : x = i
    · rw [c, zsw_i]; exact hj
    · by_cases d : x = j
      · rw [d, zsw_j]; exact hi
      · rw [zsw_n c d]; exact hx
  · unfold zsw at e
    by_cases c : x = i
    · rw [if_pos c] at e
      by_cases d : y = i
      · omega
      · rw [if_neg d] at e
        by_cases f : y = j
        · rw [if_pos f] at e; omega
        · rw [if_neg f] at e; omega
    · rw [if_neg c] at e
      by_cases d : y = i
      · rw [if_pos d] at e
        by_cases f : x = j
        · rw [if_pos f] at e; omega
        · rw [if_neg f] at e; omega
      · rw [if_neg d] at e
        by_cases f : x = j
        · rw [if_pos f] at e
          by_cases g : y = j
          · omega
          · rw [if_neg g] at e; omega
        · rw [if_neg f] at e
          by_cases g : y = j
          · rw [if_pos g] at e; omega
          · rw [if_neg g] at e; exact e
theorem zMol_sw {n i j : Nat} {B : Nat → Nat → Nat} (h : zMol n B) (hi : i < n) (hj : j < n) : zMol n (fun x y => B (zsw i j x) (zsw i j y)) := by
  have hM := h
  obtain ⟨m1, m2, m3, m4, m5, m6⟩ := h
  have hb : ∀ x, x < 8 → zsw i j x < 8 := (zsw_P (n := 8) (by omega) (by omega)).1
  refine ⟨m1, fun x y hx hy => m2 _ _ (hb x hx) (hb y hy), fun x hx => m3 _ (hb x hx), fun x y hx hy hn => m4 _ _ (hb x hx) (hb y hy) ?_, ?_, ?_⟩
  · rw [zsw_n (by omega) (by omega)]; exact hn
  · exact zConn_perm (A := fun i j => B i j ≠ 0) (zsw_P hi hj) (fun a b ha hb q => by show B b a ≠ 0; rw [m2 b a (by omega) (by omega)]; exact q) m5
  · have := zed_perm hM (zsw_P hi hj)
    have e : zed (zbp B (zsw i j)) n = zed (fun x y => B (zsw i j x) (zsw i j y)) n := rfl
    omega
/-! ===== the table after a put ===== -/
theorem zBd_upd {a : Nat → Int32} {k v : Nat} (h : zBd a) (hv : v ≤ 3) : zBd (upd a k (nI v)) := by
  intro t
  by_cases c : t = k
  · have e : upd a k (nI v) t = nI v := by rw [c]; exact pk_us
    have e2 : zc (upd a k (nI v)) t = v := zc_of e (by omega)
    rw [e2]; exact ⟨e, hv⟩
  · have e : upd a k (nI v) t = a t := pk_un c
    have e2 : zc (upd a k (nI v)) t = zc a t := by unfold zc; rw [e]
    rw [e2, e]; exact h t
theorem zBd_put {a : Nat → Int32} {m i j v : Nat} (h : zBd a) (hv : v ≤ 3) : zBd (zput a m i j (nI v)) := zBd_upd (zBd_upd h hv) hv
theorem zput_e {a : Nat → Int32} {m i j m' x y : Nat} {v : Int32} (hi : i < 8) (hj : j < 8) (hx : x < 8) (hy : y < 8) : zput a m i j v (m' * 64 + x * 8 + y) = if m' = m ∧ ((x = i ∧ y = j) ∨ (x = j ∧ y = i)) then v else a (m' * 64 + x * 8 + y) := by
  unfold zput
  by_cases c : m' * 64 + x * 8 + y = m * 64 + j * 8 + i
  · rw [c, pk_us, if_pos (by omega)]
  · rw [pk_un c]
    by_cases d : m' * 64 + x * 8 + y = m * 64 + i * 8 + j
    · rw [d, pk_us, if_pos (by omega)]
    · rw [pk_un d, if_neg (by omega)]
theorem zbm_put {a : Nat → Int32} {m i j v x y : Nat} (hi : i < 8) (hj : j < 8) (hv : v ≤ 3) (hx : x < 8) (hy : y < 8) : zbm (zput a m i j (nI v)) m x y = zpt (zbm a m) i j v x y := by
  unfold zbm
  by_cases c : (x = i ∧ y = j) ∨ (x = j ∧ y = i)
  · rw [zpt_t c]
    exact zc_of (by rw [zput_e hi hj hx hy, if_pos ⟨rfl, c⟩]) (by omega)
  · rw [zpt_f c]
    unfold zc
    rw [zput_e hi hj hx hy, if_neg (fun z => c z.2)]
theorem zbm_put' {a : Nat → Int32} {m m' i j x y : Nat} {v : Int32} (hm : m' ≠ m) (hi : i < 8) (hj : j < 8) (hx : x < 8) (hy : y < 8) : zbm (zput a m i j v) m' x y = zbm a m' x y := by
  unfold zbm zc
  rw [zput_e hi hj hx hy, if_neg (fun z => hm z.1)]
theorem zput_sw {a : Nat → Int32} {m i j : Nat} {v : Int32} (hi : i < 8) (hj : j < 8) : zput a m i j v = zput a m j i v := by
  unfold zput
  funext t
  by_cases c : t = m * 64 + j * 8 + i
  · by_cases d : t = m * 64 + i * 8 + j
    · rw [c, pk_us]
      rw [← c, d, pk_us]
    · rw [c, pk_us, pk_un (by omega), pk_us]
  · rw [pk_un c]
    by_cases d : t = m * 64 + i * 8 + j
    · rw [d, pk_us, pk_us]
    · rw [pk_un d, pk_un d, pk_un c]
/-- the number of bonds as both sides count it -/
theorem zec_ed {a : Nat → Int32} {m n : Nat} (hb : zBd a) (hM : zMol n (zbm a m)) : zec (fun k j => a (m * 64 + k * 8 + j)) n = zed (zbm a m) n := by
  have := hM.1
  refine zs_congr (fun k hk => zs_congr (fun j hj => ?_))
  show (if a (m * 64 + k * 8 + j) = 0 then 0 else 1) = (if zbm a m j k = 0 then 0 else 1)
  rw [hM.2.1 j k (by omega) (by omega)]
  have e : zbm a m k j = zc a (m * 64 + k * 8 + j) := rfl
  by_cases c : a (m * 64 + k * 8 + j) = 0
  · rw [if_pos c, if_pos (by rw [e]; exact (zBd_z hb _).mp c)]
  · rw [if_neg c, if_neg (by rw [e]; exact fun z => c ((zBd_z hb _).mpr z))]
end
section
/-! ===== what the edits do to the store of both ===== -/
theorem zc_us {a : Nat → Int32} {k v : Nat} (hv : v < 1000000) : zc (upd a k (nI v)) k = v := zc_of pk_us hv
theorem zc_un {a : Nat → Int32} {k j : Nat} {x : Int32} (h : j ≠ k) : zc (upd a k x) j = zc a j := by unfold zc; rw [pk_un h]
theorem zSto_reset {a_count a_kinds b_kinds a_bonds : Nat → Int32} (h : zSto a_count a_kinds b_kinds a_bonds) : zSto (upd a_count 3 0) (zfill a_kinds 24 32 0) b_kinds (zfill a_bonds 192 256 0) := by
  obtain ⟨s1, s2, s3⟩ := h
  refine ⟨fun t => ?_, fun m hm => ?_, fun m i hm hi => ?_⟩
  · by_cases c : 192 ≤ t ∧ t < 256
    · have e : zfill a_bonds 192 256 0 t = nI 0 := zfill_t c.1 c.2
      rw [zc_of e (by decide)]; exact ⟨e, by decide⟩
    · have e : zfill a_bonds 192 256 0 t = a_bonds t := zfill_f (by omega)
      have e2 : zc (zfill a_bonds 192 256 0) t = zc a_bonds t := by unfold zc; rw [e]
      rw [e2, e]; exact s1 t
  · by_cases c : m = 3
    · subst c
      have e : zc (upd a_count 3 0) 3 = 0 := zc_us (v := 0) (by decide)
      rw [e]
      refine ⟨pk_us, zMol_0 (fun i j hi hj => ?_)⟩
      exact zc_of (v := 0) (zfill_t (by omega) (by omega)) (by decide)
    · rw [zc_un c, pk_un c]
      refine ⟨(s2 m hm).1, zMol_congr (fun i j hi hj => ?_) (s2 m hm).2⟩
      unfold zbm zc
      rw [zfill_f (by omega)]
  · by_cases c : m = 3
    · subst c
      have e : zc (upd a_count 3 0) 3 = 0 := zc_us (v := 0) (by decide)
      omega
    · rw [zc_un c] at hi
      have := (s2 m hm).2.1
      have e : zfill a_kinds 24 32 0 (m * 8 + i) = a_kinds (m * 8 + i) := zfill_f (by omega)
      have e2 : zc (zfill a_kinds 24 32 0) (m * 8 + i) = zc a_kinds (m * 8 + i) := by unfold zc; rw [e]
      rw [e2, e]; exact s3 m i hm hi
theorem zSto_put {a_count a_kinds b_kinds a_bonds : Nat → Int32} {m i j v : Nat} (h : zSto a_count a_kinds b_kinds a_bonds) (hm : m < 4) (hi : i < 8) (hj : j < 8) (hv : v ≤ 3) (hM : zMol (zc a_count m) (zpt (zbm a_bonds m) i j v)) : zSto a_count a_kinds b_kinds (zput a_bonds m i j (nI v)) := by
  obtain ⟨s1, s2, s3⟩ := h
  refine ⟨zBd_put s1 hv, fun m' hm' => ⟨(s2 m' hm').1, ?_⟩, s3⟩
  by_cases c : m' = m
  · rw [c]; exact zMol_congr (fun x y hx hy => zbm_put hi hj hv hx hy) hM
  · exact zMol_congr (fun x y hx hy => zbm_put' c hi hj hx hy) (s2 m' hm').2
theorem zSto_letter {a_count a_kinds b_kinds a_bonds b' : Nat → Int32} {n c : Nat} (h : zSto a_count a_kinds b_kinds a_bonds) (hn : zc a_count 3 = n) (hn8 : n < 8) (hc : c < 128) (hb : zBd b') (ho : ∀ m, m < 3 → ∀ i j, i < 8 → j < 8 → zbm b' m i j = zbm a_bonds m i j) (hM : zMol (n + 1) (zbm b' 3)) :
    zSto (upd a_count 3 (nI (n + 1))) (upd a_kinds (24 + n) (nI c)) (upd b_kinds (24 + n) (nI c)) b' := by
  obtain ⟨s1, s2, s3⟩ := h
  refine ⟨hb, fun m hm => ?_, fun m i hm hi => ?_⟩
  · by_cases d : m = 3
    · subst d
      rw [zc_us (by omega)]
      exact ⟨pk_us, hM⟩
    · rw [zc_un d, pk_un d]
      exact ⟨(s2 m hm).1, zMol_congr (fun i j hi hj => ho m (by omega) i j hi hj) (s2 m hm).2⟩
  · by_cases e : m * 8 + i = 24 + n
    · rw [e, pk_us, pk_us, zc_us (by omega)]
      exact ⟨rfl, rfl, hc⟩
    · rw [pk_un e, pk_un e, zc_un e]
      by_cases d : m = 3
      · subst d
        rw [zc_us (by omega)] at hi
        exact s3 3 i hm (by omega)
      · rw [zc_un d] at hi
        exact s3 m i hm hi
theorem zSto_store {a_count a_kinds b_kinds a_bonds : Nat → Int32} {s : Nat} (h : zSto a_count a_kinds b_kinds a_bonds) (hs : s < 3) : zSto (upd a_count s (a_count 3)) (zcpy a_kinds (s * 8) 24 8) (zcpy b_kinds (s * 8) 24 8) (zcpy a_bonds (s * 64) 192 64) := by
  obtain ⟨s1, s2, s3⟩ := h
  have hcs : zc (upd a_count s (a_count 3)) s = zc a_count 3 := by unfold zc; rw [pk_us]
  refine ⟨fun t => ?_, fun m hm => ?_, fun m i hm hi => ?_⟩
  · by_cases c : s * 64 ≤ t ∧ t < s * 64 + 64
    · obtain ⟨x, rfl⟩ : ∃ x, t = s * 64 + x := ⟨t - s * 64, by omega⟩
      have e : zcpy a_bonds (s * 64) 192 64 (s * 64 + x) = a_bonds (192 + x) := zcpy_t (by omega)
      have e2 : zc (zcpy a_bonds (s * 64) 192 64) (s * 64 + x) = zc a_bonds (192 + x) := by unfold zc; rw [e]
      rw [e2, e]; exact s1 _
    · have e : zcpy a_bonds (s * 64) 192 64 t = a_bonds t := zcpy_f (by omega)
      have e2 : zc (zcpy a_bonds (s * 64) 192 64) t = zc a_bonds t := by unfold zc; rw [e]
      rw [e2, e]; exact s1 _
  · by_cases c : m = s
    · subst c
      rw [hcs, pk_us]
      refine ⟨(s2 3 (by decide)).1, zMol_congr (fun i j hi hj => ?_) (s2 3 (by decide)).2⟩
      unfold zbm zc
      have e : m * 64 + i * 8 + j = m * 64 + (i * 8 + j) := by omega
      have e3 : 3 * 64 + i * 8 + j = 192 + (i * 8 + j) := by omega
      rw [e, zcpy_t (by omega), e3]
    · rw [zc_un c, pk_un c]
      refine ⟨(s2 m hm).1, zMol_congr (fun i j hi hj => ?_) (s2 m hm).2⟩
      unfold zbm zc
      rw [zcpy_f (by omega)]
  · by_cases c : m = s
    · subst c
      rw [hcs] at hi
      have := (s2 3 (by decide)).2.1
      have e := s3 3 i (by decide) hi
      have f1 : zcpy a_kinds (m * 8) 24 8 (m * 8 + i) = a_kinds (24 + i) := zcpy_t (by omega)
      have f2 : zcpy b_kinds (m * 8) 24 8 (m * 8 + i) = b_kinds (24 + i) := zcpy_t (by omega)
      have f3 : zc (zcpy a_kinds (m * 8) 24 8) (m * 8 + i) = zc a_kinds (24 + i) := by unfold zc; rw [f1]
      rw [f3, f1, f2]; exact e
    · rw [zc_un c] at hi
      have := (s2 m hm).2.1
      have f1 : zcpy a_kinds (s * 8) 24 8 (m * 8 + i) = a_kinds (m * 8 + i) := zcpy_f (by omega)
      have f2 : zcpy b_kinds (s * 8) 24 8 (m * 8 + i) = b_kinds (m * 8 + i) := zcpy_f (by omega)
      have f3 : zc (zcpy a_kinds (s * 8) 24 8) (m * 8 + i) = zc a_kinds (m * 8 + i) := by unfold zc; rw [f1]
      rw [f3, f1, f2]; exact s3 m i hm hi
theorem zRing_none (n : Nat) (a o p : Nat → Int32) : zRing n (zfill a 0 10 (-1)) o p := fun d h1 h2 => Or.inl (zfill_t (by omega) (by omega))
theorem zRing_up {n n' : Nat} {a o p : Nat → Int32} (h : zRing n a o p) (hn : n ≤ n') : zRing n' a o p := fun d h1 h2 => by
  rcases h d h1 h2 with e | ⟨⟨x, e1, e2⟩, e3⟩
  · exact Or.inl e
  · exact Or.inr ⟨⟨x, e1, by omega⟩, e3⟩
theorem zRing_open {n d x o : Nat} {a r p : Nat → Int32} (h : zRing n a r p) (hx : x < n) (ho : o ≤ 3) : zRing n (upd a d (nI x)) (upd r d (nI o)) (upd p d (nI o)) := fun e h1 h2 => by
  by_cases c : e = d
  · rw [c, pk_us, pk_us, pk_us]; exact Or.inr ⟨⟨x, rfl, hx⟩, rfl, o, ho, rfl⟩
  · rw [pk_un c, pk_un c, pk_un c]; exact h e h1 h2
theorem zRing_shut {n d : Nat} {a r p : Nat → Int32} (h : zRing n a r p) : zRing n (upd a d (-1)) (upd r d 0) p := fun e h1 h2 => by
  by_cases c : e = d
  · rw [c, pk_us]; exact Or.inl rfl
  · rw [pk_un c, pk_un c]; exact h e h1 h2
/-- the free valence counts the same on both sides -/
theorem zfree_n {a : Nat → Int32} {m i n : Nat} {K : Int32} (hb : zBd a) (hM : zMol n (zbm a m)) (hi : i < 8) : zfree K (fun j => a (m * 64 + i * 8 + j)) 8 = zfree K (fun j => a (m * 64 + i * 8 + j)) n := by
  unfold zfree
  rw [zis_ext (fun j => a (m * 64 + i * 8 + j)) hM.1 (fun j h1 h2 => (zBd_z hb _).mpr (hM.2.2.2.1 i j hi h2 h1))]
end
section
/-! ===== reading ===== -/
def zOut (WX : (Int32 → SX → Prop) → Prop) (WY : (Int32 → SY → Prop) → Prop) : Prop := ∃ r u v, i_Rel 0 u v ∧ (∀ post : Int32 → SX → Prop, post r u → WX post) ∧ (∀ post : Int32 → SY → Prop, post r v → WY post)
theorem zRd_to {al rs cur pend dep : Int32} {n : Nat} {br : Nat → Int32} (h : zRd al rs cur pend dep n br) {st st' pe' : Nat} (e : rs = nI st) (hst : st < 1000) (h0 : st ≠ 0) (h5 : st' ≤ 5) (h0' : st' ≠ 0) (hd : (st' = 1 ∨ st' = 2 ∨ st' = 4) → (st = 1 ∨ st = 2 ∨ st = 4)) (hp : pe' ≤ 3) : zRd al (nI st') cur (nI pe') dep n br := by
  obtain ⟨l, s, d, p, h1, h2, h3, h4, h5', h6, h7, h8, h9, h10, h11, h12, h13⟩ := h
  have es : s = st := (nI_eq (by omega) (by omega)).mp (h4.symm.trans e)
  subst es
  exact ⟨l, st', d, pe', h1, h2, h3, rfl, h5, h6, rfl, hp, fun z => absurd z h0', fun _ => h10 h0, h11, fun z => h12 (hd z), h13⟩
section
variable {f_atomLimit f_ringLimit f_slotCount f_readState f_currentAtom f_pendingOrder f_branchDepth f_writtenLength f_writtenAtoms f_writtenCount f_bestClosed f_draftLength : Int32} {a_count a_kinds a_bonds a_branches a_ringAtom a_ringOrder a_line a_listing a_draft a_near a_place a_parent a_closed a_left a_pairDigit a_image a_signature a_nextSignature : Nat → Int32}
variable {f_candLen : Int32} {b_kinds b_ringOrder b_line b_listing a_perm a_cand a_digitFrom a_digitTo a_reach : Nat → Int32}
/-- a bond symbol -/
theorem zz_sym {c : Int32} {o : Nat} (h1 : zLim f_atomLimit f_ringLimit f_slotCount) (h2 : zSto a_count a_kinds b_kinds a_bonds) (h3 : zRing (zc a_count 3) a_ringAtom a_ringOrder b_ringOrder)
     (h4 : zRd f_atomLimit f_readState f_currentAtom f_pendingOrder f_branchDepth (zc a_count 3) a_branches) (h5 : zWri f_writtenLength f_writtenAtoms a_line b_line a_listing b_listing) (ho : 1 ≤ o) (ho3 : o ≤ 3) (h40 : c ≠ 40) (h41 : c ≠ 41) :
     zOut (fun post => wpX_readSymbol post (f_atomLimit, f_ringLimit, f_slotCount, f_readState, f_currentAtom, f_pendingOrder, f_branchDepth, f_writtenLength, f_writtenAtoms, f_writtenCount, f_bestClosed, f_draftLength, a_count, a_kinds, a_bonds, a_branches, a_ringAtom, a_ringOrder, a_line, a_listing, a_draft, a_near, a_place, a_parent, a_closed, a_left, a_pairDigit, a_image, a_signature, a_nextSignature) (nI o)) (fun post => wY_read_92 post c 0 0 (nI o) f_atomLimit f_ringLimit f_slotCount f_readState f_currentAtom f_pendingOrder f_branchDepth f_writtenLength f_writtenAtoms f_writtenCount f_candLen a_count b_kinds a_bonds a_branches a_ringAtom b_ringOrder b_line b_listing a_perm a_cand a_digitFrom a_digitTo a_reach) := by
  have n0 : ¬ nI o ≤ 0 := nI_nle (by omega) (by omega)
  by_cases s1 : f_readState = 1
  · refine ⟨0, (f_atomLimit, f_ringLimit, f_slotCount, 2, f_currentAtom, nI o, f_branchDepth, f_writtenLength, f_writtenAtoms, f_writtenCount, f_bestClosed, f_draftLength, a_count, a_kinds, a_bonds, a_branches, a_ringAtom, a_ringOrder, a_line, a_listing, a_draft, a_near, a_place, a_parent, a_closed, a_left, a_pairDigit, a_image, a_signature, a_nextSignature), (f_atomLimit, f_ringLimit, f_slotCount, 2, f_currentAtom, nI o, f_branchDepth, f_writtenLength, f_writtenAtoms, f_writtenCount, f_candLen, a_count, b_kinds, a_bonds, a_branches, a_ringAtom, b_ringOrder, b_line, b_listing, a_perm, a_cand, a_digitFrom, a_digitTo, a_reach), zz_in h1 h2 h3 (zRd_to (st := 1) (st' := 2) h4 s1 (by omega) (by omega) (by omega) (by omega) (by omega) ho3) h5, fun post p => ?_, fun post p => ?_⟩
    · exact br_t s1 (br_t s1 p)
    · exact br_f n0 (br_t s1 (br_f h40 (br_f h41 (br_t rfl (br_t rfl (br_t rfl (br_f n0 (br_t s1 p))))))))
  by_cases s3 : f_readState = 3
  · refine ⟨0, (f_atomLimit, f_ringLimit, f_slotCount, 5, f_currentAtom, nI o, f_branchDepth, f_writtenLength, f_writtenAtoms, f_writtenCount, f_bestClosed, f_draftLength, a_count, a_kinds, a_bonds, a_branches, a_ringAtom, a_ringOrder, a_line, a_listing, a_draft, a_near, a_place, a_parent, a_closed, a_left, a_pairDigit, a_image, a_signature, a_nextSignature), (f_atomLimit, f_ringLimit, f_slotCount, 5, f_currentAtom, nI o, f_branchDepth, f_writtenLength, f_writtenAtoms, f_writtenCount, f_candLen, a_count, b_kinds, a_bonds, a_branches, a_ringAtom, b_ringOrder, b_line, b_listing, a_perm, a_cand, a_digitFrom, a_digitTo, a_reach), zz_in h1 h2 h3 (zRd_to (st := 3) (st' := 5) h4 s3 (by omega) (by omega) (by omega) (by omega) (by omega) ho3) h5, fun post p => ?_, fun post p => ?_⟩
    · exact br_f s1 (br_t s3 (br_f s1 p))
    · exact br_f n0 (br_f s1 (br_t s3 (br_f h40 (br_f h41 (br_t rfl (br_t rfl (br_t rfl (br_f n0 (br_f s1 p)))))))))
  by_cases s4 : f_readState = 4
  · refine ⟨0, (f_atomLimit, f_ringLimit, f_slotCount, 5, f_currentAtom, nI o, f_branchDepth, f_writtenLength, f_writtenAtoms, f_writtenCount, f_bestClosed, f_draftLength, a_count, a_kinds, a_bonds, a_branches, a_ringAtom, a_ringOrder, a_line, a_listing, a_draft, a_near, a_place, a_parent, a_closed, a_left, a_pairDigit, a_image, a_signature, a_nextSignature), (f_atomLimit, f_ringLimit, f_slotCount, 5, f_currentAtom, nI o, f_branchDepth, f_writtenLength, f_writtenAtoms, f_writtenCount, f_candLen, a_count, b_kinds, a_bonds, a_branches, a_ringAtom, b_ringOrder, b_line, b_listing, a_perm, a_cand, a_digitFrom, a_digitTo, a_reach), zz_in h1 h2 h3 (zRd_to (st := 4) (st' := 5) h4 s4 (by omega) (by omega) (by omega) (by omega) (by omega) ho3) h5, fun post p => ?_, fun post p => ?_⟩
    · exact br_f s1 (br_f s3 (br_t s4 (br_f s1 p)))
    · exact br_f n0 (br_f s1 (br_f s3 (br_t s4 (br_f h40 (br_f h41 (br_t rfl (br_t rfl (br_t rfl (br_f n0 (br_f s1 p))))))))))
  · refine ⟨-2, (f_atomLimit, f_ringLimit, f_slotCount, f_readState, f_currentAtom, f_pendingOrder, f_branchDepth, f_writtenLength, f_writtenAtoms, f_writtenCount, f_bestClosed, f_draftLength, a_count, a_kinds, a_bonds, a_branches, a_ringAtom, a_ringOrder, a_line, a_listing, a_draft, a_near, a_place, a_parent, a_closed, a_left, a_pairDigit, a_image, a_signature, a_nextSignature), (f_atomLimit, f_ringLimit, f_slotCount, f_readState, f_currentAtom, f_pendingOrder, f_branchDepth, f_writtenLength, f_writtenAtoms, f_writtenCount, f_candLen, a_count, b_kinds, a_bonds, a_branches, a_ringAtom, b_ringOrder, b_line, b_listing, a_perm, a_cand, a_digitFrom, a_digitTo, a_reach), zz_in h1 h2 h3 h4 h5, fun post p => ?_, fun post p => ?_⟩
    · exact br_f s1 (br_f s3 (br_f s4 p))
    · exact br_f n0 (br_f s1 (br_f s3 (br_f s4 p)))
/-- an opening bracket -/
theorem zz_open (h1 : zLim f_atomLimit f_ringLimit f_slotCount) (h2 : zSto a_count a_kinds b_kinds a_bonds) (h3 : zRing (zc a_count 3) a_ringAtom a_ringOrder b_ringOrder)
     (h4 : zRd f_atomLimit f_readState f_currentAtom f_pendingOrder f_branchDepth (zc a_count 3) a_branches) (h5 : zWri f_writtenLength f_writtenAtoms a_line b_line a_listing b_listing) :
     zOut (fun post => wpX_readOpen post (f_atomLimit, f_ringLimit, f_slotCount, f_readState, f_currentAtom, f_pendingOrder, f_branchDepth, f_writtenLength, f_writtenAtoms, f_writtenCount, f_bestClosed, f_draftLength, a_count, a_kinds, a_bonds, a_branches, a_ringAtom, a_ringOrder, a_line, a_listing, a_draft, a_near, a_place, a_parent, a_closed, a_left, a_pairDigit, a_image, a_signature, a_nextSignature)) (fun post => wY_read_92 post 40 0 0 0 f_atomLimit f_ringLimit f_slotCount f_readState f_currentAtom f_pendingOrder f_branchDepth f_writtenLength f_writtenAtoms f_writtenCount f_candLen a_count b_kinds a_bonds a_branches a_ringAtom b_ringOrder b_line b_listing a_perm a_cand a_digitFrom a_digitTo a_reach) := by
  have key : ∀ st, f_readState = nI st → (st = 1 ∨ st = 4) → ∃ dp, f_branchDepth = nI dp ∧ dp < 8 ∧ zRd f_atomLimit 3 f_currentAtom f_pendingOrder (nI (dp + 1)) (zc a_count 3) (upd a_branches dp f_currentAtom) := by
    intro st e hst
    obtain ⟨l, s, d, p, g1, g2, g3, g4, g5, g6, g7, g8, g9, g10, g11, g12, g13⟩ := h4
    have es : s = st := (nI_eq (by omega) (by omega)).mp (g4.symm.trans e)
    subst es
    have hd := g12 (by omega)
    refine ⟨d, g6, by omega, l, 3, d + 1, p, g1, g2, g3, rfl, by omega, rfl, g7, g8, fun z => absurd z (by omega), fun _ => g10 (by omega), by omega, fun z => absurd z (by omega), fun i hi => ?_⟩
    by_cases c : i = d
    · rw [c, pk_us]; exact g10 (by omega)
    · rw [pk_un c]; exact g13 i (by omega)
  by_cases s1 : f_readState = 1
  · obtain ⟨d, e, hd, hr⟩ := key 1 s1 (by omega)
    refine ⟨0, (f_atomLimit, f_ringLimit, f_slotCount, 3, f_currentAtom, f_pendingOrder, nI (d + 1), f_writtenLength, f_writtenAtoms, f_writtenCount, f_bestClosed, f_draftLength, a_count, a_kinds, a_bonds, upd a_branches d f_currentAtom, a_ringAtom, a_ringOrder, a_line, a_listing, a_draft, a_near, a_place, a_parent, a_closed, a_left, a_pairDigit, a_image, a_signature, a_nextSignature), (f_atomLimit, f_ringLimit, f_slotCount, 3, f_currentAtom, f_pendingOrder, nI (d + 1), f_writtenLength, f_writtenAtoms, f_writtenCount, f_candLen, a_count, b_kinds, a_bonds, upd a_branches d f_currentAtom, a_ringAtom, b_ringOrder, b_line, b_listing, a_perm, a_cand, a_digitFrom, a_digitTo, a_reach), zz_in h1 h2 h3 hr h5, fun post p => ?_, fun post p => ?_⟩
    · refine br_t s1 ?_
      unfold wX_readOpen_19
      rw [e, zcl (by omega)]
      exact br_t (nI_lt (b := 8) hd (by decide)) ⟨zin hd (by decide), nm_e (nm_r (nI_1 d) p)⟩
    · refine br_t (by decide) (br_t rfl (br_t s1 (br_f (by decide) (br_t rfl (br_t rfl (br_t rfl (br_t (by decide) (br_t rfl ?_))))))))
      rw [e, zcl (by omega)]
      exact ⟨zin hd (by decide), nm_e (nm_r (nI_1 d) p)⟩
  by_cases s4 : f_readState = 4
  · obtain ⟨d, e, hd, hr⟩ := key 4 s4 (by omega)
    refine ⟨0, (f_atomLimit, f_ringLimit, f_slotCount, 3, f_currentAtom, f_pendingOrder, nI (d + 1), f_writtenLength, f_writtenAtoms, f_writtenCount, f_bestClosed, f_draftLength, a_count, a_kinds, a_bonds, upd a_branches d f_currentAtom, a_ringAtom, a_ringOrder, a_line, a_listing, a_draft, a_near, a_place, a_parent, a_closed, a_left, a_pairDigit, a_image, a_signature, a_nextSignature), (f_atomLimit, f_ringLimit, f_slotCount, 3, f_currentAtom, f_pendingOrder, nI (d + 1), f_writtenLength, f_writtenAtoms, f_writtenCount, f_candLen, a_count, b_kinds, a_bonds, upd a_branches d f_currentAtom, a_ringAtom, b_ringOrder, b_line, b_listing, a_perm, a_cand, a_digitFrom, a_digitTo, a_reach), zz_in h1 h2 h3 hr h5, fun post p => ?_, fun post p => ?_⟩
    · refine br_f s1 (br_t s4 ?_)
      unfold wX_readOpen_19
      rw [e, zcl (by omega)]
      exact br_t (nI_lt (b := 8) hd (by decide)) ⟨zin hd (by decide), nm_e (nm_r (nI_1 d) p)⟩
    · refine br_t (by decide) (br_t rfl (br_f s1 (br_t s4 (br_f (by decide) (br_t rfl (br_t rfl (br_t rfl (br_t (by decide) (br_t rfl ?_)))))))))
      rw [e, zcl (by omega)]
      exact ⟨zin hd (by decide), nm_e (nm_r (nI_1 d) p)⟩
  · refine ⟨-2, (f_atomLimit, f_ringLimit, f_slotCount, f_readState, f_currentAtom, f_pendingOrder, f_branchDepth, f_writtenLength, f_writtenAtoms, f_writtenCount, f_bestClosed, f_draftLength, a_count, a_kinds, a_bonds, a_branches, a_ringAtom, a_ringOrder, a_line, a_listing, a_draft, a_near, a_place, a_parent, a_closed, a_left, a_pairDigit, a_image, a_signature, a_nextSignature), (f_atomLimit, f_ringLimit, f_slotCount, f_readState, f_currentAtom, f_pendingOrder, f_branchDepth, f_writtenLength, f_writtenAtoms, f_writtenCount, f_candLen, a_count, b_kinds, a_bonds, a_branches, a_ringAtom, b_ringOrder, b_line, b_listing, a_perm, a_cand, a_digitFrom, a_digitTo, a_reach), zz_in h1 h2 h3 h4 h5, fun post p => ?_, fun post p => ?_⟩
    · exact br_f s1 (br_f s4 p)
    · exact br_t (by decide) (br_t rfl (br_f s1 (br_f s4 p)))
/-- a closing bracket -/
theorem zz_close (h1 : zLim f_atomLimit f_ringLimit f_slotCount) (h2 : zSto a_count a_kinds b_kinds a_bonds) (h3 : zRing (zc a_count 3) a_ringAtom a_ringOrder b_ringOrder)
     (h4 : zRd f_atomLimit f_readState f_currentAtom f_pendingOrder f_branchDepth (zc a_count 3) a_branches) (h5 : zWri f_writtenLength f_writtenAtoms a_line b_line a_listing b_listing) :
     zOut (fun post => wpX_readClose post (f_atomLimit, f_ringLimit, f_slotCount, f_readState, f_currentAtom, f_pendingOrder, f_branchDepth, f_writtenLength, f_writtenAtoms, f_writtenCount, f_bestClosed, f_draftLength, a_count, a_kinds, a_bonds, a_branches, a_ringAtom, a_ringOrder, a_line, a_listing, a_draft, a_near, a_place, a_parent, a_closed, a_left, a_pairDigit, a_image, a_signature, a_nextSignature)) (fun post => wY_read_92 post 41 0 0 0 f_atomLimit f_ringLimit f_slotCount f_readState f_currentAtom f_pendingOrder f_branchDepth f_writtenLength f_writtenAtoms f_writtenCount f_candLen a_count b_kinds a_bonds a_branches a_ringAtom b_ringOrder b_line b_listing a_perm a_cand a_digitFrom a_digitTo a_reach) := by
  have key : ∀ st, f_readState = nI st → (st = 1 ∨ st = 4) → (f_branchDepth = 0) ∨ ∃ dp, f_branchDepth = nI (dp + 1) ∧ dp < 8 ∧ zRd f_atomLimit 4 (a_branches dp) f_pendingOrder (nI dp) (zc a_count 3) a_branches := by
    intro st e hst
    obtain ⟨l, s, d, p, g1, g2, g3, g4, g5, g6, g7, g8, g9, g10, g11, g12, g13⟩ := h4
    have es : s = st := (nI_eq (by omega) (by omega)).mp (g4.symm.trans e)
    subst es
    have hd := g12 (by omega)
    cases d with
    | zero => exact Or.inl g6
    | succ d =>
      refine Or.inr ⟨d, g6, by omega, l, 4, d, p, g1, g2, g3, rfl, by omega, rfl, g7, g8, fun z => absurd z (by omega), fun _ => g13 d (by omega), by omega, fun z => by omega, fun i hi => g13 i (by omega)⟩
  have fin : ∀ d, f_branchDepth = nI (d + 1) → d < 8 → zRd f_atomLimit 4 (a_branches d) f_pendingOrder (nI d) (zc a_count 3) a_branches →
      (∀ WX : (Int32 → SX → Prop) → Prop, (∀ post, wX_readClose_19 post f_atomLimit f_ringLimit f_slotCount f_readState f_currentAtom f_pendingOrder f_branchDepth f_writtenLength f_writtenAtoms f_writtenCount f_bestClosed f_draftLength a_count a_kinds a_bonds a_branches a_ringAtom a_ringOrder a_line a_listing a_draft a_near a_place a_parent a_closed a_left a_pairDigit a_image a_signature a_nextSignature → WX post) → ∀ WY : (Int32 → SY → Prop) → Prop, (∀ post, wY_read_171 post 41 0 0 0 f_atomLimit f_ringLimit f_slotCount f_readState f_currentAtom f_pendingOrder f_branchDepth f_writtenLength f_writtenAtoms f_writtenCount f_candLen a_count b_kinds a_bonds a_branches a_ringAtom b_ringOrder b_line b_listing a_perm a_cand a_digitFrom a_digitTo a_reach → WY post) → zOut WX WY) := by
    intro d e hd hr WX hX WY hY
    refine ⟨0, (f_atomLimit, f_ringLimit, f_slotCount, 4, a_branches d, f_pendingOrder, nI d, f_writtenLength, f_writtenAtoms, f_writtenCount, f_bestClosed, f_draftLength, a_count, a_kinds, a_bonds, a_branches, a_ringAtom, a_ringOrder, a_line, a_listing, a_draft, a_near, a_place, a_parent, a_closed, a_left, a_pairDigit, a_image, a_signature, a_nextSignature), (f_atomLimit, f_ringLimit, f_slotCount, 4, a_branches d, f_pendingOrder, nI d, f_writtenLength, f_writtenAtoms, f_writtenCount, f_candLen, a_count, b_kinds, a_bonds, a_branches, a_ringAtom, b_ringOrder, b_line, b_listing, a_perm, a_cand, a_digitFrom, a_digitTo, a_reach), zz_in h1 h2 h3 hr h5, fun post p => hX post ?_, fun post p => hY post ?_⟩
    · unfold wX_readClose_19
      rw [e]
      refine br_t (nI_lt (a := 0) (by omega) (by omega)) (nm_r (nI_pred d) ⟨zin hd (by decide), ?_⟩)
      rw [zcl (by omega)]
      exact nm_e p
    · unfold wY_read_171 wY_read_181 wY_read_204
      rw [e]
      refine br_f (nI_ne0 (by omega) (by omega)) (br_t rfl (br_t rfl (br_t rfl (br_t (by decide) (br_f (by decide) (nm_r (nI_pred d) ⟨zin hd (by decide), ?_⟩))))))
      rw [zcl (by omega)]
      exact nm_e p
  have zero : f_branchDepth = 0 → (∀ WX : (Int32 → SX → Prop) → Prop, (∀ post, wX_readClose_19 post f_atomLimit f_ringLimit f_slotCount f_readState f_currentAtom f_pendingOrder f_branchDepth f_writtenLength f_writtenAtoms f_writtenCount f_bestClosed f_draftLength a_count a_kinds a_bonds a_branches a_ringAtom a_ringOrder a_line a_listing a_draft a_near a_place a_parent a_closed a_left a_pairDigit a_image a_signature a_nextSignature → WX post) → ∀ WY : (Int32 → SY → Prop) → Prop, (∀ post, wY_read_171 post 41 0 0 0 f_atomLimit f_ringLimit f_slotCount f_readState f_currentAtom f_pendingOrder f_branchDepth f_writtenLength f_writtenAtoms f_writtenCount f_candLen a_count b_kinds a_bonds a_branches a_ringAtom b_ringOrder b_line b_listing a_perm a_cand a_digitFrom a_digitTo a_reach → WY post) → zOut WX WY) := by
    intro e WX hX WY hY
    refine ⟨-2, (f_atomLimit, f_ringLimit, f_slotCount, f_readState, f_currentAtom, f_pendingOrder, f_branchDepth, f_writtenLength, f_writtenAtoms, f_writtenCount, f_bestClosed, f_draftLength, a_count, a_kinds, a_bonds, a_branches, a_ringAtom, a_ringOrder, a_line, a_listing, a_draft, a_near, a_place, a_parent, a_closed, a_left, a_pairDigit, a_image, a_signature, a_nextSignature), (f_atomLimit, f_ringLimit, f_slotCount, f_readState, f_currentAtom, f_pendingOrder, f_branchDepth, f_writtenLength, f_writtenAtoms, f_writtenCount, f_candLen, a_count, b_kinds, a_bonds, a_branches, a_ringAtom, b_ringOrder, b_line, b_listing, a_perm, a_cand, a_digitFrom, a_digitTo, a_reach), zz_in h1 h2 h3 h4 h5, fun post p => hX post ?_, fun post p => hY post ?_⟩
    · exact br_f (by rw [e]; decide) p
    · exact br_t e p
  by_cases s1 : f_readState = 1
  · have hX : ∀ post : Int32 → SX → Prop, wX_readClose_19 post f_atomLimit f_ringLimit f_slotCount f_readState f_currentAtom f_pendingOrder f_branchDepth f_writtenLength f_writtenAtoms f_writtenCount f_bestClosed f_draftLength a_count a_kinds a_bonds a_branches a_ringAtom a_ringOrder a_line a_listing a_draft a_near a_place a_parent a_closed a_left a_pairDigit a_image a_signature a_nextSignature → wpX_readClose post (f_atomLimit, f_ringLimit, f_slotCount, f_readState, f_currentAtom, f_pendingOrder, f_branchDepth, f_writtenLength, f_writtenAtoms, f_writtenCount, f_bestClosed, f_draftLength, a_count, a_kinds, a_bonds, a_branches, a_ringAtom, a_ringOrder, a_line, a_listing, a_draft, a_near, a_place, a_parent, a_closed, a_left, a_pairDigit, a_image, a_signature, a_nextSignature) := fun post q => br_t s1 q
    have hY : ∀ post : Int32 → SY → Prop, wY_read_171 post 41 0 0 0 f_atomLimit f_ringLimit f_slotCount f_readState f_currentAtom f_pendingOrder f_branchDepth f_writtenLength f_writtenAtoms f_writtenCount f_candLen a_count b_kinds a_bonds a_branches a_ringAtom b_ringOrder b_line b_listing a_perm a_cand a_digitFrom a_digitTo a_reach → wY_read_92 post 41 0 0 0 f_atomLimit f_ringLimit f_slotCount f_readState f_currentAtom f_pendingOrder f_branchDepth f_writtenLength f_writtenAtoms f_writtenCount f_candLen a_count b_kinds a_bonds a_branches a_ringAtom b_ringOrder b_line b_listing a_perm a_cand a_digitFrom a_digitTo a_reach := fun post q => br_t (by decide) (br_f (by decide) (br_t rfl (br_t s1 q)))
    rcases key 1 s1 (by omega) with e | ⟨d, e, hd, hr⟩
    · exact zero e _ hX _ hY
    · exact fin d e hd hr _ hX _ hY
  by_cases s4 : f_readState = 4
  · have hX : ∀ post : Int32 → SX → Prop, wX_readClose_19 post f_atomLimit f_ringLimit f_slotCount f_readState f_currentAtom f_pendingOrder f_branchDepth f_writtenLength f_writtenAtoms f_writtenCount f_bestClosed f_draftLength a_count a_kinds a_bonds a_branches a_ringAtom a_ringOrder a_line a_listing a_draft a_near a_place a_parent a_closed a_left a_pairDigit a_image a_signature a_nextSignature → wpX_readClose post (f_atomLimit, f_ringLimit, f_slotCount, f_readState, f_currentAtom, f_pendingOrder, f_branchDepth, f_writtenLength, f_writtenAtoms, f_writtenCount, f_bestClosed, f_draftLength, a_count, a_kinds, a_bonds, a_branches, a_ringAtom, a_ringOrder, a_line, a_listing, a_draft, a_near, a_place, a_parent, a_closed, a_left, a_pairDigit, a_image, a_signature, a_nextSignature) := fun post q => br_f s1 (br_t s4 q)
    have hY : ∀ post : Int32 → SY → Prop, wY_read_171 post 41 0 0 0 f_atomLimit f_ringLimit f_slotCount f_readState f_currentAtom f_pendingOrder f_branchDepth f_writtenLength f_writtenAtoms f_writtenCount f_candLen a_count b_kinds a_bonds a_branches a_ringAtom b_ringOrder b_line b_listing a_perm a_cand a_digitFrom a_digitTo a_reach → wY_read_92 post 41 0 0 0 f_atomLimit f_ringLimit f_slotCount f_readState f_currentAtom f_pendingOrder f_branchDepth f_writtenLength f_writtenAtoms f_writtenCount f_candLen a_count b_kinds a_bonds a_branches a_ringAtom b_ringOrder b_line b_listing a_perm a_cand a_digitFrom a_digitTo a_reach := fun post q => br_t (by decide) (br_f (by decide) (br_t rfl (br_f s1 (br_t s4 q))))
    rcases key 4 s4 (by omega) with e | ⟨d, e, hd, hr⟩
    · exact zero e _ hX _ hY
    · exact fin d e hd hr _ hX _ hY
  · refine ⟨-2, (f_atomLimit, f_ringLimit, f_slotCount, f_readState, f_currentAtom, f_pendingOrder, f_branchDepth, f_writtenLength, f_writtenAtoms, f_writtenCount, f_bestClosed, f_draftLength, a_count, a_kinds, a_bonds, a_branches, a_ringAtom, a_ringOrder, a_line, a_listing, a_draft, a_near, a_place, a_parent, a_closed, a_left, a_pairDigit, a_image, a_signature, a_nextSignature), (f_atomLimit, f_ringLimit, f_slotCount, f_readState, f_currentAtom, f_pendingOrder, f_branchDepth, f_writtenLength, f_writtenAtoms, f_writtenCount, f_candLen, a_count, b_kinds, a_bonds, a_branches, a_ringAtom, b_ringOrder, b_line, b_listing, a_perm, a_cand, a_digitFrom, a_digitTo, a_reach), zz_in h1 h2 h3 h4 h5, fun post p => ?_, fun post p => ?_⟩
    · exact br_f s1 (br_f s4 p)
    · exact br_t (by decide) (br_f (by decide) (br_t rfl (br_f s1 (br_f s4 p))))
end
end
section
/-! ===== reading: letters and digits ===== -/
section
variable {f_atomLimit f_ringLimit f_slotCount f_readState f_currentAtom f_pendingOrder f_branchDepth f_writtenLength f_writtenAtoms f_writtenCount f_bestClosed f_draftLength : Int32} {a_count a_kinds a_bonds a_branches a_ringAtom a_ringOrder a_line a_listing a_draft a_near a_place a_parent a_closed a_left a_pairDigit a_image a_signature a_nextSignature : Nat → Int32}
variable {f_candLen : Int32} {b_kinds b_ringOrder b_line b_listing a_perm a_cand a_digitFrom a_digitTo a_reach : Nat → Int32}
theorem zz_letter {c : Int32} {cv : Nat} (h1 : zLim f_atomLimit f_ringLimit f_slotCount) (h2 : zSto a_count a_kinds b_kinds a_bonds) (h3 : zRing (zc a_count 3) a_ringAtom a_ringOrder b_ringOrder)
     (h4 : zRd f_atomLimit f_readState f_currentAtom f_pendingOrder f_branchDepth (zc a_count 3) a_branches) (h5 : zWri f_writtenLength f_writtenAtoms a_line b_line a_listing b_listing) (hc : c = nI cv) (hcv : cv < 128) :
     zOut (fun post => wpX_readLetter post (f_atomLimit, f_ringLimit, f_slotCount, f_readState, f_currentAtom, f_pendingOrder, f_branchDepth, f_writtenLength, f_writtenAtoms, f_writtenCount, f_bestClosed, f_draftLength, a_count, a_kinds, a_bonds, a_branches, a_ringAtom, a_ringOrder, a_line, a_listing, a_draft, a_near, a_place, a_parent, a_closed, a_left, a_pairDigit, a_image, a_signature, a_nextSignature) c) (fun post => wpY_readAtom post (f_atomLimit, f_ringLimit, f_slotCount, f_readState, f_currentAtom, f_pendingOrder, f_branchDepth, f_writtenLength, f_writtenAtoms, f_writtenCount, f_candLen, a_count, b_kinds, a_bonds, a_branches, a_ringAtom, b_ringOrder, b_line, b_listing, a_perm, a_cand, a_digitFrom, a_digitTo, a_reach) c) := by
  have hS := h2
  obtain ⟨s1, s2, s3⟩ := h2
  have hn3 := s2 3 (by decide)
  have hk3 := s3 3
  obtain ⟨n, hn⟩ : ∃ n, zc a_count 3 = n := ⟨_, rfl⟩
  rw [hn] at hn3 h3 h4 hk3
  obtain ⟨hc3, hM⟩ := hn3
  have hR := h4
  obtain ⟨al, st, dp, pe, g1, g2, g3, g4, g5, g6, g7, g8, g9, g10, g11, g12, g13⟩ := h4
  have e24 : (24 : Int32) + nI n = nI (24 + n) := nI_add 24 n
  by_cases full : n < al
  · have lt : nI n < f_atomLimit := by rw [g1]; exact nI_lt full (by omega)
    have c24 : (nI (24 + n)).toNatClampNeg = 24 + n := zcl (by omega)
    have i24 : vp_in (nI (24 + n)) 32 := zin (by omega) (by decide)
    have cuUp : ∀ x, zCu x n → zCu x (n + 1) := fun x ⟨y, y1, y2⟩ => ⟨y, y1, by omega⟩
    have hRd : zRd f_atomLimit 1 (nI n) 0 f_branchDepth (zc (upd a_count 3 (nI (n + 1))) 3) a_branches := by
      rw [zc_us (by omega)]
      exact ⟨al, 1, dp, 0, g1, g2, by omega, rfl, by omega, g6, rfl, by omega, fun z => absurd z (by omega), fun _ => ⟨n, rfl, by omega⟩, by omega, fun _ => by omega, fun i hi => cuUp _ (g13 i hi)⟩
    have hRing : zRing (zc (upd a_count 3 (nI (n + 1))) 3) a_ringAtom a_ringOrder b_ringOrder := by
      rw [zc_us (by omega)]; exact zRing_up h3 (by omega)
    by_cases s0 : f_readState = 0
    · have es : st = 0 := (nI_eq (by omega) (by omega)).mp (g4.symm.trans s0)
      have n0 : n = 0 := g9 es
      have hSn : zSto (upd a_count 3 (nI (n + 1))) (upd a_kinds (24 + n) c) (upd b_kinds (24 + n) c) a_bonds := by
        rw [hc]
        refine zSto_letter hS hn (by omega) hcv s1 (fun _ _ _ _ _ _ => rfl) ?_
        rw [n0] at hM ⊢
        exact zMol_1 hM
      refine ⟨0, (f_atomLimit, f_ringLimit, f_slotCount, 1, nI n, 0, f_branchDepth, f_writtenLength, f_writtenAtoms, f_writtenCount, f_bestClosed, f_draftLength, upd a_count 3 (nI (n + 1)), upd a_kinds (24 + n) c, a_bonds, a_branches, a_ringAtom, a_ringOrder, a_line, a_listing, a_draft, a_near, a_place, a_parent, a_closed, a_left, a_pairDigit, a_image, a_signature, a_nextSignature), (f_atomLimit, f_ringLimit, f_slotCount, 1, nI n, 0, f_branchDepth, f_writtenLength, f_writtenAtoms, f_writtenCount, f_candLen, upd a_count 3 (nI (n + 1)), upd b_kinds (24 + n) c, a_bonds, a_branches, a_ringAtom, b_ringOrder, b_line, b_listing, a_perm, a_cand, a_digitFrom, a_digitTo, a_reach), zz_in h1 hSn hRing hRd h5, fun post p => ?_, fun post p => ?_⟩
      · refine nm_r hc3 (br_t lt (br_t s0 ?_))
        unfold wX_readLetter_80
        rw [e24, c24]
        exact ⟨i24, nm_e (nm_r (by rw [nI_1]) p)⟩
      · refine nm_r hc3 (br_t lt ?_)
        have key : ∀ z0, wY_readAtom_33 post c (nI n) z0 f_atomLimit f_ringLimit f_slotCount f_readState f_currentAtom f_pendingOrder f_branchDepth f_writtenLength f_writtenAtoms f_writtenCount f_candLen a_count b_kinds a_bonds a_branches a_ringAtom b_ringOrder b_line b_listing a_perm a_cand a_digitFrom a_digitTo a_reach := by
          intro z0
          refine br_t s0 ?_
          unfold wY_readAtom_66
          rw [e24, c24]
          exact ⟨i24, nm_e (nm_r (by rw [nI_1]) (br_t s0 p))⟩
        exact br_c (fun _ => key _) (fun _ => key _)
    · have es : st ≠ 0 := fun z => s0 (by rw [g4, z]; rfl)
      obtain ⟨cu, c1, c2⟩ := g10 es
      obtain ⟨o, ho1, ho3, hoX⟩ : ∃ o, 1 ≤ o ∧ o ≤ 3 ∧ ((f_pendingOrder = 0 ∧ o = 1) ∨ (¬ f_pendingOrder = 0 ∧ f_pendingOrder = nI o)) := by
        by_cases p0 : f_pendingOrder = 0
        · exact ⟨1, by omega, by omega, Or.inl ⟨p0, rfl⟩⟩
        · refine ⟨pe, ?_, g8, Or.inr ⟨p0, g7⟩⟩
          have : pe ≠ 0 := fun z => p0 (by rw [g7, z]; rfl)
          omega
      have hkc := hk3 cu (by decide) c2
      have hfr : zfree (b_kinds (3 * 8 + cu)) (fun j => a_bonds (3 * 64 + cu * 8 + j)) n = zfree (a_kinds (3 * 8 + cu)) (fun j => a_bonds (3 * 64 + cu * 8 + j)) 8 := by
        rw [← hkc.1, zfree_n s1 hM (by omega)]
      have hXr : ∀ post : Int32 → SX → Prop, wX_readLetter_40 post c (nI n) (nI o) f_atomLimit f_ringLimit f_slotCount f_readState f_currentAtom f_pendingOrder f_branchDepth f_writtenLength f_writtenAtoms f_writtenCount f_bestClosed f_draftLength a_count a_kinds a_bonds a_branches a_ringAtom a_ringOrder a_line a_listing a_draft a_near a_place a_parent a_closed a_left a_pairDigit a_image a_signature a_nextSignature → wpX_readLetter post (f_atomLimit, f_ringLimit, f_slotCount, f_readState, f_currentAtom, f_pendingOrder, f_branchDepth, f_writtenLength, f_writtenAtoms, f_writtenCount, f_bestClosed, f_draftLength, a_count, a_kinds, a_bonds, a_branches, a_ringAtom, a_ringOrder, a_line, a_listing, a_draft, a_near, a_place, a_parent, a_closed, a_left, a_pairDigit, a_image, a_signature, a_nextSignature) c := by
        intro post q
        refine nm_r hc3 (br_t lt (br_f s0 ?_))
        rcases hoX with ⟨p0, rfl⟩ | ⟨p0, e⟩
        · exact br_t p0 q
        · refine br_f p0 ?_
          rw [e] at q ⊢; exact q
      have hYr : ∀ post : Int32 → SY → Prop, wY_readAtom_33 post c (nI n) (nI o) f_atomLimit f_ringLimit f_slotCount f_readState f_currentAtom f_pendingOrder f_branchDepth f_writtenLength f_writtenAtoms f_writtenCount f_candLen a_count b_kinds a_bonds a_branches a_ringAtom b_ringOrder b_line b_listing a_perm a_cand a_digitFrom a_digitTo a_reach → wpY_readAtom post (f_atomLimit, f_ringLimit, f_slotCount, f_readState, f_currentAtom, f_pendingOrder, f_branchDepth, f_writtenLength, f_writtenAtoms, f_writtenCount, f_candLen, a_count, b_kinds, a_bonds, a_branches, a_ringAtom, b_ringOrder, b_line, b_listing, a_perm, a_cand, a_digitFrom, a_digitTo, a_reach) c := by
        intro post q
        refine nm_r hc3 (br_t lt ?_)
        rcases hoX with ⟨p0, rfl⟩ | ⟨p0, e⟩
        · exact br_t p0 q
        · refine br_f p0 ?_
          rw [e] at q ⊢; exact q
      by_cases v1 : nI o ≤ zval c
      · by_cases v2 : nI o ≤ zfree (a_kinds (3 * 8 + cu)) (fun j => a_bonds (3 * 64 + cu * 8 + j)) 8
        · have hSn : zSto (upd a_count 3 (nI (n + 1))) (upd a_kinds (24 + n) c) (upd b_kinds (24 + n) c) (zput a_bonds 3 cu n (nI o)) := by
            rw [hc]
            refine zSto_letter hS hn (by omega) hcv (zBd_put s1 ho3) (fun m hm i j hi hj => zbm_put' (by omega) (by omega) (by omega) hi hj) ?_
            exact zMol_congr (fun x y hx hy => zbm_put (by omega) (by omega) ho3 hx hy) (zMol_new hM c2 (by omega) (by omega))
          refine ⟨0, (f_atomLimit, f_ringLimit, f_slotCount, 1, nI n, 0, f_branchDepth, f_writtenLength, f_writtenAtoms, f_writtenCount, f_bestClosed, f_draftLength, upd a_count 3 (nI (n + 1)), upd a_kinds (24 + n) c, zput a_bonds 3 cu n (nI o), a_branches, a_ringAtom, a_ringOrder, a_line, a_listing, a_draft, a_near, a_place, a_parent, a_closed, a_left, a_pairDigit, a_image, a_signature, a_nextSignature), (f_atomLimit, f_ringLimit, f_slotCount, 1, nI n, 0, f_branchDepth, f_writtenLength, f_writtenAtoms, f_writtenCount, f_candLen, upd a_count 3 (nI (n + 1)), upd b_kinds (24 + n) c, zput a_bonds 3 cu n (nI o), a_branches, a_ringAtom, b_ringOrder, b_line, b_listing, a_perm, a_cand, a_digitFrom, a_digitTo, a_reach), zz_in h1 hSn hRing hRd h5, fun post p => hXr post ?_, fun post p => hYr post ?_⟩
          · unfold wX_readLetter_40
            rw [c1]
            refine zx_val c (br_t v1 (zx_free (m := 3) (by decide) (by omega) (br_t v2 (zx_put (m := 3) (by decide) (by omega) (by omega) ?_))))
            show wX_readLetter_80 post _ _ _ _ _ _ _ _ _ _ _ _ _ _ _ _ _ _ _ _ _ _ _ _ _ _ _ _ _ _ _ _
            unfold wX_readLetter_80
            rw [e24, c24]
            exact ⟨i24, nm_e (nm_r (by rw [nI_1]) p)⟩
          · refine br_f s0 ?_
            rw [c1]
            refine zy_free (m := 3) (by decide) (by omega) hM.1 hc3 ?_
            rw [hfr]
            refine br_f (Int32.not_lt.mpr v2) (zy_val c (br_t v1 ?_))
            unfold wY_readAtom_66
            rw [e24, c24]
            refine ⟨i24, nm_e (nm_r (by rw [nI_1]) (br_f s0 (zy_put (m := 3) (by decide) (by omega) (by omega) ?_)))⟩
            rw [zput_sw (by omega) (by omega)]
            exact p
        · refine ⟨-4, (f_atomLimit, f_ringLimit, f_slotCount, f_readState, f_currentAtom, f_pendingOrder, f_branchDepth, f_writtenLength, f_writtenAtoms, f_writtenCount, f_bestClosed, f_draftLength, a_count, a_kinds, a_bonds, a_branches, a_ringAtom, a_ringOrder, a_line, a_listing, a_draft, a_near, a_place, a_parent, a_closed, a_left, a_pairDigit, a_image, a_signature, a_nextSignature), (f_atomLimit, f_ringLimit, f_slotCount, f_readState, f_currentAtom, f_pendingOrder, f_branchDepth, f_writtenLength, f_writtenAtoms, f_writtenCount, f_candLen, a_count, b_kinds, a_bonds, a_branches, a_ringAtom, b_ringOrder, b_line, b_listing, a_perm, a_cand, a_digitFrom, a_digitTo, a_reach), zz_in h1 hS (by rw [hn]; exact h3) (by rw [hn]; exact hR) h5, fun post p => hXr post ?_, fun post p => hYr post ?_⟩
          · unfold wX_readLetter_40
            rw [c1] at p ⊢
            exact zx_val c (br_t v1 (zx_free (m := 3) (by decide) (by omega) (br_f v2 p)))
          · refine br_f s0 ?_
            rw [c1] at p ⊢
            refine zy_free (m := 3) (by decide) (by omega) hM.1 hc3 ?_
            rw [hfr]
            exact br_t (Int32.not_le.mp v2) p
      · refine ⟨-4, (f_atomLimit, f_ringLimit, f_slotCount, f_readState, f_currentAtom, f_pendingOrder, f_branchDepth, f_writtenLength, f_writtenAtoms, f_writtenCount, f_bestClosed, f_draftLength, a_count, a_kinds, a_bonds, a_branches, a_ringAtom, a_ringOrder, a_line, a_listing, a_draft, a_near, a_place, a_parent, a_closed, a_left, a_pairDigit, a_image, a_signature, a_nextSignature), (f_atomLimit, f_ringLimit, f_slotCount, f_readState, f_currentAtom, f_pendingOrder, f_branchDepth, f_writtenLength, f_writtenAtoms, f_writtenCount, f_candLen, a_count, b_kinds, a_bonds, a_branches, a_ringAtom, b_ringOrder, b_line, b_listing, a_perm, a_cand, a_digitFrom, a_digitTo, a_reach), zz_in h1 hS (by rw [hn]; exact h3) (by rw [hn]; exact hR) h5, fun post p => hXr post ?_, fun post p => hYr post ?_⟩
        · exact zx_val c (br_f v1 p)
        · refine br_f s0 ?_
          rw [c1] at p ⊢
          refine zy_free (m := 3) (by decide) (by omega) hM.1 hc3 ?_
          rw [hfr]
          exact br_c (fun _ => p) (fun _ => zy_val c (br_f v1 p))
  · have nlt : ¬ nI n < f_atomLimit := by rw [g1]; exact nI_nlt (by omega) (by omega)
    refine ⟨-3, (f_atomLimit, f_ringLimit, f_slotCount, f_readState, f_currentAtom, f_pendingOrder, f_branchDepth, f_writtenLength, f_writtenAtoms, f_writtenCount, f_bestClosed, f_draftLength, a_count, a_kinds, a_bonds, a_branches, a_ringAtom, a_ringOrder, a_line, a_listing, a_draft, a_near, a_place, a_parent, a_closed, a_left, a_pairDigit, a_image, a_signature, a_nextSignature), (f_atomLimit, f_ringLimit, f_slotCount, f_readState, f_currentAtom, f_pendingOrder, f_branchDepth, f_writtenLength, f_writtenAtoms, f_writtenCount, f_candLen, a_count, b_kinds, a_bonds, a_branches, a_ringAtom, b_ringOrder, b_line, b_listing, a_perm, a_cand, a_digitFrom, a_digitTo, a_reach), zz_in h1 hS (by rw [hn]; exact h3) (by rw [hn]; exact hR) h5, fun post p => ?_, fun post p => ?_⟩
    · exact nm_r hc3 (br_f nlt p)
    · exact nm_r hc3 (br_f nlt p)
end
end
section
/-! ===== reading: digits ===== -/
section
variable {f_atomLimit f_ringLimit f_slotCount f_readState f_currentAtom f_pendingOrder f_branchDepth f_writtenLength f_writtenAtoms f_writtenCount f_bestClosed f_draftLength : Int32} {a_count a_kinds a_bonds a_branches a_ringAtom a_ringOrder a_line a_listing a_draft a_near a_place a_parent a_closed a_left a_pairDigit a_image a_signature a_nextSignature : Nat → Int32}
variable {f_candLen : Int32} {b_kinds b_ringOrder b_line b_listing a_perm a_cand a_digitFrom a_digitTo a_reach : Nat → Int32}
/-- the new ring bond -/
theorem zz_d110 {d a cu o : Nat} (h1 : zLim f_atomLimit f_ringLimit f_slotCount) (h2 : zSto a_count a_kinds b_kinds a_bonds) (h3 : zRing (zc a_count 3) a_ringAtom a_ringOrder b_ringOrder)
     (h4 : zRd f_atomLimit f_readState f_currentAtom f_pendingOrder f_branchDepth (zc a_count 3) a_branches) (h5 : zWri f_writtenLength f_writtenAtoms a_line b_line a_listing b_listing)
     (hd : d < 10) (ha : a < zc a_count 3) (hcu : cu < zc a_count 3) (hac : a ≠ cu) (ecu : f_currentAtom = nI cu) (ho : 1 ≤ o) (ho3 : o ≤ 3) (he : zed (zbm a_bonds 3) (zc a_count 3) + 1 ≤ zc a_count 3 + 8) {st : Nat} (est : f_readState = nI st) (hst : st = 1 ∨ st = 2) :
     zOut (fun post => wX_closeRing_110 post (nI d) (nI a) (nI o) f_atomLimit f_ringLimit f_slotCount f_readState f_currentAtom f_pendingOrder f_branchDepth f_writtenLength f_writtenAtoms f_writtenCount f_bestClosed f_draftLength a_count a_kinds a_bonds a_branches a_ringAtom a_ringOrder a_line a_listing a_draft a_near a_place a_parent a_closed a_left a_pairDigit a_image a_signature a_nextSignature) (fun post => wY_readDigit_128 post (nI d) (nI a) (nI o) f_atomLimit f_ringLimit f_slotCount f_readState f_currentAtom f_pendingOrder f_branchDepth f_writtenLength f_writtenAtoms f_writtenCount f_candLen a_count b_kinds a_bonds a_branches a_ringAtom b_ringOrder b_line b_listing a_perm a_cand a_digitFrom a_digitTo a_reach) := by
  have hS := h2
  obtain ⟨s1, s2, s3⟩ := h2
  obtain ⟨hc3, hM⟩ := s2 3 (by decide)
  have n8 := hM.1
  have hka := s3 3 a (by decide) ha
  have hkc := s3 3 cu (by decide) hcu
  have fra : zfree (b_kinds (3 * 8 + a)) (fun j => a_bonds (3 * 64 + a * 8 + j)) (zc a_count 3) = zfree (a_kinds (3 * 8 + a)) (fun j => a_bonds (3 * 64 + a * 8 + j)) 8 := by
    rw [← hka.1, zfree_n s1 hM (by omega)]
  have frc : zfree (b_kinds (3 * 8 + cu)) (fun j => a_bonds (3 * 64 + cu * 8 + j)) (zc a_count 3) = zfree (a_kinds (3 * 8 + cu)) (fun j => a_bonds (3 * 64 + cu * 8 + j)) 8 := by
    rw [← hkc.1, zfree_n s1 hM (by omega)]
  by_cases v1 : nI o ≤ zfree (a_kinds (3 * 8 + a)) (fun j => a_bonds (3 * 64 + a * 8 + j)) 8
  · by_cases v2 : nI o ≤ zfree (a_kinds (3 * 8 + cu)) (fun j => a_bonds (3 * 64 + cu * 8 + j)) 8
    · have hSn : zSto a_count a_kinds b_kinds (zput a_bonds 3 a cu (nI o)) := by
        refine zSto_put hS (by decide) (by omega) (by omega) ho3 (zMol_put hM ha hcu hac (Or.inl (by omega)) ?_)
        have := zed_put (zbm a_bonds 3) a cu o (zc a_count 3)
        omega
      refine ⟨0, (f_atomLimit, f_ringLimit, f_slotCount, 1, nI cu, 0, f_branchDepth, f_writtenLength, f_writtenAtoms, f_writtenCount, f_bestClosed, f_draftLength, a_count, a_kinds, zput a_bonds 3 a cu (nI o), a_branches, upd a_ringAtom d (-1), upd a_ringOrder d 0, a_line, a_listing, a_draft, a_near, a_place, a_parent, a_closed, a_left, a_pairDigit, a_image, a_signature, a_nextSignature), (f_atomLimit, f_ringLimit, f_slotCount, 1, nI cu, 0, f_branchDepth, f_writtenLength, f_writtenAtoms, f_writtenCount, f_candLen, a_count, b_kinds, zput a_bonds 3 a cu (nI o), a_branches, upd a_ringAtom d (-1), b_ringOrder, b_line, b_listing, a_perm, a_cand, a_digitFrom, a_digitTo, a_reach), zz_in h1 hSn (zRing_shut h3) (by rw [← ecu]; exact zRd_to (st' := 1) (pe' := 0) h4 est (by omega) (by omega) (by omega) (by omega) (by omega) (by omega)) h5, fun post p => ?_, fun post p => ?_⟩
      · unfold wX_closeRing_110
        rw [ecu]
        refine zx_free (m := 3) (by decide) (by omega) (br_t v1 (zx_free (m := 3) (by decide) (by omega) (br_t v2 (zx_put (m := 3) (by decide) (by omega) (by omega) ?_))))
        dsimp only
        rw [zcl (show d < 1000000 by omega)]
        exact ⟨zin hd (by decide), nm_e ⟨zin hd (by decide), nm_e p⟩⟩
      · unfold wY_readDigit_128
        rw [ecu]
        refine zy_free (m := 3) (by decide) (by omega) n8 hc3 ?_
        rw [fra]
        refine br_f (Int32.not_lt.mpr v1) (zy_free (m := 3) (by decide) (by omega) n8 hc3 ?_)
        rw [frc]
        refine br_t v2 (zy_put (m := 3) (by decide) (by omega) (by omega) ?_)
        dsimp only
        rw [zcl (show d < 1000000 by omega)]
        exact ⟨zin hd (by decide), nm_e p⟩
    · refine ⟨-4, (f_atomLimit, f_ringLimit, f_slotCount, f_readState, f_currentAtom, f_pendingOrder, f_branchDepth, f_writtenLength, f_writtenAtoms, f_writtenCount, f_bestClosed, f_draftLength, a_count, a_kinds, a_bonds, a_branches, a_ringAtom, a_ringOrder, a_line, a_listing, a_draft, a_near, a_place, a_parent, a_closed, a_left, a_pairDigit, a_image, a_signature, a_nextSignature), (f_atomLimit, f_ringLimit, f_slotCount, f_readState, f_currentAtom, f_pendingOrder, f_branchDepth, f_writtenLength, f_writtenAtoms, f_writtenCount, f_candLen, a_count, b_kinds, a_bonds, a_branches, a_ringAtom, b_ringOrder, b_line, b_listing, a_perm, a_cand, a_digitFrom, a_digitTo, a_reach), zz_in h1 hS h3 h4 h5, fun post p => ?_, fun post p => ?_⟩
      · unfold wX_closeRing_110
        rw [ecu] at p ⊢
        exact zx_free (m := 3) (by decide) (by omega) (br_t v1 (zx_free (m := 3) (by decide) (by omega) (br_f v2 p)))
      · unfold wY_readDigit_128
        rw [ecu] at p ⊢
        refine zy_free (m := 3) (by decide) (by omega) n8 hc3 ?_
        rw [fra]
        refine br_f (Int32.not_lt.mpr v1) (zy_free (m := 3) (by decide) (by omega) n8 hc3 ?_)
        rw [frc]
        exact br_f v2 p
  · refine ⟨-4, (f_atomLimit, f_ringLimit, f_slotCount, f_readState, f_currentAtom, f_pendingOrder, f_branchDepth, f_writtenLength, f_writtenAtoms, f_writtenCount, f_bestClosed, f_draftLength, a_count, a_kinds, a_bonds, a_branches, a_ringAtom, a_ringOrder, a_line, a_listing, a_draft, a_near, a_place, a_parent, a_closed, a_left, a_pairDigit, a_image, a_signature, a_nextSignature), (f_atomLimit, f_ringLimit, f_slotCount, f_readState, f_currentAtom, f_pendingOrder, f_branchDepth, f_writtenLength, f_writtenAtoms, f_writtenCount, f_candLen, a_count, b_kinds, a_bonds, a_branches, a_ringAtom, b_ringOrder, b_line, b_listing, a_perm, a_cand, a_digitFrom, a_digitTo, a_reach), zz_in h1 hS h3 h4 h5, fun post p => ?_, fun post p => ?_⟩
    · exact zx_free (m := 3) (by decide) (by omega) (br_f v1 p)
    · refine zy_free (m := 3) (by decide) (by omega) n8 hc3 ?_
      rw [fra]
      exact br_t (Int32.not_le.mp v1) p
theorem zz_d73 {d a cu : Nat} {p q : Nat} (h1 : zLim f_atomLimit f_ringLimit f_slotCount) (h2 : zSto a_count a_kinds b_kinds a_bonds) (h3 : zRing (zc a_count 3) a_ringAtom a_ringOrder b_ringOrder)
     (h4 : zRd f_atomLimit f_readState f_currentAtom f_pendingOrder f_branchDepth (zc a_count 3) a_branches) (h5 : zWri f_writtenLength f_writtenAtoms a_line b_line a_listing b_listing)
     (hd : d < 10) (ha : a < zc a_count 3) (hcu : cu < zc a_count 3) (hac : a ≠ cu) (ecu : f_currentAtom = nI cu) (hp : p ≤ 3) (hq : q ≤ 3) (eq : f_pendingOrder = nI q) {st : Nat} (est : f_readState = nI st) (hst : st = 1 ∨ st = 2) :
     zOut (fun post => wX_closeRing_73 post (nI d) (nI a) (nI p) f_pendingOrder f_atomLimit f_ringLimit f_slotCount f_readState f_currentAtom f_pendingOrder f_branchDepth f_writtenLength f_writtenAtoms f_writtenCount f_bestClosed f_draftLength a_count a_kinds a_bonds a_branches a_ringAtom a_ringOrder a_line a_listing a_draft a_near a_place a_parent a_closed a_left a_pairDigit a_image a_signature a_nextSignature) (fun post => wY_readDigit_90 post (nI d) (nI a) (nI p) f_atomLimit f_ringLimit f_slotCount f_readState f_currentAtom f_pendingOrder f_branchDepth f_writtenLength f_writtenAtoms f_writtenCount f_candLen a_count b_kinds a_bonds a_branches a_ringAtom b_ringOrder b_line b_listing a_perm a_cand a_digitFrom a_digitTo a_reach) := by
  have hS := h2
  obtain ⟨s1, s2, s3⟩ := h2
  obtain ⟨hc3, hM⟩ := s2 3 (by decide)
  have n8 := hM.1
  by_cases lt : zrv (zec (fun k j => a_bonds (3 * 64 + k * 8 + j)) (zc a_count 3)) (zc a_count 3) < f_ringLimit
  · have he : zed (zbm a_bonds 3) (zc a_count 3) + 1 ≤ zc a_count 3 + 8 := by
      obtain ⟨al, rl, sc, l1, l2, l3, l4, l5, l6, l7, l8⟩ := h1
      rw [← zec_ed s1 hM]
      have hle := zec_le (fun k j => a_bonds (3 * 64 + k * 8 + j)) n8
      rw [l4, Int32.lt_iff_toInt_lt, zrv_i (by omega) (by omega), nI_toInt (by omega)] at lt
      omega
    have fin : ∀ o, 1 ≤ o → o ≤ 3 → (∀ post, wX_closeRing_110 post (nI d) (nI a) (nI o) f_atomLimit f_ringLimit f_slotCount f_readState f_currentAtom f_pendingOrder f_branchDepth f_writtenLength f_writtenAtoms f_writtenCount f_bestClosed f_draftLength a_count a_kinds a_bonds a_branches a_ringAtom a_ringOrder a_line a_listing a_draft a_near a_place a_parent a_closed a_left a_pairDigit a_image a_signature a_nextSignature → wX_closeRing_73 post (nI d) (nI a) (nI p) f_pendingOrder f_atomLimit f_ringLimit f_slotCount f_readState f_currentAtom f_pendingOrder f_branchDepth f_writtenLength f_writtenAtoms f_writtenCount f_bestClosed f_draftLength a_count a_kinds a_bonds a_branches a_ringAtom a_ringOrder a_line a_listing a_draft a_near a_place a_parent a_closed a_left a_pairDigit a_image a_signature a_nextSignature) → (∀ post, wY_readDigit_128 post (nI d) (nI a) (nI o) f_atomLimit f_ringLimit f_slotCount f_readState f_currentAtom f_pendingOrder f_branchDepth f_writtenLength f_writtenAtoms f_writtenCount f_candLen a_count b_kinds a_bonds a_branches a_ringAtom b_ringOrder b_line b_listing a_perm a_cand a_digitFrom a_digitTo a_reach → wY_readDigit_90 post (nI d) (nI a) (nI p) f_atomLimit f_ringLimit f_slotCount f_readState f_currentAtom f_pendingOrder f_branchDepth f_writtenLength f_writtenAtoms f_writtenCount f_candLen a_count b_kinds a_bonds a_branches a_ringAtom b_ringOrder b_line b_listing a_perm a_cand a_digitFrom a_digitTo a_reach) → zOut (fun post => wX_closeRing_73 post (nI d) (nI a) (nI p) f_pendingOrder f_atomLimit f_ringLimit f_slotCount f_readState f_currentAtom f_pendingOrder f_branchDepth f_writtenLength f_writtenAtoms f_writtenCount f_bestClosed f_draftLength a_count a_kinds a_bonds a_branches a_ringAtom a_ringOrder a_line a_listing a_draft a_near a_place a_parent a_closed a_left a_pairDigit a_image a_signature a_nextSignature) (fun post => wY_readDigit_90 post (nI d) (nI a) (nI p) f_atomLimit f_ringLimit f_slotCount f_readState f_currentAtom f_pendingOrder f_branchDepth f_writtenLength f_writtenAtoms f_writtenCount f_candLen a_count b_kinds a_bonds a_branches a_ringAtom b_ringOrder b_line b_listing a_perm a_cand a_digitFrom a_digitTo a_reach) := by
      intro o o1 o3 hX hY
      obtain ⟨r, u, v, i, wx, wy⟩ := zz_d110 (f_candLen := f_candLen) (a_perm := a_perm) (a_cand := a_cand) (a_digitFrom := a_digitFrom) (a_digitTo := a_digitTo) (a_reach := a_reach) (f_bestClosed := f_bestClosed) (f_draftLength := f_draftLength) (a_draft := a_draft) (a_near := a_near) (a_place := a_place) (a_parent := a_parent) (a_closed := a_closed) (a_left := a_left) (a_pairDigit := a_pairDigit) (a_image := a_image) (a_signature := a_signature) (a_nextSignature := a_nextSignature) (f_writtenCount := f_writtenCount) h1 hS h3 h4 h5 hd ha hcu hac ecu o1 o3 he est hst
      exact ⟨r, u, v, i, fun post q => hX post (wx post q), fun post q => hY post (wy post q)⟩
    by_cases p0 : p = 0
    · subst p0
      by_cases q0 : q = 0
      · subst q0
        refine fin 1 (by omega) (by omega) (fun post w => zx_rb (m := 3) (by decide) n8 hc3 (br_t lt (br_t rfl (br_t eq w)))) (fun post w => zy_rb (m := 3) s1 (by decide) n8 hc3 (br_t lt (br_t rfl (br_t eq w))))
      · have e0 : ¬ f_pendingOrder = 0 := by rw [eq]; exact nI_ne0 (by omega) (by omega)
        refine fin q (by omega) hq (fun post w => zx_rb (m := 3) (by decide) n8 hc3 (br_t lt (br_t rfl (br_f e0 ?_)))) (fun post w => zy_rb (m := 3) s1 (by decide) n8 hc3 (br_t lt (br_t rfl (br_f e0 ?_))))
        · rw [eq] at w ⊢; exact w
        · rw [eq] at w ⊢; exact w
    · have e0 : ¬ nI p = 0 := nI_ne0 (by omega) (by omega)
      exact fin p (by omega) hp (fun post w => zx_rb (m := 3) (by decide) n8 hc3 (br_t lt (br_f e0 w))) (fun post w => zy_rb (m := 3) s1 (by decide) n8 hc3 (br_t lt (br_f e0 w)))
  · exact ⟨-8, (f_atomLimit, f_ringLimit, f_slotCount, f_readState, f_currentAtom, f_pendingOrder, f_branchDepth, f_writtenLength, f_writtenAtoms, f_writtenCount, f_bestClosed, f_draftLength, a_count, a_kinds, a_bonds, a_branches, a_ringAtom, a_ringOrder, a_line, a_listing, a_draft, a_near, a_place, a_parent, a_closed, a_left, a_pairDigit, a_image, a_signature, a_nextSignature), (f_atomLimit, f_ringLimit, f_slotCount, f_readState, f_currentAtom, f_pendingOrder, f_branchDepth, f_writtenLength, f_writtenAtoms, f_writtenCount, f_candLen, a_count, b_kinds, a_bonds, a_branches, a_ringAtom, b_ringOrder, b_line, b_listing, a_perm, a_cand, a_digitFrom, a_digitTo, a_reach), zz_in h1 hS h3 h4 h5, fun post p => zx_rb (m := 3) (by decide) n8 hc3 (br_f lt p), fun post p => zy_rb (m := 3) s1 (by decide) n8 hc3 (br_f lt p)⟩
theorem zz_dig {d : Nat} (h1 : zLim f_atomLimit f_ringLimit f_slotCount) (h2 : zSto a_count a_kinds b_kinds a_bonds) (h3 : zRing (zc a_count 3) a_ringAtom a_ringOrder b_ringOrder)
     (h4 : zRd f_atomLimit f_readState f_currentAtom f_pendingOrder f_branchDepth (zc a_count 3) a_branches) (h5 : zWri f_writtenLength f_writtenAtoms a_line b_line a_listing b_listing)
     (hd1 : 1 ≤ d) (hd : d ≤ 9) {st : Nat} (est : f_readState = nI st) (hst : st = 1 ∨ st = 2) :
     zOut (fun post => wX_readDigit_19 post (nI d) f_atomLimit f_ringLimit f_slotCount f_readState f_currentAtom f_pendingOrder f_branchDepth f_writtenLength f_writtenAtoms f_writtenCount f_bestClosed f_draftLength a_count a_kinds a_bonds a_branches a_ringAtom a_ringOrder a_line a_listing a_draft a_near a_place a_parent a_closed a_left a_pairDigit a_image a_signature a_nextSignature) (fun post => wpY_readDigit post (f_atomLimit, f_ringLimit, f_slotCount, f_readState, f_currentAtom, f_pendingOrder, f_branchDepth, f_writtenLength, f_writtenAtoms, f_writtenCount, f_candLen, a_count, b_kinds, a_bonds, a_branches, a_ringAtom, b_ringOrder, b_line, b_listing, a_perm, a_cand, a_digitFrom, a_digitTo, a_reach) (nI d)) := by
  have hS := h2
  obtain ⟨s1, s2, s3⟩ := h2
  obtain ⟨hc3, hM⟩ := s2 3 (by decide)
  have n8 := hM.1
  have hR := h4
  obtain ⟨al, st', dp, pe, g1, g2, g3, g4, g5, g6, g7, g8, g9, g10, g11, g12, g13⟩ := h4
  have es : st' = st := (nI_eq (by omega) (by omega)).mp (g4.symm.trans est)
  subst es
  obtain ⟨cu, c1, c2⟩ := g10 (by omega)
  have cd : (nI d).toNatClampNeg = d := zcl (by omega)
  have idn : vp_in (nI d) 10 := zin (by omega) (by decide)
  rcases h3 d hd1 hd with hneg | ⟨⟨a, a1, a2⟩, a3, p, p1, p2⟩
  · refine ⟨0, (f_atomLimit, f_ringLimit, f_slotCount, 1, f_currentAtom, 0, f_branchDepth, f_writtenLength, f_writtenAtoms, f_writtenCount, f_bestClosed, f_draftLength, a_count, a_kinds, a_bonds, a_branches, upd a_ringAtom d f_currentAtom, upd a_ringOrder d f_pendingOrder, a_line, a_listing, a_draft, a_near, a_place, a_parent, a_closed, a_left, a_pairDigit, a_image, a_signature, a_nextSignature), (f_atomLimit, f_ringLimit, f_slotCount, 1, f_currentAtom, 0, f_branchDepth, f_writtenLength, f_writtenAtoms, f_writtenCount, f_candLen, a_count, b_kinds, a_bonds, a_branches, upd a_ringAtom d f_currentAtom, upd b_ringOrder d f_pendingOrder, b_line, b_listing, a_perm, a_cand, a_digitFrom, a_digitTo, a_reach), zz_in h1 hS ?_ (zRd_to (st' := 1) (pe' := 0) hR est (by omega) (by omega) (by omega) (by omega) (by omega) (by omega)) h5, fun post p => ?_, fun post p => ?_⟩
    · rw [c1, g7]; exact zRing_open h3 c2 g8
    · unfold wX_readDigit_19
      rw [cd, hneg]
      exact ⟨idn, br_t (by decide) ⟨idn, nm_e ⟨idn, nm_e p⟩⟩⟩
    · unfold wpY_readDigit
      dsimp only
      rw [cd, hneg]
      exact ⟨idn, nm_e (br_f (by decide) ⟨idn, nm_e ⟨idn, nm_e p⟩⟩)⟩
  · have nneg : ¬ nI a < 0 := nI_pos (by omega)
    have pos : 0 ≤ nI a := nI_pos' (by omega)
    have hX : ∀ post : Int32 → SX → Prop, wpX_closeRing post (f_atomLimit, f_ringLimit, f_slotCount, f_readState, f_currentAtom, f_pendingOrder, f_branchDepth, f_writtenLength, f_writtenAtoms, f_writtenCount, f_bestClosed, f_draftLength, a_count, a_kinds, a_bonds, a_branches, a_ringAtom, a_ringOrder, a_line, a_listing, a_draft, a_near, a_place, a_parent, a_closed, a_left, a_pairDigit, a_image, a_signature, a_nextSignature) (nI d) → wX_readDigit_19 post (nI d) f_atomLimit f_ringLimit f_slotCount f_readState f_currentAtom f_pendingOrder f_branchDepth f_writtenLength f_writtenAtoms f_writtenCount f_bestClosed f_draftLength a_count a_kinds a_bonds a_branches a_ringAtom a_ringOrder a_line a_listing a_draft a_near a_place a_parent a_closed a_left a_pairDigit a_image a_signature a_nextSignature := by
      intro post w
      unfold wX_readDigit_19
      rw [cd, a1]
      exact ⟨idn, br_f nneg w⟩
    have i192 : ((192 : Int32) + nI a * 8) + nI cu = nI (3 * 64 + a * 8 + cu) := by
      rw [zi8]
      show nI 192 + nI (a * 8) + nI cu = _
      rw [nI_add, nI_add]
    by_cases ac : a = cu
    · refine ⟨-5, (f_atomLimit, f_ringLimit, f_slotCount, f_readState, f_currentAtom, f_pendingOrder, f_branchDepth, f_writtenLength, f_writtenAtoms, f_writtenCount, f_bestClosed, f_draftLength, a_count, a_kinds, a_bonds, a_branches, a_ringAtom, a_ringOrder, a_line, a_listing, a_draft, a_near, a_place, a_parent, a_closed, a_left, a_pairDigit, a_image, a_signature, a_nextSignature), (f_atomLimit, f_ringLimit, f_slotCount, f_readState, f_currentAtom, f_pendingOrder, f_branchDepth, f_writtenLength, f_writtenAtoms, f_writtenCount, f_candLen, a_count, b_kinds, a_bonds, a_branches, a_ringAtom, b_ringOrder, b_line, b_listing, a_perm, a_cand, a_digitFrom, a_digitTo, a_reach), zz_in h1 hS h3 hR h5, fun post p => hX post ?_, fun post p => ?_⟩
      · unfold wpX_closeRing
        dsimp only
        rw [cd, a1]
        exact ⟨idn, nm_e ⟨idn, nm_e (br_t (by rw [c1, ac]) p)⟩⟩
      · unfold wpY_readDigit
        dsimp only
        rw [cd, a1]
        exact ⟨idn, nm_e (br_t pos ⟨idn, nm_e (br_t (by rw [c1, ac]) p)⟩)⟩
    · have nac : ¬ nI a = f_currentAtom := by rw [c1]; exact fun z => ac ((nI_eq (by omega) (by omega)).mp z)
      by_cases b0 : a_bonds (3 * 64 + a * 8 + cu) = 0
      · have hX2 : ∀ post : Int32 → SX → Prop, (((nI p = 0 → (wX_closeRing_73 post (nI d) (nI a) (nI p) f_pendingOrder f_atomLimit f_ringLimit f_slotCount f_readState f_currentAtom f_pendingOrder f_branchDepth f_writtenLength f_writtenAtoms f_writtenCount f_bestClosed f_draftLength a_count a_kinds a_bonds a_branches a_ringAtom a_ringOrder a_line a_listing a_draft a_near a_place a_parent a_closed a_left a_pairDigit a_image a_signature a_nextSignature)) ∧ (¬ nI p = 0 → (((f_pendingOrder = 0 → (wX_closeRing_73 post (nI d) (nI a) (nI p) f_pendingOrder f_atomLimit f_ringLimit f_slotCount f_readState f_currentAtom f_pendingOrder f_branchDepth f_writtenLength f_writtenAtoms f_writtenCount f_bestClosed f_draftLength a_count a_kinds a_bonds a_branches a_ringAtom a_ringOrder a_line a_listing a_draft a_near a_place a_parent a_closed a_left a_pairDigit a_image a_signature a_nextSignature)) ∧ (¬ f_pendingOrder = 0 → (((nI p = f_pendingOrder → (wX_closeRing_73 post (nI d) (nI a) (nI p) f_pendingOrder f_atomLimit f_ringLimit f_slotCount f_readState f_currentAtom f_pendingOrder f_branchDepth f_writtenLength f_writtenAtoms f_writtenCount f_bestClosed f_draftLength a_count a_kinds a_bonds a_branches a_ringAtom a_ringOrder a_line a_listing a_draft a_near a_place a_parent a_closed a_left a_pairDigit a_image a_signature a_nextSignature)) ∧ (¬ nI p = f_pendingOrder → (post (-7) (f_atomLimit, f_ringLimit, f_slotCount, f_readState, f_currentAtom, f_pendingOrder, f_branchDepth, f_writtenLength, f_writtenAtoms, f_writtenCount, f_bestClosed, f_draftLength, a_count, a_kinds, a_bonds, a_branches, a_ringAtom, a_ringOrder, a_line, a_listing, a_draft, a_near, a_place, a_parent, a_closed, a_left, a_pairDigit, a_image, a_signature, a_nextSignature))))))))))) → wX_readDigit_19 post (nI d) f_atomLimit f_ringLimit f_slotCount f_readState f_currentAtom f_pendingOrder f_branchDepth f_writtenLength f_writtenAtoms f_writtenCount f_bestClosed f_draftLength a_count a_kinds a_bonds a_branches a_ringAtom a_ringOrder a_line a_listing a_draft a_near a_place a_parent a_closed a_left a_pairDigit a_image a_signature a_nextSignature := by
          intro post w
          refine hX post ?_
          unfold wpX_closeRing
          dsimp only
          rw [cd, a1, p2]
          refine ⟨idn, nm_e ⟨idn, nm_e (br_f nac ?_)⟩⟩
          rw [c1, i192, zcl (by omega)]
          rw [c1] at w
          exact ⟨zin (by omega) (by decide), br_t b0 w⟩
        have hY2 : ∀ post : Int32 → SY → Prop, (((nI p = 0 → (wY_readDigit_90 post (nI d) (nI a) (nI p) f_atomLimit f_ringLimit f_slotCount f_readState f_currentAtom f_pendingOrder f_branchDepth f_writtenLength f_writtenAtoms f_writtenCount f_candLen a_count b_kinds a_bonds a_branches a_ringAtom b_ringOrder b_line b_listing a_perm a_cand a_digitFrom a_digitTo a_reach)) ∧ (¬ nI p = 0 → (((f_pendingOrder = 0 → (wY_readDigit_90 post (nI d) (nI a) (nI p) f_atomLimit f_ringLimit f_slotCount f_readState f_currentAtom f_pendingOrder f_branchDepth f_writtenLength f_writtenAtoms f_writtenCount f_candLen a_count b_kinds a_bonds a_branches a_ringAtom b_ringOrder b_line b_listing a_perm a_cand a_digitFrom a_digitTo a_reach)) ∧ (¬ f_pendingOrder = 0 → (((nI p = f_pendingOrder → (wY_readDigit_90 post (nI d) (nI a) (nI p) f_atomLimit f_ringLimit f_slotCount f_readState f_currentAtom f_pendingOrder f_branchDepth f_writtenLength f_writtenAtoms f_writtenCount f_candLen a_count b_kinds a_bonds a_branches a_ringAtom b_ringOrder b_line b_listing a_perm a_cand a_digitFrom a_digitTo a_reach)) ∧ (¬ nI p = f_pendingOrder → (post (-7) (f_atomLimit, f_ringLimit, f_slotCount, f_readState, f_currentAtom, f_pendingOrder, f_branchDepth, f_writtenLength, f_writtenAtoms, f_writtenCount, f_candLen, a_count, b_kinds, a_bonds, a_branches, a_ringAtom, b_ringOrder, b_line, b_listing, a_perm, a_cand, a_digitFrom, a_digitTo, a_reach))))))))))) → wpY_readDigit post (f_atomLimit, f_ringLimit, f_slotCount, f_readState, f_currentAtom, f_pendingOrder, f_branchDepth, f_writtenLength, f_writtenAtoms, f_writtenCount, f_candLen, a_count, b_kinds, a_bonds, a_branches, a_ringAtom, b_ringOrder, b_line, b_listing, a_perm, a_cand, a_digitFrom, a_digitTo, a_reach) (nI d) := by
          intro post w
          unfold wpY_readDigit
          dsimp only
          rw [cd, a1, ← a3, p2]
          refine ⟨idn, nm_e (br_t pos ⟨idn, nm_e (br_f nac ?_)⟩)⟩
          rw [c1]
          rw [c1] at w
          exact zy_get (m := 3) (by decide) (by omega) (by omega) (br_t ((zBd_le s1 _).mpr b0) w)
        have main := zz_d73 (d := d) (a := a) (p := p) (q := pe) (f_candLen := f_candLen) (a_perm := a_perm) (a_cand := a_cand) (a_digitFrom := a_digitFrom) (a_digitTo := a_digitTo) (a_reach := a_reach) (f_bestClosed := f_bestClosed) (f_draftLength := f_draftLength) (a_draft := a_draft) (a_near := a_near) (a_place := a_place) (a_parent := a_parent) (a_closed := a_closed) (a_left := a_left) (a_pairDigit := a_pairDigit) (a_image := a_image) (a_signature := a_signature) (a_nextSignature := a_nextSignature) (f_writtenCount := f_writtenCount) h1 hS h3 hR h5 (by omega) a2 c2 ac c1 p1 g8 g7 est hst
        obtain ⟨r, u, v, i, wx, wy⟩ := main
        by_cases p0 : nI p = 0
        · exact ⟨r, u, v, i, fun post q => hX2 post (br_t p0 (wx post q)), fun post q => hY2 post (br_t p0 (wy post q))⟩
        · by_cases q0 : f_pendingOrder = 0
          · exact ⟨r, u, v, i, fun post q => hX2 post (br_f p0 (br_t q0 (wx post q))), fun post q => hY2 post (br_f p0 (br_t q0 (wy post q)))⟩
          · by_cases pq : nI p = f_pendingOrder
            · exact ⟨r, u, v, i, fun post q => hX2 post (br_f p0 (br_f q0 (br_t pq (wx post q)))), fun post q => hY2 post (br_f p0 (br_f q0 (br_t pq (wy post q))))⟩
            · exact ⟨-7, (f_atomLimit, f_ringLimit, f_slotCount, f_readState, f_currentAtom, f_pendingOrder, f_branchDepth, f_writtenLength, f_writtenAtoms, f_writtenCount, f_bestClosed, f_draftLength, a_count, a_kinds, a_bonds, a_branches, a_ringAtom, a_ringOrder, a_line, a_listing, a_draft, a_near, a_place, a_parent, a_closed, a_left, a_pairDigit, a_image, a_signature, a_nextSignature), (f_atomLimit, f_ringLimit, f_slotCount, f_readState, f_currentAtom, f_pendingOrder, f_branchDepth, f_writtenLength, f_writtenAtoms, f_writtenCount, f_candLen, a_count, b_kinds, a_bonds, a_branches, a_ringAtom, b_ringOrder, b_line, b_listing, a_perm, a_cand, a_digitFrom, a_digitTo, a_reach), zz_in h1 hS h3 hR h5, fun post q => hX2 post (br_f p0 (br_f q0 (br_f pq q))), fun post q => hY2 post (br_f p0 (br_f q0 (br_f pq q)))⟩
      · refine ⟨-6, (f_atomLimit, f_ringLimit, f_slotCount, f_readState, f_currentAtom, f_pendingOrder, f_branchDepth, f_writtenLength, f_writtenAtoms, f_writtenCount, f_bestClosed, f_draftLength, a_count, a_kinds, a_bonds, a_branches, a_ringAtom, a_ringOrder, a_line, a_listing, a_draft, a_near, a_place, a_parent, a_closed, a_left, a_pairDigit, a_image, a_signature, a_nextSignature), (f_atomLimit, f_ringLimit, f_slotCount, f_readState, f_currentAtom, f_pendingOrder, f_branchDepth, f_writtenLength, f_writtenAtoms, f_writtenCount, f_candLen, a_count, b_kinds, a_bonds, a_branches, a_ringAtom, b_ringOrder, b_line, b_listing, a_perm, a_cand, a_digitFrom, a_digitTo, a_reach), zz_in h1 hS h3 hR h5, fun post p => hX post ?_, fun post p => ?_⟩
        · unfold wpX_closeRing
          dsimp only
          rw [cd, a1]
          refine ⟨idn, nm_e ⟨idn, nm_e (br_f nac ?_)⟩⟩
          rw [c1] at p ⊢
          rw [i192, zcl (by omega)]
          exact ⟨zin (by omega) (by decide), br_f b0 p⟩
        · unfold wpY_readDigit
          dsimp only
          rw [cd, a1]
          refine ⟨idn, nm_e (br_t pos ⟨idn, nm_e (br_f nac ?_)⟩)⟩
          rw [c1] at p ⊢
          exact zy_get (m := 3) (by decide) (by omega) (by omega) (br_f (fun z => b0 ((zBd_le s1 _).mp z)) p)
theorem zz_digit {d : Nat} {c : Int32} (h1 : zLim f_atomLimit f_ringLimit f_slotCount) (h2 : zSto a_count a_kinds b_kinds a_bonds) (h3 : zRing (zc a_count 3) a_ringAtom a_ringOrder b_ringOrder)
     (h4 : zRd f_atomLimit f_readState f_currentAtom f_pendingOrder f_branchDepth (zc a_count 3) a_branches) (h5 : zWri f_writtenLength f_writtenAtoms a_line b_line a_listing b_listing)
     (hd1 : 1 ≤ d) (hd : d ≤ 9) (hc : c - 48 = nI d) :
     zOut (fun post => wpX_readDigit post (f_atomLimit, f_ringLimit, f_slotCount, f_readState, f_currentAtom, f_pendingOrder, f_branchDepth, f_writtenLength, f_writtenAtoms, f_writtenCount, f_bestClosed, f_draftLength, a_count, a_kinds, a_bonds, a_branches, a_ringAtom, a_ringOrder, a_line, a_listing, a_draft, a_near, a_place, a_parent, a_closed, a_left, a_pairDigit, a_image, a_signature, a_nextSignature) (nI d)) (fun post => wY_read_181 post c 0 1 0 f_atomLimit f_ringLimit f_slotCount f_readState f_currentAtom f_pendingOrder f_branchDepth f_writtenLength f_writtenAtoms f_writtenCount f_candLen a_count b_kinds a_bonds a_branches a_ringAtom b_ringOrder b_line b_listing a_perm a_cand a_digitFrom a_digitTo a_reach) := by
  by_cases t1 : f_readState = 1
  · obtain ⟨r, u, v, i, wx, wy⟩ := zz_dig (d := d) (st := 1) (f_candLen := f_candLen) (a_perm := a_perm) (a_cand := a_cand) (a_digitFrom := a_digitFrom) (a_digitTo := a_digitTo) (a_reach := a_reach) (f_bestClosed := f_bestClosed) (f_draftLength := f_draftLength) (a_draft := a_draft) (a_near := a_near) (a_place := a_place) (a_parent := a_parent) (a_closed := a_closed) (a_left := a_left) (a_pairDigit := a_pairDigit) (a_image := a_image) (a_signature := a_signature) (a_nextSignature := a_nextSignature) (f_writtenCount := f_writtenCount) h1 h2 h3 h4 h5 hd1 hd t1 (Or.inl rfl)
    refine ⟨r, u, v, i, fun post q => br_t t1 (wx post q), fun post q => br_f (by decide) (br_t t1 (br_t rfl (br_f (by decide) ?_)))⟩
    rw [hc]; exact wy _ q
  by_cases t2 : f_readState = 2
  · obtain ⟨r, u, v, i, wx, wy⟩ := zz_dig (d := d) (st := 2) (f_candLen := f_candLen) (a_perm := a_perm) (a_cand := a_cand) (a_digitFrom := a_digitFrom) (a_digitTo := a_digitTo) (a_reach := a_reach) (f_bestClosed := f_bestClosed) (f_draftLength := f_draftLength) (a_draft := a_draft) (a_near := a_near) (a_place := a_place) (a_parent := a_parent) (a_closed := a_closed) (a_left := a_left) (a_pairDigit := a_pairDigit) (a_image := a_image) (a_signature := a_signature) (a_nextSignature := a_nextSignature) (f_writtenCount := f_writtenCount) h1 h2 h3 h4 h5 hd1 hd t2 (Or.inr rfl)
    refine ⟨r, u, v, i, fun post q => br_f t1 (br_t t2 (wx post q)), fun post q => br_f (by decide) (br_f t1 (br_t t2 (br_t rfl (br_f (by decide) ?_))))⟩
    rw [hc]; exact wy _ q
  · exact ⟨-2, (f_atomLimit, f_ringLimit, f_slotCount, f_readState, f_currentAtom, f_pendingOrder, f_branchDepth, f_writtenLength, f_writtenAtoms, f_writtenCount, f_bestClosed, f_draftLength, a_count, a_kinds, a_bonds, a_branches, a_ringAtom, a_ringOrder, a_line, a_listing, a_draft, a_near, a_place, a_parent, a_closed, a_left, a_pairDigit, a_image, a_signature, a_nextSignature), (f_atomLimit, f_ringLimit, f_slotCount, f_readState, f_currentAtom, f_pendingOrder, f_branchDepth, f_writtenLength, f_writtenAtoms, f_writtenCount, f_candLen, a_count, b_kinds, a_bonds, a_branches, a_ringAtom, b_ringOrder, b_line, b_listing, a_perm, a_cand, a_digitFrom, a_digitTo, a_reach), zz_in h1 h2 h3 h4 h5, fun post q => br_f t1 (br_f t2 q), fun post q => br_f (by decide) (br_f t1 (br_f t2 q))⟩
end
end
section
/-! ===== read, reset, finish ===== -/
theorem zslot {a r f x : Int32} (h : zLim a r f) : x < 0 ∨ (¬ x < 0 ∧ f ≤ x) ∨ ∃ s, s < 3 ∧ x = nI s ∧ ¬ x < 0 ∧ ¬ f ≤ x := by
  obtain ⟨al, rl, sc, l1, l2, l3, l4, l5, l6, l7, l8⟩ := h
  by_cases c : x < 0
  · exact Or.inl c
  by_cases d : f ≤ x
  · exact Or.inr (Or.inl ⟨c, d⟩)
  obtain ⟨j, hj, e⟩ := nI_of c
  refine Or.inr (Or.inr ⟨j, ?_, e, c, d⟩)
  rw [l6, e, nI_leI (by omega) hj] at d
  omega
section
variable {f_atomLimit f_ringLimit f_slotCount f_readState f_currentAtom f_pendingOrder f_branchDepth f_writtenLength f_writtenAtoms f_writtenCount f_bestClosed f_draftLength : Int32} {a_count a_kinds a_bonds a_branches a_ringAtom a_ringOrder a_line a_listing a_draft a_near a_place a_parent a_closed a_left a_pairDigit a_image a_signature a_nextSignature : Nat → Int32}
variable {f_candLen : Int32} {b_kinds b_ringOrder b_line b_listing a_perm a_cand a_digitFrom a_digitTo a_reach : Nat → Int32}
theorem zz_rdl {c : Int32} (cv : Nat) (h1 : zLim f_atomLimit f_ringLimit f_slotCount) (h2 : zSto a_count a_kinds b_kinds a_bonds) (h3 : zRing (zc a_count 3) a_ringAtom a_ringOrder b_ringOrder)
     (h4 : zRd f_atomLimit f_readState f_currentAtom f_pendingOrder f_branchDepth (zc a_count 3) a_branches) (h5 : zWri f_writtenLength f_writtenAtoms a_line b_line a_listing b_listing) (hc : c = nI cv) (hcv : cv < 128) (hv : ¬ zval c ≤ 0) (a1 : ¬ c < 49) (a2 : 57 < c) (b1 : ¬ c = 45) (b2 : ¬ c = 61) (b3 : ¬ c = 35) (b4 : ¬ c = 40) (b5 : ¬ c = 41) :
     zOut (fun post => wpX_read post (f_atomLimit, f_ringLimit, f_slotCount, f_readState, f_currentAtom, f_pendingOrder, f_branchDepth, f_writtenLength, f_writtenAtoms, f_writtenCount, f_bestClosed, f_draftLength, a_count, a_kinds, a_bonds, a_branches, a_ringAtom, a_ringOrder, a_line, a_listing, a_draft, a_near, a_place, a_parent, a_closed, a_left, a_pairDigit, a_image, a_signature, a_nextSignature) c) (fun post => wpY_read post (f_atomLimit, f_ringLimit, f_slotCount, f_readState, f_currentAtom, f_pendingOrder, f_branchDepth, f_writtenLength, f_writtenAtoms, f_writtenCount, f_candLen, a_count, b_kinds, a_bonds, a_branches, a_ringAtom, b_ringOrder, b_line, b_listing, a_perm, a_cand, a_digitFrom, a_digitTo, a_reach) c) := by
  have main : zOut (fun post => wpX_readLetter post (f_atomLimit, f_ringLimit, f_slotCount, f_readState, f_currentAtom, f_pendingOrder, f_branchDepth, f_writtenLength, f_writtenAtoms, f_writtenCount, f_bestClosed, f_draftLength, a_count, a_kinds, a_bonds, a_branches, a_ringAtom, a_ringOrder, a_line, a_listing, a_draft, a_near, a_place, a_parent, a_closed, a_left, a_pairDigit, a_image, a_signature, a_nextSignature) c) (fun post => wpY_readAtom post (f_atomLimit, f_ringLimit, f_slotCount, f_readState, f_currentAtom, f_pendingOrder, f_branchDepth, f_writtenLength, f_writtenAtoms, f_writtenCount, f_candLen, a_count, b_kinds, a_bonds, a_branches, a_ringAtom, b_ringOrder, b_line, b_listing, a_perm, a_cand, a_digitFrom, a_digitTo, a_reach) c) := zz_letter h1 h2 h3 h4 h5 hc hcv
  obtain ⟨r, u, v, i, wx, wy⟩ := main
  exact ⟨r, u, v, i, fun post q => by show wpX_read post _ _; unfold wpX_read; exact zx_val c (br_f hv (wx _ q)), fun post q => by show wpY_read post _ _; unfold wpY_read; exact zy_val c (br_f hv (br_f a1 (br_t a2 (br_f b1 (br_f b2 (br_f b3 (br_f (by decide) (br_t (by decide) (br_f b4 (br_f b5 (br_t rfl (br_f (by decide) (wy _ q)))))))))))))⟩
theorem zz_rds {c : Int32} (o : Nat) (h1 : zLim f_atomLimit f_ringLimit f_slotCount) (h2 : zSto a_count a_kinds b_kinds a_bonds) (h3 : zRing (zc a_count 3) a_ringAtom a_ringOrder b_ringOrder)
     (h4 : zRd f_atomLimit f_readState f_currentAtom f_pendingOrder f_branchDepth (zc a_count 3) a_branches) (h5 : zWri f_writtenLength f_writtenAtoms a_line b_line a_listing b_listing) (ho : 1 ≤ o) (ho3 : o ≤ 3) (hv : zval c ≤ 0) (b4 : ¬ c = 40) (b5 : ¬ c = 41)
     (hX : ∀ post : Int32 → Prop, post (nI o) → wpX_orderOfSymbol post (f_atomLimit, f_ringLimit, f_slotCount, f_readState, f_currentAtom, f_pendingOrder, f_branchDepth, f_writtenLength, f_writtenAtoms, f_writtenCount, f_bestClosed, f_draftLength, a_count, a_kinds, a_bonds, a_branches, a_ringAtom, a_ringOrder, a_line, a_listing, a_draft, a_near, a_place, a_parent, a_closed, a_left, a_pairDigit, a_image, a_signature, a_nextSignature) c) (hY : ∀ post : Int32 → SY → Prop, wY_read_63 post c 0 0 (nI o) f_atomLimit f_ringLimit f_slotCount f_readState f_currentAtom f_pendingOrder f_branchDepth f_writtenLength f_writtenAtoms f_writtenCount f_candLen a_count b_kinds a_bonds a_branches a_ringAtom b_ringOrder b_line b_listing a_perm a_cand a_digitFrom a_digitTo a_reach → wY_read_13 post c 0 f_atomLimit f_ringLimit f_slotCount f_readState f_currentAtom f_pendingOrder f_branchDepth f_writtenLength f_writtenAtoms f_writtenCount f_candLen a_count b_kinds a_bonds a_branches a_ringAtom b_ringOrder b_line b_listing a_perm a_cand a_digitFrom a_digitTo a_reach) :
     zOut (fun post => wpX_read post (f_atomLimit, f_ringLimit, f_slotCount, f_readState, f_currentAtom, f_pendingOrder, f_branchDepth, f_writtenLength, f_writtenAtoms, f_writtenCount, f_bestClosed, f_draftLength, a_count, a_kinds, a_bonds, a_branches, a_ringAtom, a_ringOrder, a_line, a_listing, a_draft, a_near, a_place, a_parent, a_closed, a_left, a_pairDigit, a_image, a_signature, a_nextSignature) c) (fun post => wpY_read post (f_atomLimit, f_ringLimit, f_slotCount, f_readState, f_currentAtom, f_pendingOrder, f_branchDepth, f_writtenLength, f_writtenAtoms, f_writtenCount, f_candLen, a_count, b_kinds, a_bonds, a_branches, a_ringAtom, b_ringOrder, b_line, b_listing, a_perm, a_cand, a_digitFrom, a_digitTo, a_reach) c) := by
  have main : zOut (fun post => wpX_readSymbol post (f_atomLimit, f_ringLimit, f_slotCount, f_readState, f_currentAtom, f_pendingOrder, f_branchDepth, f_writtenLength, f_writtenAtoms, f_writtenCount, f_bestClosed, f_draftLength, a_count, a_kinds, a_bonds, a_branches, a_ringAtom, a_ringOrder, a_line, a_listing, a_draft, a_near, a_place, a_parent, a_closed, a_left, a_pairDigit, a_image, a_signature, a_nextSignature) (nI o)) (fun post => wY_read_92 post c 0 0 (nI o) f_atomLimit f_ringLimit f_slotCount f_readState f_currentAtom f_pendingOrder f_branchDepth f_writtenLength f_writtenAtoms f_writtenCount f_candLen a_count b_kinds a_bonds a_branches a_ringAtom b_ringOrder b_line b_listing a_perm a_cand a_digitFrom a_digitTo a_reach) := zz_sym h1 h2 h3 h4 h5 ho ho3 b4 b5
  obtain ⟨r, u, v, i, wx, wy⟩ := main
  exact ⟨r, u, v, i, fun post q => by show wpX_read post _ _; unfold wpX_read; exact zx_val c (br_t hv (hX _ (br_f (nI_nle (by omega) (by omega)) (wx _ q)))), fun post q => by show wpY_read post _ _; unfold wpY_read; exact zy_val c (br_t hv (hY post (br_t rfl (br_t rfl (br_f (nI_ne0 (by omega) (by omega)) (wy _ q))))))⟩
theorem zz_read0 {c : Int32} (h1 : zLim f_atomLimit f_ringLimit f_slotCount) (h2 : zSto a_count a_kinds b_kinds a_bonds) (h3 : zRing (zc a_count 3) a_ringAtom a_ringOrder b_ringOrder)
     (h4 : zRd f_atomLimit f_readState f_currentAtom f_pendingOrder f_branchDepth (zc a_count 3) a_branches) (h5 : zWri f_writtenLength f_writtenAtoms a_line b_line a_listing b_listing) :
     zOut (fun post => wpX_read post (f_atomLimit, f_ringLimit, f_slotCount, f_readState, f_currentAtom, f_pendingOrder, f_branchDepth, f_writtenLength, f_writtenAtoms, f_writtenCount, f_bestClosed, f_draftLength, a_count, a_kinds, a_bonds, a_branches, a_ringAtom, a_ringOrder, a_line, a_listing, a_draft, a_near, a_place, a_parent, a_closed, a_left, a_pairDigit, a_image, a_signature, a_nextSignature) c) (fun post => wpY_read post (f_atomLimit, f_ringLimit, f_slotCount, f_readState, f_currentAtom, f_pendingOrder, f_branchDepth, f_writtenLength, f_writtenAtoms, f_writtenCount, f_candLen, a_count, b_kinds, a_bonds, a_branches, a_ringAtom, b_ringOrder, b_line, b_listing, a_perm, a_cand, a_digitFrom, a_digitTo, a_reach) c) := by
  by_cases e67 : c = 67
  · subst e67; exact zz_rdl 67 h1 h2 h3 h4 h5 rfl (by decide) (by decide) (by decide) (by decide) (by decide) (by decide) (by decide) (by decide) (by decide)
  by_cases e66 : c = 66
  · subst e66; exact zz_rdl 66 h1 h2 h3 h4 h5 rfl (by decide) (by decide) (by decide) (by decide) (by decide) (by decide) (by decide) (by decide) (by decide)
  by_cases e78 : c = 78
  · subst e78; exact zz_rdl 78 h1 h2 h3 h4 h5 rfl (by decide) (by decide) (by decide) (by decide) (by decide) (by decide) (by decide) (by decide) (by decide)
  by_cases e79 : c = 79
  · subst e79; exact zz_rdl 79 h1 h2 h3 h4 h5 rfl (by decide) (by decide) (by decide) (by decide) (by decide) (by decide) (by decide) (by decide) (by decide)
  by_cases e70 : c = 70
  · subst e70; exact zz_rdl 70 h1 h2 h3 h4 h5 rfl (by decide) (by decide) (by decide) (by decide) (by decide) (by decide) (by decide) (by decide) (by decide)
  by_cases e45 : c = 45
  · subst e45; exact zz_rds 1 h1 h2 h3 h4 h5 (by decide) (by decide) (by decide) (by decide) (by decide) (fun post q => br_t rfl q) (fun post q => br_t (by decide) (br_t rfl q))
  by_cases e61 : c = 61
  · subst e61; exact zz_rds 2 h1 h2 h3 h4 h5 (by decide) (by decide) (by decide) (by decide) (by decide) (fun post q => br_f (by decide) (br_t rfl q)) (fun post q => br_f (by decide) (br_t (by decide) (br_f (by decide) (br_t rfl q))))
  by_cases e35 : c = 35
  · subst e35; exact zz_rds 3 h1 h2 h3 h4 h5 (by decide) (by decide) (by decide) (by decide) (by decide) (fun post q => br_f (by decide) (br_f (by decide) (br_t rfl q))) (fun post q => br_t (by decide) (br_f (by decide) (br_f (by decide) (br_t rfl q))))
  by_cases e40 : c = 40
  · subst e40
    have main : zOut (fun post => wpX_readOpen post (f_atomLimit, f_ringLimit, f_slotCount, f_readState, f_currentAtom, f_pendingOrder, f_branchDepth, f_writtenLength, f_writtenAtoms, f_writtenCount, f_bestClosed, f_draftLength, a_count, a_kinds, a_bonds, a_branches, a_ringAtom, a_ringOrder, a_line, a_listing, a_draft, a_near, a_place, a_parent, a_closed, a_left, a_pairDigit, a_image, a_signature, a_nextSignature)) (fun post => wY_read_92 post 40 0 0 0 f_atomLimit f_ringLimit f_slotCount f_readState f_currentAtom f_pendingOrder f_branchDepth f_writtenLength f_writtenAtoms f_writtenCount f_candLen a_count b_kinds a_bonds a_branches a_ringAtom b_ringOrder b_line b_listing a_perm a_cand a_digitFrom a_digitTo a_reach) := zz_open h1 h2 h3 h4 h5
    obtain ⟨r, u, v, i, wx, wy⟩ := main
    exact ⟨r, u, v, i, fun post q => by show wpX_read post _ _; unfold wpX_read; exact zx_val 40 (br_t (by decide) (br_f (by decide) (br_f (by decide) (br_f (by decide) (br_t (by decide) (br_t rfl (wx _ q))))))), fun post q => by show wpY_read post _ _; unfold wpY_read; exact zy_val 40 (br_t (by decide) (br_t (by decide) (br_f (by decide) (br_f (by decide) (br_f (by decide) (br_t rfl (br_t rfl (br_t rfl (br_t rfl (wy _ q))))))))))⟩
  by_cases e41 : c = 41
  · subst e41
    have main : zOut (fun post => wpX_readClose post (f_atomLimit, f_ringLimit, f_slotCount, f_readState, f_currentAtom, f_pendingOrder, f_branchDepth, f_writtenLength, f_writtenAtoms, f_writtenCount, f_bestClosed, f_draftLength, a_count, a_kinds, a_bonds, a_branches, a_ringAtom, a_ringOrder, a_line, a_listing, a_draft, a_near, a_place, a_parent, a_closed, a_left, a_pairDigit, a_image, a_signature, a_nextSignature)) (fun post => wY_read_92 post 41 0 0 0 f_atomLimit f_ringLimit f_slotCount f_readState f_currentAtom f_pendingOrder f_branchDepth f_writtenLength f_writtenAtoms f_writtenCount f_candLen a_count b_kinds a_bonds a_branches a_ringAtom b_ringOrder b_line b_listing a_perm a_cand a_digitFrom a_digitTo a_reach) := zz_close h1 h2 h3 h4 h5
    obtain ⟨r, u, v, i, wx, wy⟩ := main
    exact ⟨r, u, v, i, fun post q => by show wpX_read post _ _; unfold wpX_read; exact zx_val 41 (br_t (by decide) (br_f (by decide) (br_f (by decide) (br_f (by decide) (br_t (by decide) (br_f (by decide) (br_t rfl (wx _ q)))))))), fun post q => by show wpY_read post _ _; unfold wpY_read; exact zy_val 41 (br_t (by decide) (br_t (by decide) (br_f (by decide) (br_f (by decide) (br_f (by decide) (br_t rfl (br_t rfl (br_t rfl (br_f (by decide) (br_t rfl (wy _ q)))))))))))⟩
  have hv : zval c = 0 := by unfold zval; rw [if_neg e67, if_neg e66, if_neg e78, if_neg e79, if_neg e70]
  have hv0 : zval c ≤ 0 := by rw [hv]; decide
  by_cases dg : c < 49
  · exact ⟨-1, (f_atomLimit, f_ringLimit, f_slotCount, f_readState, f_currentAtom, f_pendingOrder, f_branchDepth, f_writtenLength, f_writtenAtoms, f_writtenCount, f_bestClosed, f_draftLength, a_count, a_kinds, a_bonds, a_branches, a_ringAtom, a_ringOrder, a_line, a_listing, a_draft, a_near, a_place, a_parent, a_closed, a_left, a_pairDigit, a_image, a_signature, a_nextSignature), (f_atomLimit, f_ringLimit, f_slotCount, f_readState, f_currentAtom, f_pendingOrder, f_branchDepth, f_writtenLength, f_writtenAtoms, f_writtenCount, f_candLen, a_count, b_kinds, a_bonds, a_branches, a_ringAtom, b_ringOrder, b_line, b_listing, a_perm, a_cand, a_digitFrom, a_digitTo, a_reach), zz_in h1 h2 h3 h4 h5, fun post q => by show wpX_read post _ _; unfold wpX_read; exact zx_val c (br_t hv0 (br_f e45 (br_f e61 (br_f e35 (br_t (by decide) (br_f e40 (br_f e41 (br_t dg q)))))))), fun post q => by show wpY_read post _ _; unfold wpY_read; exact zy_val c (br_t hv0 (br_t dg (br_f e45 (br_f e61 (br_f e35 (br_t rfl (br_t rfl (br_t rfl (br_f e40 (br_f e41 q))))))))))⟩
  by_cases dg2 : 57 < c
  · exact ⟨-1, (f_atomLimit, f_ringLimit, f_slotCount, f_readState, f_currentAtom, f_pendingOrder, f_branchDepth, f_writtenLength, f_writtenAtoms, f_writtenCount, f_bestClosed, f_draftLength, a_count, a_kinds, a_bonds, a_branches, a_ringAtom, a_ringOrder, a_line, a_listing, a_draft, a_near, a_place, a_parent, a_closed, a_left, a_pairDigit, a_image, a_signature, a_nextSignature), (f_atomLimit, f_ringLimit, f_slotCount, f_readState, f_currentAtom, f_pendingOrder, f_branchDepth, f_writtenLength, f_writtenAtoms, f_writtenCount, f_candLen, a_count, b_kinds, a_bonds, a_branches, a_ringAtom, b_ringOrder, b_line, b_listing, a_perm, a_cand, a_digitFrom, a_digitTo, a_reach), zz_in h1 h2 h3 h4 h5, fun post q => by show wpX_read post _ _; unfold wpX_read; exact zx_val c (br_t hv0 (br_f e45 (br_f e61 (br_f e35 (br_t (by decide) (br_f e40 (br_f e41 (br_f dg (br_t dg2 q))))))))), fun post q => by show wpY_read post _ _; unfold wpY_read; exact zy_val c (br_t hv0 (br_f dg (br_t dg2 (br_f e45 (br_f e61 (br_f e35 (br_t rfl (br_t rfl (br_t rfl (br_f e40 (br_f e41 q)))))))))))⟩
  obtain ⟨d, hd1, hd9, hcd⟩ : ∃ d, 1 ≤ d ∧ d ≤ 9 ∧ c = nI (48 + d) := by
    have a1 : ¬ c < 0 := fun z => dg (by rw [Int32.lt_iff_toInt_lt] at z ⊢; have e1 : (0 : Int32).toInt = 0 := by decide
                                         have e2 : (49 : Int32).toInt = 49 := by decide
                                         omega)
    obtain ⟨j, hj, e⟩ := nI_of a1
    have b1 : ¬ nI j < nI 49 := by rw [← e]; exact dg
    have b2 : ¬ nI 57 < nI j := by rw [← e]; exact dg2
    rw [nI_ltI hj (by decide)] at b1
    rw [nI_ltI (by decide) hj] at b2
    exact ⟨j - 48, by omega, by omega, by rw [e]; congr 1; omega⟩
  have hc48 : c - 48 = nI d := by
    rw [hcd]
    show nI (48 + d) - nI 48 = nI d
    rw [pk_sub (by omega)]
    congr 1; omega
  have main : zOut (fun post => wpX_readDigit post (f_atomLimit, f_ringLimit, f_slotCount, f_readState, f_currentAtom, f_pendingOrder, f_branchDepth, f_writtenLength, f_writtenAtoms, f_writtenCount, f_bestClosed, f_draftLength, a_count, a_kinds, a_bonds, a_branches, a_ringAtom, a_ringOrder, a_line, a_listing, a_draft, a_near, a_place, a_parent, a_closed, a_left, a_pairDigit, a_image, a_signature, a_nextSignature) (nI d)) (fun post => wY_read_181 post c 0 1 0 f_atomLimit f_ringLimit f_slotCount f_readState f_currentAtom f_pendingOrder f_branchDepth f_writtenLength f_writtenAtoms f_writtenCount f_candLen a_count b_kinds a_bonds a_branches a_ringAtom b_ringOrder b_line b_listing a_perm a_cand a_digitFrom a_digitTo a_reach) := zz_digit h1 h2 h3 h4 h5 hd1 hd9 hc48
  obtain ⟨r, u, v, i, wx, wy⟩ := main
  refine ⟨r, u, v, i, fun post q => by show wpX_read post _ _; unfold wpX_read; refine zx_val c (br_t hv0 (br_f e45 (br_f e61 (br_f e35 (br_t (by decide) (br_f e40 (br_f e41 (br_f dg (br_f dg2 ?_))))))))); rw [hc48]; exact wx _ q, fun post q => by show wpY_read post _ _; unfold wpY_read; exact zy_val c (br_t hv0 (br_f dg (br_f dg2 (br_f e45 (br_f e61 (br_f e35 (br_t rfl (br_f (by decide) (br_t (by decide) (br_f e40 (br_f e41 (wy _ q))))))))))))⟩
end
theorem zz_read {k : Nat} {u : SX} {v : SY} (I : i_Rel k u v) (c : Int32) : zOut (fun post => wpX_read post u c) (fun post => wpY_read post v c) := by
  refine zz_el (P := fun u v => zOut (fun post => wpX_read post u c) (fun post => wpY_read post v c)) ?_ I
  intro _ _ _ _ _ _ _ _ _ _ _ _ _ _ _ _ _ _ _ _ _ _ _ _ _ _ _ _ _ _ _ _ _ _ _ _ _ _ _ _ h1 h2 h3 h4 h5
  exact zz_read0 h1 h2 h3 h4 h5
theorem i_vc_read {k : Nat} {u : SX} {v : SY} (I : i_Rel k u v) (hk : k + 5 ≤ 2563) (v1 : Int32) : wpX_read (fun r u' => wpY_read (fun r' v' => r' = r ∧ i_Rel (k + 5) u' v') v v1) u v1 := by
  obtain ⟨r, u', v', i, wx, wy⟩ := zz_read I v1
  exact wx _ (wy _ ⟨rfl, i⟩)
def zOut1 (WX : (SX → Prop) → Prop) (WY : (SY → Prop) → Prop) : Prop := ∃ u v, i_Rel 0 u v ∧ (∀ post : SX → Prop, post u → WX post) ∧ (∀ post : SY → Prop, post v → WY post)
theorem zRd_0 {al rl sc : Int32} {a : Nat → Int32} {br : Nat → Int32} (h : zLim al rl sc) (ha : zc a 3 = 0) : zRd al 0 (-1) 0 0 (zc a 3) br := by
  obtain ⟨l, r, s, l1, l2, l3, l4⟩ := h
  rw [ha]
  exact ⟨l, 0, 0, 0, l1, l3, by omega, rfl, by omega, rfl, rfl, by omega, fun _ => rfl, fun z => absurd rfl z, by omega, fun z => absurd z (by omega), fun i hi => absurd hi (by omega)⟩
theorem zz_reset {k : Nat} {u : SX} {v : SY} (I : i_Rel k u v) : zOut1 (fun post => wpX_reset post u) (fun post => wpY_reset post v) := by
  refine zz_el (P := fun u v => zOut1 (fun post => wpX_reset post u) (fun post => wpY_reset post v)) ?_ I
  intro f_atomLimit f_ringLimit f_slotCount f_readState f_currentAtom f_pendingOrder f_branchDepth f_writtenLength f_writtenAtoms f_writtenCount f_bestClosed f_draftLength a_count a_kinds a_bonds a_branches a_ringAtom a_ringOrder a_line a_listing a_draft a_near a_place a_parent a_closed a_left a_pairDigit a_image a_signature a_nextSignature f_candLen b_kinds b_ringOrder b_line b_listing a_perm a_cand a_digitFrom a_digitTo a_reach h1 h2 h3 h4 h5
  exact ⟨(f_atomLimit, f_ringLimit, f_slotCount, 0, -1, 0, 0, f_writtenLength, f_writtenAtoms, f_writtenCount, f_bestClosed, f_draftLength, upd a_count 3 0, zfill a_kinds 24 32 0, zfill a_bonds 192 256 0, a_branches, zfill a_ringAtom 0 10 (-1), zfill a_ringOrder 0 10 0, a_line, a_listing, a_draft, a_near, a_place, a_parent, a_closed, a_left, a_pairDigit, a_image, a_signature, a_nextSignature), (f_atomLimit, f_ringLimit, f_slotCount, 0, -1, 0, 0, f_writtenLength, f_writtenAtoms, f_writtenCount, f_candLen, upd a_count 3 0, b_kinds, zfill a_bonds 192 256 0, a_branches, zfill a_ringAtom 0 10 (-1), b_ringOrder, b_line, b_listing, a_perm, a_cand, a_digitFrom, a_digitTo, a_reach),
    zz_in h1 (zSto_reset h2) (zRing_none _ _ _ _) (zRd_0 h1 (zc_us (v := 0) (by decide))) h5, fun post q => zx_reset q, fun post q => zy_reset q⟩
theorem i_vc_reset {k : Nat} {u : SX} {v : SY} (I : i_Rel k u v) (hk : k + 5 ≤ 2563) : wpX_reset (fun u' => wpY_reset (fun v' => i_Rel (k + 5) u' v') v) u := by
  obtain ⟨u', v', i, wx, wy⟩ := zz_reset I
  exact wx _ (wy _ i)
end
section
/-! ===== finish, reload ===== -/
section
variable {f_atomLimit f_ringLimit f_slotCount f_readState f_currentAtom f_pendingOrder f_branchDepth f_writtenLength f_writtenAtoms f_writtenCount f_bestClosed f_draftLength : Int32} {a_count a_kinds a_bonds a_branches a_ringAtom a_ringOrder a_line a_listing a_draft a_near a_place a_parent a_closed a_left a_pairDigit a_image a_signature a_nextSignature : Nat → Int32}
theorem zx_slot0 {post : Int32 → Prop} {x : Int32} (h : x < 0 ∨ (¬ x < 0 ∧ f_slotCount ≤ x)) (p : post 0) : wpX_isSlot post (f_atomLimit, f_ringLimit, f_slotCount, f_readState, f_currentAtom, f_pendingOrder, f_branchDepth, f_writtenLength, f_writtenAtoms, f_writtenCount, f_bestClosed, f_draftLength, a_count, a_kinds, a_bonds, a_branches, a_ringAtom, a_ringOrder, a_line, a_listing, a_draft, a_near, a_place, a_parent, a_closed, a_left, a_pairDigit, a_image, a_signature, a_nextSignature) x := by
  rcases h with h | h
  · exact br_t h p
  · exact br_f h.1 (br_t h.2 p)
theorem zx_slot1 {post : Int32 → Prop} {x : Int32} (h1 : ¬ x < 0) (h2 : ¬ f_slotCount ≤ x) (p : post 1) : wpX_isSlot post (f_atomLimit, f_ringLimit, f_slotCount, f_readState, f_currentAtom, f_pendingOrder, f_branchDepth, f_writtenLength, f_writtenAtoms, f_writtenCount, f_bestClosed, f_draftLength, a_count, a_kinds, a_bonds, a_branches, a_ringAtom, a_ringOrder, a_line, a_listing, a_draft, a_near, a_place, a_parent, a_closed, a_left, a_pairDigit, a_image, a_signature, a_nextSignature) x := br_f h1 (br_f h2 p)
end
section
variable {f_maxAtoms f_maxRings f_slotCount f_st f_cur f_pend f_depth f_lineLen f_listingLen f_count f_candLen : Int32} {a_size a_kinds a_bonds a_stack a_ringAtom a_ringOrder a_line a_listing a_perm a_cand a_digitFrom a_digitTo a_reach : Nat → Int32}
theorem zy_slot1 {post : Int32 → Prop} {x : Int32} (h : x < 0 ∨ (¬ x < 0 ∧ f_slotCount ≤ x)) (p : post 1) : wpY_badSlot post (f_maxAtoms, f_maxRings, f_slotCount, f_st, f_cur, f_pend, f_depth, f_lineLen, f_listingLen, f_count, f_candLen, a_size, a_kinds, a_bonds, a_stack, a_ringAtom, a_ringOrder, a_line, a_listing, a_perm, a_cand, a_digitFrom, a_digitTo, a_reach) x := by
  rcases h with h | h
  · exact br_t h p
  · exact br_f h.1 (br_f (Int32.not_lt.mpr h.2) p)
theorem zy_slot0 {post : Int32 → Prop} {x : Int32} (h1 : ¬ x < 0) (h2 : ¬ f_slotCount ≤ x) (p : post 0) : wpY_badSlot post (f_maxAtoms, f_maxRings, f_slotCount, f_st, f_cur, f_pend, f_depth, f_lineLen, f_listingLen, f_count, f_candLen, a_size, a_kinds, a_bonds, a_stack, a_ringAtom, a_ringOrder, a_line, a_listing, a_perm, a_cand, a_digitFrom, a_digitTo, a_reach) x := br_f h1 (br_t (Int32.not_le.mp h2) p)
end
section
variable {f_atomLimit f_ringLimit f_slotCount f_readState f_currentAtom f_pendingOrder f_branchDepth f_writtenLength f_writtenAtoms f_writtenCount f_bestClosed f_draftLength : Int32} {a_count a_kinds a_bonds a_branches a_ringAtom a_ringOrder a_line a_listing a_draft a_near a_place a_parent a_closed a_left a_pairDigit a_image a_signature a_nextSignature : Nat → Int32}
variable {f_candLen : Int32} {b_kinds b_ringOrder b_line b_listing a_perm a_cand a_digitFrom a_digitTo a_reach : Nat → Int32}
theorem zz_f52 {s : Nat} (h1 : zLim f_atomLimit f_ringLimit f_slotCount) (h2 : zSto a_count a_kinds b_kinds a_bonds) (h3 : zRing (zc a_count 3) a_ringAtom a_ringOrder b_ringOrder)
     (h4 : zRd f_atomLimit f_readState f_currentAtom f_pendingOrder f_branchDepth (zc a_count 3) a_branches) (h5 : zWri f_writtenLength f_writtenAtoms a_line b_line a_listing b_listing) (hs : s < 3) :
     ∀ k d, d + k = 10 → 1 ≤ d → zOut (fun post => wX_finish_52 post (nI s) f_atomLimit f_ringLimit f_slotCount f_readState f_currentAtom f_pendingOrder f_branchDepth f_writtenLength f_writtenAtoms f_writtenCount f_bestClosed f_draftLength a_count a_kinds a_bonds a_branches a_ringAtom a_ringOrder a_line a_listing a_draft a_near a_place a_parent a_closed a_left a_pairDigit a_image a_signature a_nextSignature (k + 1) (nI d)) (fun post => wY_finish_52 post (nI s) f_atomLimit f_ringLimit f_slotCount f_readState f_currentAtom f_pendingOrder f_branchDepth f_writtenLength f_writtenAtoms f_writtenCount f_candLen a_count b_kinds a_bonds a_branches a_ringAtom b_ringOrder b_line b_listing a_perm a_cand a_digitFrom a_digitTo a_reach (k + 1) (nI d)) := by
  intro k
  induction k with
  | zero =>
    intro d hd h1d
    have : d = 10 := by omega
    subst this
    have hS := zSto_reset (zSto_store h2 hs)
    refine ⟨a_count 3, (f_atomLimit, f_ringLimit, f_slotCount, 0, -1, 0, 0, f_writtenLength, f_writtenAtoms, f_writtenCount, f_bestClosed, f_draftLength, upd (upd a_count s (a_count 3)) 3 0, zfill (zcpy a_kinds (s * 8) 24 8) 24 32 0, zfill (zcpy a_bonds (s * 64) 192 64) 192 256 0, a_branches, zfill a_ringAtom 0 10 (-1), zfill a_ringOrder 0 10 0, a_line, a_listing, a_draft, a_near, a_place, a_parent, a_closed, a_left, a_pairDigit, a_image, a_signature, a_nextSignature), (f_atomLimit, f_ringLimit, f_slotCount, 0, -1, 0, 0, f_writtenLength, f_writtenAtoms, f_writtenCount, f_candLen, upd (upd a_count s (a_count 3)) 3 0, zcpy b_kinds (s * 8) 24 8, zfill (zcpy a_bonds (s * 64) 192 64) 192 256 0, a_branches, zfill a_ringAtom 0 10 (-1), b_ringOrder, b_line, b_listing, a_perm, a_cand, a_digitFrom, a_digitTo, a_reach), zz_in h1 hS (zRing_none _ _ _ _) (zRd_0 h1 (zc_us (v := 0) (by decide))) h5, fun post p => ?_, fun post p => ?_⟩
    · exact br_t (by decide) (nm_e (zx_store hs (zx_reset p)))
    · refine br_t (by decide) ⟨zin (by omega) (by decide), nm_r (e' := upd a_count s (a_count 3)) (by rw [zcl (show s < 1000000 by omega)]) ⟨9, ?_⟩⟩
      have e : upd (upd a_count s (a_count 3)) 3 0 s = a_count 3 := by rw [pk_un (by omega), pk_us]
      have q := zy_fi90 (post := post) (f_maxAtoms := f_atomLimit) (f_maxRings := f_ringLimit) (f_slotCount := f_slotCount) (f_st := f_readState) (f_cur := f_currentAtom) (f_pend := f_pendingOrder) (f_depth := f_branchDepth) (a_size := upd a_count s (a_count 3)) (a_kinds := b_kinds) hs (by rw [e]; exact p) 8 0 (by omega)
      rw [zcpy_0] at q
      exact q
  | succ k ih =>
    intro d hd h1d
    have cd : (nI d).toNatClampNeg = d := zcl (by omega)
    have ix : vp_in (nI d) 10 := zin (by omega) (by decide)
    have n1 : ¬ (10 : Int32) ≤ nI d := nI_ge (b := 10) (by omega) (by decide)
    have n2 : ¬ (9 : Int32) < nI d := nI_nlt (a := 9) (by omega) (by decide)
    rcases h3 d h1d (by omega) with e | ⟨⟨a, e, ha⟩, _⟩
    · obtain ⟨r, u, v, i, wx, wy⟩ := ih (d + 1) (by omega) (by omega)
      refine ⟨r, u, v, i, fun post p => br_f n1 ?_, fun post p => br_f n2 ?_⟩
      · rw [cd, e]; exact ⟨ix, br_t (by decide) (nm_r (nI_1 d) (wx post p))⟩
      · rw [cd, e]; exact ⟨ix, br_t (by decide) (nm_r (nI_1 d) (wy post p))⟩
    · have nn : ¬ nI a < 0 := nI_pos (by have := (h2.2.1 3 (by decide)).2.1; omega)
      refine ⟨-14, (f_atomLimit, f_ringLimit, f_slotCount, f_readState, f_currentAtom, f_pendingOrder, f_branchDepth, f_writtenLength, f_writtenAtoms, f_writtenCount, f_bestClosed, f_draftLength, a_count, a_kinds, a_bonds, a_branches, a_ringAtom, a_ringOrder, a_line, a_listing, a_draft, a_near, a_place, a_parent, a_closed, a_left, a_pairDigit, a_image, a_signature, a_nextSignature), (f_atomLimit, f_ringLimit, f_slotCount, f_readState, f_currentAtom, f_pendingOrder, f_branchDepth, f_writtenLength, f_writtenAtoms, f_writtenCount, f_candLen, a_count, b_kinds, a_bonds, a_branches, a_ringAtom, b_ringOrder, b_line, b_listing, a_perm, a_cand, a_digitFrom, a_digitTo, a_reach), zz_in h1 h2 h3 h4 h5, fun post p => br_f n1 ?_, fun post p => br_f n2 ?_⟩
      · rw [cd, e]; exact ⟨ix, br_f nn p⟩
      · rw [cd, e]; exact ⟨ix, br_f nn p⟩
theorem zz_fin0 {x : Int32} (h1 : zLim f_atomLimit f_ringLimit f_slotCount) (h2 : zSto a_count a_kinds b_kinds a_bonds) (h3 : zRing (zc a_count 3) a_ringAtom a_ringOrder b_ringOrder)
     (h4 : zRd f_atomLimit f_readState f_currentAtom f_pendingOrder f_branchDepth (zc a_count 3) a_branches) (h5 : zWri f_writtenLength f_writtenAtoms a_line b_line a_listing b_listing) :
     zOut (fun post => wpX_finish post (f_atomLimit, f_ringLimit, f_slotCount, f_readState, f_currentAtom, f_pendingOrder, f_branchDepth, f_writtenLength, f_writtenAtoms, f_writtenCount, f_bestClosed, f_draftLength, a_count, a_kinds, a_bonds, a_branches, a_ringAtom, a_ringOrder, a_line, a_listing, a_draft, a_near, a_place, a_parent, a_closed, a_left, a_pairDigit, a_image, a_signature, a_nextSignature) x) (fun post => wpY_finish post (f_atomLimit, f_ringLimit, f_slotCount, f_readState, f_currentAtom, f_pendingOrder, f_branchDepth, f_writtenLength, f_writtenAtoms, f_writtenCount, f_candLen, a_count, b_kinds, a_bonds, a_branches, a_ringAtom, b_ringOrder, b_line, b_listing, a_perm, a_cand, a_digitFrom, a_digitTo, a_reach) x) := by
  have bad : (x < 0 ∨ (¬ x < 0 ∧ f_slotCount ≤ x)) → zOut (fun post => wpX_finish post (f_atomLimit, f_ringLimit, f_slotCount, f_readState, f_currentAtom, f_pendingOrder, f_branchDepth, f_writtenLength, f_writtenAtoms, f_writtenCount, f_bestClosed, f_draftLength, a_count, a_kinds, a_bonds, a_branches, a_ringAtom, a_ringOrder, a_line, a_listing, a_draft, a_near, a_place, a_parent, a_closed, a_left, a_pairDigit, a_image, a_signature, a_nextSignature) x) (fun post => wpY_finish post (f_atomLimit, f_ringLimit, f_slotCount, f_readState, f_currentAtom, f_pendingOrder, f_branchDepth, f_writtenLength, f_writtenAtoms, f_writtenCount, f_candLen, a_count, b_kinds, a_bonds, a_branches, a_ringAtom, b_ringOrder, b_line, b_listing, a_perm, a_cand, a_digitFrom, a_digitTo, a_reach) x) := fun b =>
    ⟨-9, (f_atomLimit, f_ringLimit, f_slotCount, f_readState, f_currentAtom, f_pendingOrder, f_branchDepth, f_writtenLength, f_writtenAtoms, f_writtenCount, f_bestClosed, f_draftLength, a_count, a_kinds, a_bonds, a_branches, a_ringAtom, a_ringOrder, a_line, a_listing, a_draft, a_near, a_place, a_parent, a_closed, a_left, a_pairDigit, a_image, a_signature, a_nextSignature), (f_atomLimit, f_ringLimit, f_slotCount, f_readState, f_currentAtom, f_pendingOrder, f_branchDepth, f_writtenLength, f_writtenAtoms, f_writtenCount, f_candLen, a_count, b_kinds, a_bonds, a_branches, a_ringAtom, b_ringOrder, b_line, b_listing, a_perm, a_cand, a_digitFrom, a_digitTo, a_reach), zz_in h1 h2 h3 h4 h5, fun post p => by show wpX_finish post _ _; unfold wpX_finish; exact zx_slot0 b (br_t rfl p), fun post p => by show wpY_finish post _ _; unfold wpY_finish; exact zy_slot1 b (br_f (by decide) p)⟩
  rcases zslot (x := x) h1 with b | b | ⟨s, hs, rfl, b1, b2⟩
  · exact bad (Or.inl b)
  · exact bad (Or.inr b)
  by_cases s0 : f_readState = 0
  · exact ⟨-11, (f_atomLimit, f_ringLimit, f_slotCount, f_readState, f_currentAtom, f_pendingOrder, f_branchDepth, f_writtenLength, f_writtenAtoms, f_writtenCount, f_bestClosed, f_draftLength, a_count, a_kinds, a_bonds, a_branches, a_ringAtom, a_ringOrder, a_line, a_listing, a_draft, a_near, a_place, a_parent, a_closed, a_left, a_pairDigit, a_image, a_signature, a_nextSignature), (f_atomLimit, f_ringLimit, f_slotCount, f_readState, f_currentAtom, f_pendingOrder, f_branchDepth, f_writtenLength, f_writtenAtoms, f_writtenCount, f_candLen, a_count, b_kinds, a_bonds, a_branches, a_ringAtom, b_ringOrder, b_line, b_listing, a_perm, a_cand, a_digitFrom, a_digitTo, a_reach), zz_in h1 h2 h3 h4 h5, fun post p => by show wpX_finish post _ _; unfold wpX_finish; exact zx_slot1 b1 b2 (br_f (by decide) (br_t s0 p)), fun post p => by show wpY_finish post _ _; unfold wpY_finish; exact zy_slot0 b1 b2 (br_t rfl (br_t s0 p))⟩
  have h40 : zOut (fun post => wX_finish_40 post (nI s) f_atomLimit f_ringLimit f_slotCount f_readState f_currentAtom f_pendingOrder f_branchDepth f_writtenLength f_writtenAtoms f_writtenCount f_bestClosed f_draftLength a_count a_kinds a_bonds a_branches a_ringAtom a_ringOrder a_line a_listing a_draft a_near a_place a_parent a_closed a_left a_pairDigit a_image a_signature a_nextSignature) (fun post => wY_finish_40 post (nI s) f_atomLimit f_ringLimit f_slotCount f_readState f_currentAtom f_pendingOrder f_branchDepth f_writtenLength f_writtenAtoms f_writtenCount f_candLen a_count b_kinds a_bonds a_branches a_ringAtom b_ringOrder b_line b_listing a_perm a_cand a_digitFrom a_digitTo a_reach) := by
    by_cases d0 : f_branchDepth ≤ 0
    · have main : zOut (fun post => wX_finish_52 post (nI s) f_atomLimit f_ringLimit f_slotCount f_readState f_currentAtom f_pendingOrder f_branchDepth f_writtenLength f_writtenAtoms f_writtenCount f_bestClosed f_draftLength a_count a_kinds a_bonds a_branches a_ringAtom a_ringOrder a_line a_listing a_draft a_near a_place a_parent a_closed a_left a_pairDigit a_image a_signature a_nextSignature (9 + 1) (nI 1)) (fun post => wY_finish_52 post (nI s) f_atomLimit f_ringLimit f_slotCount f_readState f_currentAtom f_pendingOrder f_branchDepth f_writtenLength f_writtenAtoms f_writtenCount f_candLen a_count b_kinds a_bonds a_branches a_ringAtom b_ringOrder b_line b_listing a_perm a_cand a_digitFrom a_digitTo a_reach (9 + 1) (nI 1)) := zz_f52 h1 h2 h3 h4 h5 hs 9 1 (by omega) (by omega)
      obtain ⟨r, u, v, i, wx, wy⟩ := main
      exact ⟨r, u, v, i, fun post p => br_t d0 ⟨10, wx post p⟩, fun post p => br_t d0 ⟨10, wy post p⟩⟩
    · exact ⟨-13, (f_atomLimit, f_ringLimit, f_slotCount, f_readState, f_currentAtom, f_pendingOrder, f_branchDepth, f_writtenLength, f_writtenAtoms, f_writtenCount, f_bestClosed, f_draftLength, a_count, a_kinds, a_bonds, a_branches, a_ringAtom, a_ringOrder, a_line, a_listing, a_draft, a_near, a_place, a_parent, a_closed, a_left, a_pairDigit, a_image, a_signature, a_nextSignature), (f_atomLimit, f_ringLimit, f_slotCount, f_readState, f_currentAtom, f_pendingOrder, f_branchDepth, f_writtenLength, f_writtenAtoms, f_writtenCount, f_candLen, a_count, b_kinds, a_bonds, a_branches, a_ringAtom, b_ringOrder, b_line, b_listing, a_perm, a_cand, a_digitFrom, a_digitTo, a_reach), zz_in h1 h2 h3 h4 h5, fun post p => br_f d0 p, fun post p => br_f d0 p⟩
  obtain ⟨r, u, v, i, wx, wy⟩ := h40
  by_cases t1 : f_readState = 1
  · exact ⟨r, u, v, i, fun post p => by show wpX_finish post _ _; unfold wpX_finish; exact zx_slot1 b1 b2 (br_f (by decide) (br_f s0 (br_t t1 (wx post p)))), fun post p => by show wpY_finish post _ _; unfold wpY_finish; exact zy_slot0 b1 b2 (br_t rfl (br_f s0 (br_t t1 (wy post p))))⟩
  by_cases t4 : f_readState = 4
  · exact ⟨r, u, v, i, fun post p => by show wpX_finish post _ _; unfold wpX_finish; exact zx_slot1 b1 b2 (br_f (by decide) (br_f s0 (br_f t1 (br_t t4 (wx post p))))), fun post p => by show wpY_finish post _ _; unfold wpY_finish; exact zy_slot0 b1 b2 (br_t rfl (br_f s0 (br_f t1 (br_t t4 (wy post p)))))⟩
  · exact ⟨-12, (f_atomLimit, f_ringLimit, f_slotCount, f_readState, f_currentAtom, f_pendingOrder, f_branchDepth, f_writtenLength, f_writtenAtoms, f_writtenCount, f_bestClosed, f_draftLength, a_count, a_kinds, a_bonds, a_branches, a_ringAtom, a_ringOrder, a_line, a_listing, a_draft, a_near, a_place, a_parent, a_closed, a_left, a_pairDigit, a_image, a_signature, a_nextSignature), (f_atomLimit, f_ringLimit, f_slotCount, f_readState, f_currentAtom, f_pendingOrder, f_branchDepth, f_writtenLength, f_writtenAtoms, f_writtenCount, f_candLen, a_count, b_kinds, a_bonds, a_branches, a_ringAtom, b_ringOrder, b_line, b_listing, a_perm, a_cand, a_digitFrom, a_digitTo, a_reach), zz_in h1 h2 h3 h4 h5, fun post p => by show wpX_finish post _ _; unfold wpX_finish; exact zx_slot1 b1 b2 (br_f (by decide) (br_f s0 (br_f t1 (br_f t4 p)))), fun post p => by show wpY_finish post _ _; unfold wpY_finish; exact zy_slot0 b1 b2 (br_t rfl (br_f s0 (br_f t1 (br_f t4 p))))⟩
end
theorem zz_fin {k : Nat} {u : SX} {v : SY} (I : i_Rel k u v) (c : Int32) : zOut (fun post => wpX_finish post u c) (fun post => wpY_finish post v c) := by
  refine zz_el (P := fun u v => zOut (fun post => wpX_finish post u c) (fun post => wpY_finish post v c)) ?_ I
  intro _ _ _ _ _ _ _ _ _ _ _ _ _ _ _ _ _ _ _ _ _ _ _ _ _ _ _ _ _ _ _ _ _ _ _ _ _ _ _ _ h1 h2 h3 h4 h5
  exact zz_fin0 h1 h2 h3 h4 h5
theorem i_vc_finish {k : Nat} {u : SX} {v : SY} (I : i_Rel k u v) (hk : k + 5 ≤ 2563) (v1 : Int32) : wpX_finish (fun r u' => wpY_finish (fun r' v' => r' = r ∧ i_Rel (k + 5) u' v') v v1) u v1 := by
  obtain ⟨r, u', v', i, wx, wy⟩ := zz_fin I v1
  exact wx _ (wy _ ⟨rfl, i⟩)
end
section
/-! ===== reload ===== -/
def zrlX (post : Int32 → SX → Prop) (s : Int32) (n : Nat) (x : Int32) (u : SX) : Prop := match u with
  | (f_atomLimit, f_ringLimit, f_slotCount, f_readState, f_currentAtom, f_pendingOrder, f_branchDepth, f_writtenLength, f_writtenAtoms, f_writtenCount, f_bestClosed, f_draftLength, a_count, a_kinds, a_bonds, a_branches, a_ringAtom, a_ringOrder, a_line, a_listing, a_draft, a_near, a_place, a_parent, a_closed, a_left, a_pairDigit, a_image, a_signature, a_nextSignature) => wX_reload_28 post s n x f_atomLimit f_ringLimit f_slotCount f_readState f_currentAtom f_pendingOrder f_branchDepth f_writtenLength f_writtenAtoms f_writtenCount f_bestClosed f_draftLength a_count a_kinds a_bonds a_branches a_ringAtom a_ringOrder a_line a_listing a_draft a_near a_place a_parent a_closed a_left a_pairDigit a_image a_signature a_nextSignature
def zrlY (post : Int32 → SY → Prop) (s : Int32) (n : Nat) (x : Int32) (u : SY) : Prop := match u with
  | (f_maxAtoms, f_maxRings, f_slotCount, f_st, f_cur, f_pend, f_depth, f_lineLen, f_listingLen, f_count, f_candLen, a_size, a_kinds, a_bonds, a_stack, a_ringAtom, a_ringOrder, a_line, a_listing, a_perm, a_cand, a_digitFrom, a_digitTo, a_reach) => wY_reload_27 post s n x f_maxAtoms f_maxRings f_slotCount f_st f_cur f_pend f_depth f_lineLen f_listingLen f_count f_candLen a_size a_kinds a_bonds a_stack a_ringAtom a_ringOrder a_line a_listing a_perm a_cand a_digitFrom a_digitTo a_reach
theorem zrlX_s {post : Int32 → SX → Prop} {s : Int32} {n j : Nat} {u : SX} (h : zrlX post s n (nI (j + 1)) u) : (match u with
  | (f_atomLimit, f_ringLimit, f_slotCount, f_readState, f_currentAtom, f_pendingOrder, f_branchDepth, f_writtenLength, f_writtenAtoms, f_writtenCount, f_bestClosed, f_draftLength, a_count, a_kinds, a_bonds, a_branches, a_ringAtom, a_ringOrder, a_line, a_listing, a_draft, a_near, a_place, a_parent, a_closed, a_left, a_pairDigit, a_image, a_signature, a_nextSignature) => ∀ x, x = nI j + 1 → wX_reload_28 post s n x f_atomLimit f_ringLimit f_slotCount f_readState f_currentAtom f_pendingOrder f_branchDepth f_writtenLength f_writtenAtoms f_writtenCount f_bestClosed f_draftLength a_count a_kinds a_bonds a_branches a_ringAtom a_ringOrder a_line a_listing a_draft a_near a_place a_parent a_closed a_left a_pairDigit a_image a_signature a_nextSignature) := by
  match u, h with
  | (f_atomLimit, f_ringLimit, f_slotCount, f_readState, f_currentAtom, f_pendingOrder, f_branchDepth, f_writtenLength, f_writtenAtoms, f_writtenCount, f_bestClosed, f_draftLength, a_count, a_kinds, a_bonds, a_branches, a_ringAtom, a_ringOrder, a_line, a_listing, a_draft, a_near, a_place, a_parent, a_closed, a_left, a_pairDigit, a_image, a_signature, a_nextSignature), h => exact nm_r (nI_1 j) h
theorem zrlY_s {post : Int32 → SY → Prop} {s : Int32} {n j : Nat} {u : SY} (h : zrlY post s n (nI (j + 1)) u) : (match u with
  | (f_maxAtoms, f_maxRings, f_slotCount, f_st, f_cur, f_pend, f_depth, f_lineLen, f_listingLen, f_count, f_candLen, a_size, a_kinds, a_bonds, a_stack, a_ringAtom, a_ringOrder, a_line, a_listing, a_perm, a_cand, a_digitFrom, a_digitTo, a_reach) => ∀ x, x = nI j + 1 → wY_reload_27 post s n x f_maxAtoms f_maxRings f_slotCount f_st f_cur f_pend f_depth f_lineLen f_listingLen f_count f_candLen a_size a_kinds a_bonds a_stack a_ringAtom a_ringOrder a_line a_listing a_perm a_cand a_digitFrom a_digitTo a_reach) := by
  match u, h with
  | (f_maxAtoms, f_maxRings, f_slotCount, f_st, f_cur, f_pend, f_depth, f_lineLen, f_listingLen, f_count, f_candLen, a_size, a_kinds, a_bonds, a_stack, a_ringAtom, a_ringOrder, a_line, a_listing, a_perm, a_cand, a_digitFrom, a_digitTo, a_reach), h => exact nm_r (nI_1 j) h
theorem zz_rl (s : Int32) : ∀ d j, j + d = 64 → ∀ u v, i_Rel 0 u v → zOut (fun post => zrlX post s (d + 1) (nI j) u) (fun post => zrlY post s (d + 1) (nI j) v) := by
  intro d
  induction d with
  | zero =>
    intro j hj u v I
    have F := zz_fin I s
    refine zz_el (P := fun u v => zOut (fun post => wpX_finish post u s) (fun post => wpY_finish post v s) → zOut (fun post => zrlX post s (0 + 1) (nI j) u) (fun post => zrlY post s (0 + 1) (nI j) v)) ?_ I F
    intro f_atomLimit f_ringLimit f_slotCount f_readState f_currentAtom f_pendingOrder f_branchDepth f_writtenLength f_writtenAtoms f_writtenCount f_bestClosed f_draftLength a_count a_kinds a_bonds a_branches a_ringAtom a_ringOrder a_line a_listing a_draft a_near a_place a_parent a_closed a_left a_pairDigit a_image a_signature a_nextSignature f_candLen b_kinds b_ringOrder b_line b_listing a_perm a_cand a_digitFrom a_digitTo a_reach h1 h2 h3 h4 h5 F
    obtain ⟨r, u', v', i, wx, wy⟩ := F
    obtain ⟨ll, la, w1, w2, w3, w4, w5, w6⟩ := h5
    have le : f_writtenLength ≤ nI j := by rw [w1]; exact nI_le (by omega) (by omega)
    exact ⟨r, u', v', i, fun post p => br_t le (wx _ p), fun post p => br_t le (wy _ p)⟩
  | succ d ih =>
    intro j hj u v I
    have F := zz_fin I s
    have R := fun c => zz_read I c
    refine zz_el (P := fun u v => zOut (fun post => wpX_finish post u s) (fun post => wpY_finish post v s) → (∀ c, zOut (fun post => wpX_read post u c) (fun post => wpY_read post v c)) → zOut (fun post => zrlX post s (d + 1 + 1) (nI j) u) (fun post => zrlY post s (d + 1 + 1) (nI j) v)) ?_ I F R
    intro f_atomLimit f_ringLimit f_slotCount f_readState f_currentAtom f_pendingOrder f_branchDepth f_writtenLength f_writtenAtoms f_writtenCount f_bestClosed f_draftLength a_count a_kinds a_bonds a_branches a_ringAtom a_ringOrder a_line a_listing a_draft a_near a_place a_parent a_closed a_left a_pairDigit a_image a_signature a_nextSignature f_candLen b_kinds b_ringOrder b_line b_listing a_perm a_cand a_digitFrom a_digitTo a_reach h1 h2 h3 h4 h5 F R
    obtain ⟨ll, la, w1, w2, w3, w4, w5, w6⟩ := h5
    by_cases c : ll ≤ j
    · obtain ⟨r, u', v', i, wx, wy⟩ := F
      have le : f_writtenLength ≤ nI j := by rw [w1]; exact nI_le (by omega) (by omega)
      exact ⟨r, u', v', i, fun post p => br_t le (wx _ p), fun post p => br_t le (wy _ p)⟩
    · have nle : ¬ f_writtenLength ≤ nI j := by rw [w1]; exact nI_ge (by omega) (by omega)
      obtain ⟨r, u', v', i, wx, wy⟩ := R (a_line j)
      obtain ⟨r2, u2, v2, i2, wx2, wy2⟩ := ih (j + 1) (by omega) u' v' i
      have cj : (nI j).toNatClampNeg = j := zcl (by omega)
      have ij : vp_in (nI j) 64 := zin (by omega) (by decide)
      refine ⟨r2, u2, v2, i2, fun post p => br_f nle ⟨ij, ?_⟩, fun post p => br_f nle ⟨ij, ?_⟩⟩
      · rw [cj]
        exact wx _ (zrlX_s (wx2 post p))
      · rw [cj, ← w5 j (by omega)]
        exact wy _ (zrlY_s (wy2 post p))
theorem i_vc_reload {k : Nat} {u : SX} {v : SY} (I : i_Rel k u v) (hk : k + 5 ≤ 2563) (v1 : Int32) : wpX_reload (fun r u' => wpY_reload (fun r' v' => r' = r ∧ i_Rel (k + 5) u' v') v v1) u v1 := by
  have Z := zz_reset I
  refine zz_el (P := fun u v => zOut1 (fun post => wpX_reset post u) (fun post => wpY_reset post v) → wpX_reload (fun r u' => wpY_reload (fun r' v' => r' = r ∧ i_Rel (k + 5) u' v') v v1) u v1) ?_ I Z
  intro f_atomLimit f_ringLimit f_slotCount f_readState f_currentAtom f_pendingOrder f_branchDepth f_writtenLength f_writtenAtoms f_writtenCount f_bestClosed f_draftLength a_count a_kinds a_bonds a_branches a_ringAtom a_ringOrder a_line a_listing a_draft a_near a_place a_parent a_closed a_left a_pairDigit a_image a_signature a_nextSignature f_candLen b_kinds b_ringOrder b_line b_listing a_perm a_cand a_digitFrom a_digitTo a_reach h1 h2 h3 h4 h5 Z
  have I0 : i_Rel (k + 5) (f_atomLimit, f_ringLimit, f_slotCount, f_readState, f_currentAtom, f_pendingOrder, f_branchDepth, f_writtenLength, f_writtenAtoms, f_writtenCount, f_bestClosed, f_draftLength, a_count, a_kinds, a_bonds, a_branches, a_ringAtom, a_ringOrder, a_line, a_listing, a_draft, a_near, a_place, a_parent, a_closed, a_left, a_pairDigit, a_image, a_signature, a_nextSignature) (f_atomLimit, f_ringLimit, f_slotCount, f_readState, f_currentAtom, f_pendingOrder, f_branchDepth, f_writtenLength, f_writtenAtoms, f_writtenCount, f_candLen, a_count, b_kinds, a_bonds, a_branches, a_ringAtom, b_ringOrder, b_line, b_listing, a_perm, a_cand, a_digitFrom, a_digitTo, a_reach) := zz_in h1 h2 h3 h4 h5
  have bad : (v1 < 0 ∨ (¬ v1 < 0 ∧ f_slotCount ≤ v1)) → wpX_reload (fun r u' => wpY_reload (fun r' v' => r' = r ∧ i_Rel (k + 5) u' v') (f_atomLimit, f_ringLimit, f_slotCount, f_readState, f_currentAtom, f_pendingOrder, f_branchDepth, f_writtenLength, f_writtenAtoms, f_writtenCount, f_candLen, a_count, b_kinds, a_bonds, a_branches, a_ringAtom, b_ringOrder, b_line, b_listing, a_perm, a_cand, a_digitFrom, a_digitTo, a_reach) v1) (f_atomLimit, f_ringLimit, f_slotCount, f_readState, f_currentAtom, f_pendingOrder, f_branchDepth, f_writtenLength, f_writtenAtoms, f_writtenCount, f_bestClosed, f_draftLength, a_count, a_kinds, a_bonds, a_branches, a_ringAtom, a_ringOrder, a_line, a_listing, a_draft, a_near, a_place, a_parent, a_closed, a_left, a_pairDigit, a_image, a_signature, a_nextSignature) v1 := fun b => by
    unfold wpX_reload
    refine zx_slot0 b (br_t rfl ?_)
    unfold wpY_reload
    exact zy_slot1 b (br_f (by decide) ⟨rfl, I0⟩)
  rcases zslot (x := v1) h1 with b | b | ⟨s, hs, e, b1, b2⟩
  · exact bad (Or.inl b)
  · exact bad (Or.inr b)
  obtain ⟨ll, la, w1, w2, w3, w4, w5, w6⟩ := h5
  by_cases l0 : ll = 0
  · unfold wpX_reload
    refine zx_slot1 b1 b2 (br_f (by decide) (br_f (by rw [w1, l0]; decide) ?_))
    unfold wpY_reload
    exact zy_slot0 b1 b2 (br_t rfl (br_t (by rw [w1, l0]; rfl) ⟨rfl, I0⟩))
  · obtain ⟨u', v', i, wx, wy⟩ := Z
    obtain ⟨r, u2, v2, i2, wx2, wy2⟩ := zz_rl v1 64 0 (by omega) u' v' i
    unfold wpX_reload
    refine zx_slot1 b1 b2 (br_f (by decide) (br_t (by rw [w1]; exact nI_le (a := 1) (by omega) (by omega)) (wx _ ?_)))
    have key : ∀ post : Int32 → SX → Prop, zrlX post v1 65 (nI 0) u' → (match u' with | (f_atomLimit9, f_ringLimit9, f_slotCount9, f_readState9, f_currentAtom9, f_pendingOrder9, f_branchDepth9, f_writtenLength9, f_writtenAtoms9, f_writtenCount9, f_bestClosed9, f_draftLength9, a_count9, a_kinds9, a_bonds9, a_branches9, a_ringAtom9, a_ringOrder9, a_line9, a_listing9, a_draft9, a_near9, a_place9, a_parent9, a_closed9, a_left9, a_pairDigit9, a_image9, a_signature9, a_nextSignature9) => ∃ n28 : Nat, wX_reload_28 post v1 n28 0 f_atomLimit9 f_ringLimit9 f_slotCount9 f_readState9 f_currentAtom9 f_pendingOrder9 f_branchDepth9 f_writtenLength9 f_writtenAtoms9 f_writtenCount9 f_bestClosed9 f_draftLength9 a_count9 a_kinds9 a_bonds9 a_branches9 a_ringAtom9 a_ringOrder9 a_line9 a_listing9 a_draft9 a_near9 a_place9 a_parent9 a_closed9 a_left9 a_pairDigit9 a_image9 a_signature9 a_nextSignature9) := by
      intro post h
      match u', h with
      | (f_atomLimit9, f_ringLimit9, f_slotCount9, f_readState9, f_currentAtom9, f_pendingOrder9, f_branchDepth9, f_writtenLength9, f_writtenAtoms9, f_writtenCount9, f_bestClosed9, f_draftLength9, a_count9, a_kinds9, a_bonds9, a_branches9, a_ringAtom9, a_ringOrder9, a_line9, a_listing9, a_draft9, a_near9, a_place9, a_parent9, a_closed9, a_left9, a_pairDigit9, a_image9, a_signature9, a_nextSignature9), h => exact ⟨65, h⟩
    refine key _ (wx2 _ ?_)
    unfold wpY_reload
    refine zy_slot0 b1 b2 (br_t rfl (br_f (by rw [w1]; exact nI_ne0 (by omega) (by omega)) (wy _ ?_)))
    have keyY : ∀ post : Int32 → SY → Prop, zrlY post v1 65 (nI 0) v' → (match v' with | (f_maxAtoms9, f_maxRings9, f_slotCount9, f_st9, f_cur9, f_pend9, f_depth9, f_lineLen9, f_listingLen9, f_count9, f_candLen9, a_size9, a_kinds9, a_bonds9, a_stack9, a_ringAtom9, a_ringOrder9, a_line9, a_listing9, a_perm9, a_cand9, a_digitFrom9, a_digitTo9, a_reach9) => ∃ n27 : Nat, wY_reload_27 post v1 n27 0 f_maxAtoms9 f_maxRings9 f_slotCount9 f_st9 f_cur9 f_pend9 f_depth9 f_lineLen9 f_listingLen9 f_count9 f_candLen9 a_size9 a_kinds9 a_bonds9 a_stack9 a_ringAtom9 a_ringOrder9 a_line9 a_listing9 a_perm9 a_cand9 a_digitFrom9 a_digitTo9 a_reach9) := by
      intro post h
      match v', h with
      | (f_maxAtoms9, f_maxRings9, f_slotCount9, f_st9, f_cur9, f_pend9, f_depth9, f_lineLen9, f_listingLen9, f_count9, f_candLen9, a_size9, a_kinds9, a_bonds9, a_stack9, a_ringAtom9, a_ringOrder9, a_line9, a_listing9, a_perm9, a_cand9, a_digitFrom9, a_digitTo9, a_reach9), h => exact ⟨65, h⟩
    exact keyY _ (wy2 _ ⟨rfl, i2⟩)
end
section
/-! ===== looking ===== -/
def zBad (f x : Int32) : Prop := ¬ x = -1 ∧ (x < 0 ∨ (¬ x < 0 ∧ f ≤ x))
def zGood (f x : Int32) (m : Nat) : Prop := (x = -1 ∧ m = 3) ∨ (¬ x = -1 ∧ x = nI m ∧ ¬ x < 0 ∧ ¬ f ≤ x)
theorem zblk {a r f x : Int32} (h : zLim a r f) : zBad f x ∨ ∃ m, m < 4 ∧ zGood f x m := by
  by_cases e : x = -1
  · exact Or.inr ⟨3, by decide, Or.inl ⟨e, rfl⟩⟩
  rcases zslot (x := x) h with b | b | ⟨s, hs, e1, b1, b2⟩
  · exact Or.inl ⟨e, Or.inl b⟩
  · exact Or.inl ⟨e, Or.inr b⟩
  · exact Or.inr ⟨s, by omega, Or.inr ⟨e, e1, b1, b2⟩⟩
def zNoA (n : Nat) (i : Int32) : Prop := i < 0 ∨ (¬ i < 0 ∧ nI n ≤ i)
theorem zatom {n : Nat} (hn : n ≤ 8) (i : Int32) : zNoA n i ∨ ∃ j, j < n ∧ i = nI j := by
  by_cases c : i < 0
  · exact Or.inl (Or.inl c)
  obtain ⟨j, hj, e⟩ := nI_of c
  by_cases d : n ≤ j
  · exact Or.inl (Or.inr ⟨c, by rw [e]; exact nI_le d hj⟩)
  · exact Or.inr ⟨j, by omega, e⟩
section
variable {f_atomLimit f_ringLimit f_slotCount f_readState f_currentAtom f_pendingOrder f_branchDepth f_writtenLength f_writtenAtoms f_writtenCount f_bestClosed f_draftLength : Int32} {a_count a_kinds a_bonds a_branches a_ringAtom a_ringOrder a_line a_listing a_draft a_near a_place a_parent a_closed a_left a_pairDigit a_image a_signature a_nextSignature : Nat → Int32}
theorem zx_blkB {post : Int32 → Prop} {x : Int32} (h : zBad f_slotCount x) (p : post (-1)) : wpX_blockOf post (f_atomLimit, f_ringLimit, f_slotCount, f_readState, f_currentAtom, f_pendingOrder, f_branchDepth, f_writtenLength, f_writtenAtoms, f_writtenCount, f_bestClosed, f_draftLength, a_count, a_kinds, a_bonds, a_branches, a_ringAtom, a_ringOrder, a_line, a_listing, a_draft, a_near, a_place, a_parent, a_closed, a_left, a_pairDigit, a_image, a_signature, a_nextSignature) x := by
  rcases h with ⟨h, a | ⟨a, b⟩⟩
  · exact br_f h (br_t a p)
  · exact br_f h (br_f a (br_f (Int32.not_lt.mpr b) p))
theorem zx_blkG {post : Int32 → Prop} {x : Int32} {m : Nat} (h : zGood f_slotCount x m) (p : post (nI m)) : wpX_blockOf post (f_atomLimit, f_ringLimit, f_slotCount, f_readState, f_currentAtom, f_pendingOrder, f_branchDepth, f_writtenLength, f_writtenAtoms, f_writtenCount, f_bestClosed, f_draftLength, a_count, a_kinds, a_bonds, a_branches, a_ringAtom, a_ringOrder, a_line, a_listing, a_draft, a_near, a_place, a_parent, a_closed, a_left, a_pairDigit, a_image, a_signature, a_nextSignature) x := by
  rcases h with ⟨h, rfl⟩ | ⟨h, rfl, a, b⟩
  · exact br_t h p
  · exact br_f h (br_f a (br_t (Int32.not_le.mp b) p))
theorem zx_at0 {post : Int32 → Prop} {m n : Nat} {i : Int32} (hm : m < 4) (hc : a_count m = nI n) (h : zNoA n i) (p : post 0) : wpX_isAtom post (f_atomLimit, f_ringLimit, f_slotCount, f_readState, f_currentAtom, f_pendingOrder, f_branchDepth, f_writtenLength, f_writtenAtoms, f_writtenCount, f_bestClosed, f_draftLength, a_count, a_kinds, a_bonds, a_branches, a_ringAtom, a_ringOrder, a_line, a_listing, a_draft, a_near, a_place, a_parent, a_closed, a_left, a_pairDigit, a_image, a_signature, a_nextSignature) (nI m) i := by
  unfold wpX_isAtom
  dsimp only
  rw [zcl (show m < 1000000 by omega), hc]
  rcases h with a | ⟨a, b⟩
  · exact br_t a p
  · exact br_f a ⟨zin hm (by decide), br_t b p⟩
theorem zx_at1 {post : Int32 → Prop} {m n j : Nat} (hm : m < 4) (hn : n ≤ 8) (hc : a_count m = nI n) (h : j < n) (p : post 1) : wpX_isAtom post (f_atomLimit, f_ringLimit, f_slotCount, f_readState, f_currentAtom, f_pendingOrder, f_branchDepth, f_writtenLength, f_writtenAtoms, f_writtenCount, f_bestClosed, f_draftLength, a_count, a_kinds, a_bonds, a_branches, a_ringAtom, a_ringOrder, a_line, a_listing, a_draft, a_near, a_place, a_parent, a_closed, a_left, a_pairDigit, a_image, a_signature, a_nextSignature) (nI m) (nI j) := by
  unfold wpX_isAtom
  dsimp only
  rw [zcl (show m < 1000000 by omega), hc]
  exact br_f (nI_pos (by omega)) ⟨zin hm (by decide), br_f (nI_ge h (by omega)) p⟩
end
section
variable {f_maxAtoms f_maxRings f_slotCount f_st f_cur f_pend f_depth f_lineLen f_listingLen f_count f_candLen : Int32} {a_size a_kinds a_bonds a_stack a_ringAtom a_ringOrder a_line a_listing a_perm a_cand a_digitFrom a_digitTo a_reach : Nat → Int32}
theorem zy_at1 {post : Int32 → Prop} {m n : Nat} {i : Int32} (hm : m < 4) (hc : a_size m = nI n) (h : zNoA n i) (p : post 1) : wpY_badAtom post (f_maxAtoms, f_maxRings, f_slotCount, f_st, f_cur, f_pend, f_depth, f_lineLen, f_listingLen, f_count, f_candLen, a_size, a_kinds, a_bonds, a_stack, a_ringAtom, a_ringOrder, a_line, a_listing, a_perm, a_cand, a_digitFrom, a_digitTo, a_reach) (nI m) i := by
  unfold wpY_badAtom
  dsimp only
  rw [zcl (show m < 1000000 by omega), hc]
  rcases h with a | ⟨a, b⟩
  · exact br_t a p
  · exact br_f a ⟨zin hm (by decide), br_f (Int32.not_lt.mpr b) p⟩
theorem zy_at0 {post : Int32 → Prop} {m n j : Nat} (hm : m < 4) (hn : n ≤ 8) (hc : a_size m = nI n) (h : j < n) (p : post 0) : wpY_badAtom post (f_maxAtoms, f_maxRings, f_slotCount, f_st, f_cur, f_pend, f_depth, f_lineLen, f_listingLen, f_count, f_candLen, a_size, a_kinds, a_bonds, a_stack, a_ringAtom, a_ringOrder, a_line, a_listing, a_perm, a_cand, a_digitFrom, a_digitTo, a_reach) (nI m) (nI j) := by
  unfold wpY_badAtom
  dsimp only
  rw [zcl (show m < 1000000 by omega), hc]
  exact br_f (nI_pos (by omega)) ⟨zin hm (by decide), br_t (nI_lt h (by omega)) p⟩
end
theorem i_vc_state {k : Nat} {u : SX} {v : SY} (I : i_Rel k u v) (hk : k + 5 ≤ 2563) : wpX_state (fun r => wpY_state (fun r' => r' = r ∧ i_Rel (k + 5) u v) v) u := by
  refine zz_el (P := fun u v => wpX_state (fun r => wpY_state (fun r' => r' = r ∧ i_Rel (k + 5) u v) v) u) ?_ I
  intro f_atomLimit f_ringLimit f_slotCount f_readState f_currentAtom f_pendingOrder f_branchDepth f_writtenLength f_writtenAtoms f_writtenCount f_bestClosed f_draftLength a_count a_kinds a_bonds a_branches a_ringAtom a_ringOrder a_line a_listing a_draft a_near a_place a_parent a_closed a_left a_pairDigit a_image a_signature a_nextSignature f_candLen b_kinds b_ringOrder b_line b_listing a_perm a_cand a_digitFrom a_digitTo a_reach h1 h2 h3 h4 h5
  exact ⟨rfl, zz_in h1 h2 h3 h4 h5⟩
theorem i_vc_current {k : Nat} {u : SX} {v : SY} (I : i_Rel k u v) (hk : k + 5 ≤ 2563) : wpX_current (fun r => wpY_current (fun r' => r' = r ∧ i_Rel (k + 5) u v) v) u := by
  refine zz_el (P := fun u v => wpX_current (fun r => wpY_current (fun r' => r' = r ∧ i_Rel (k + 5) u v) v) u) ?_ I
  intro f_atomLimit f_ringLimit f_slotCount f_readState f_currentAtom f_pendingOrder f_branchDepth f_writtenLength f_writtenAtoms f_writtenCount f_bestClosed f_draftLength a_count a_kinds a_bonds a_branches a_ringAtom a_ringOrder a_line a_listing a_draft a_near a_place a_parent a_closed a_left a_pairDigit a_image a_signature a_nextSignature f_candLen b_kinds b_ringOrder b_line b_listing a_perm a_cand a_digitFrom a_digitTo a_reach h1 h2 h3 h4 h5
  exact ⟨rfl, zz_in h1 h2 h3 h4 h5⟩
theorem i_vc_pending {k : Nat} {u : SX} {v : SY} (I : i_Rel k u v) (hk : k + 5 ≤ 2563) : wpX_pending (fun r => wpY_pending (fun r' => r' = r ∧ i_Rel (k + 5) u v) v) u := by
  refine zz_el (P := fun u v => wpX_pending (fun r => wpY_pending (fun r' => r' = r ∧ i_Rel (k + 5) u v) v) u) ?_ I
  intro f_atomLimit f_ringLimit f_slotCount f_readState f_currentAtom f_pendingOrder f_branchDepth f_writtenLength f_writtenAtoms f_writtenCount f_bestClosed f_draftLength a_count a_kinds a_bonds a_branches a_ringAtom a_ringOrder a_line a_listing a_draft a_near a_place a_parent a_closed a_left a_pairDigit a_image a_signature a_nextSignature f_candLen b_kinds b_ringOrder b_line b_listing a_perm a_cand a_digitFrom a_digitTo a_reach h1 h2 h3 h4 h5
  exact ⟨rfl, zz_in h1 h2 h3 h4 h5⟩
theorem i_vc_lineLength {k : Nat} {u : SX} {v : SY} (I : i_Rel k u v) (hk : k + 5 ≤ 2563) : wpX_lineLength (fun r => wpY_lineLength (fun r' => r' = r ∧ i_Rel (k + 5) u v) v) u := by
  refine zz_el (P := fun u v => wpX_lineLength (fun r => wpY_lineLength (fun r' => r' = r ∧ i_Rel (k + 5) u v) v) u) ?_ I
  intro f_atomLimit f_ringLimit f_slotCount f_readState f_currentAtom f_pendingOrder f_branchDepth f_writtenLength f_writtenAtoms f_writtenCount f_bestClosed f_draftLength a_count a_kinds a_bonds a_branches a_ringAtom a_ringOrder a_line a_listing a_draft a_near a_place a_parent a_closed a_left a_pairDigit a_image a_signature a_nextSignature f_candLen b_kinds b_ringOrder b_line b_listing a_perm a_cand a_digitFrom a_digitTo a_reach h1 h2 h3 h4 h5
  exact ⟨rfl, zz_in h1 h2 h3 h4 h5⟩
theorem i_vc_symmetries {k : Nat} {u : SX} {v : SY} (I : i_Rel k u v) (hk : k + 5 ≤ 2563) : wpX_symmetries (fun r => wpY_symmetries (fun r' => r' = r ∧ i_Rel (k + 5) u v) v) u := by
  refine zz_el (P := fun u v => wpX_symmetries (fun r => wpY_symmetries (fun r' => r' = r ∧ i_Rel (k + 5) u v) v) u) ?_ I
  intro f_atomLimit f_ringLimit f_slotCount f_readState f_currentAtom f_pendingOrder f_branchDepth f_writtenLength f_writtenAtoms f_writtenCount f_bestClosed f_draftLength a_count a_kinds a_bonds a_branches a_ringAtom a_ringOrder a_line a_listing a_draft a_near a_place a_parent a_closed a_left a_pairDigit a_image a_signature a_nextSignature f_candLen b_kinds b_ringOrder b_line b_listing a_perm a_cand a_digitFrom a_digitTo a_reach h1 h2 h3 h4 h5
  exact ⟨rfl, zz_in h1 h2 h3 h4 h5⟩
theorem i_vc_branchAtom {k : Nat} {u : SX} {v : SY} (I : i_Rel k u v) (hk : k + 5 ≤ 2563) (v1 : Int32) : wpX_branchAtom (fun r => wpY_branchAtom (fun r' => r' = r ∧ i_Rel (k + 5) u v) v v1) u v1 := by
  refine zz_el (P := fun u v => wpX_branchAtom (fun r => wpY_branchAtom (fun r' => r' = r ∧ i_Rel (k + 5) u v) v v1) u v1) ?_ I
  intro f_atomLimit f_ringLimit f_slotCount f_readState f_currentAtom f_pendingOrder f_branchDepth f_writtenLength f_writtenAtoms f_writtenCount f_bestClosed f_draftLength a_count a_kinds a_bonds a_branches a_ringAtom a_ringOrder a_line a_listing a_draft a_near a_place a_parent a_closed a_left a_pairDigit a_image a_signature a_nextSignature f_candLen b_kinds b_ringOrder b_line b_listing a_perm a_cand a_digitFrom a_digitTo a_reach h1 h2 h3 h4 h5
  have I0 : i_Rel (k + 5) (f_atomLimit, f_ringLimit, f_slotCount, f_readState, f_currentAtom, f_pendingOrder, f_branchDepth, f_writtenLength, f_writtenAtoms, f_writtenCount, f_bestClosed, f_draftLength, a_count, a_kinds, a_bonds, a_branches, a_ringAtom, a_ringOrder, a_line, a_listing, a_draft, a_near, a_place, a_parent, a_closed, a_left, a_pairDigit, a_image, a_signature, a_nextSignature) (f_atomLimit, f_ringLimit, f_slotCount, f_readState, f_currentAtom, f_pendingOrder, f_branchDepth, f_writtenLength, f_writtenAtoms, f_writtenCount, f_candLen, a_count, b_kinds, a_bonds, a_branches, a_ringAtom, b_ringOrder, b_line, b_listing, a_perm, a_cand, a_digitFrom, a_digitTo, a_reach) := zz_in h1 h2 h3 h4 h5
  by_cases c : v1 < 0
  · exact br_t c (br_t c ⟨rfl, I0⟩)
  by_cases d : v1 < f_branchDepth
  · have ix : vp_in v1 8 := by
      have := (h2.2.1 3 (by decide)).2.1
      obtain ⟨al, st, dp, pe, g1, g2, g3, g4, g5, g6, g7, g8, g9, g10, g11, g12, g13⟩ := h4
      obtain ⟨j, hj, e⟩ := nI_of c
      rw [g6, e, nI_ltI hj (by omega)] at d
      rw [e]; exact zin (by omega) (by decide)
    exact br_f c (br_t d ⟨ix, br_f c (br_t d ⟨ix, rfl, I0⟩)⟩)
  · exact br_f c (br_f d (br_f c (br_f d ⟨rfl, I0⟩)))
theorem i_vc_ring {k : Nat} {u : SX} {v : SY} (I : i_Rel k u v) (hk : k + 5 ≤ 2563) (v1 : Int32) : wpX_ring (fun r => wpY_ring (fun r' => r' = r ∧ i_Rel (k + 5) u v) v v1) u v1 := by
  refine zz_el (P := fun u v => wpX_ring (fun r => wpY_ring (fun r' => r' = r ∧ i_Rel (k + 5) u v) v v1) u v1) ?_ I
  intro f_atomLimit f_ringLimit f_slotCount f_readState f_currentAtom f_pendingOrder f_branchDepth f_writtenLength f_writtenAtoms f_writtenCount f_bestClosed f_draftLength a_count a_kinds a_bonds a_branches a_ringAtom a_ringOrder a_line a_listing a_draft a_near a_place a_parent a_closed a_left a_pairDigit a_image a_signature a_nextSignature f_candLen b_kinds b_ringOrder b_line b_listing a_perm a_cand a_digitFrom a_digitTo a_reach h1 h2 h3 h4 h5
  have I0 : i_Rel (k + 5) (f_atomLimit, f_ringLimit, f_slotCount, f_readState, f_currentAtom, f_pendingOrder, f_branchDepth, f_writtenLength, f_writtenAtoms, f_writtenCount, f_bestClosed, f_draftLength, a_count, a_kinds, a_bonds, a_branches, a_ringAtom, a_ringOrder, a_line, a_listing, a_draft, a_near, a_place, a_parent, a_closed, a_left, a_pairDigit, a_image, a_signature, a_nextSignature) (f_atomLimit, f_ringLimit, f_slotCount, f_readState, f_currentAtom, f_pendingOrder, f_branchDepth, f_writtenLength, f_writtenAtoms, f_writtenCount, f_candLen, a_count, b_kinds, a_bonds, a_branches, a_ringAtom, b_ringOrder, b_line, b_listing, a_perm, a_cand, a_digitFrom, a_digitTo, a_reach) := zz_in h1 h2 h3 h4 h5
  by_cases c : v1 < 1
  · exact br_t c (br_t c ⟨rfl, I0⟩)
  by_cases d : v1 ≤ 9
  · have d' : ¬ 9 < v1 := Int32.not_lt.mpr d
    have c0 : ¬ v1 < 0 := fun z => c (by rw [Int32.lt_iff_toInt_lt] at z ⊢; have e1 : (0 : Int32).toInt = 0 := by decide
                                         have e2 : (1 : Int32).toInt = 1 := by decide
                                         omega)
    obtain ⟨j, hj, e⟩ := nI_of c0
    subst e
    have b1 : ¬ nI j < nI 1 := c
    have b2 : nI j ≤ nI 9 := d
    rw [nI_ltI hj (by decide)] at b1
    rw [nI_leI hj (by decide)] at b2
    have cj : (nI j).toNatClampNeg = j := zcl (by omega)
    have ij : vp_in (nI j) 10 := zin (by omega) (by decide)
    unfold wpX_ring
    dsimp only
    unfold wpY_ring
    dsimp only
    rw [cj]
    rcases h3 j (by omega) b2 with e | ⟨⟨a, e, ha⟩, e2, _⟩
    · have n0 : ¬ (0 : Int32) ≤ a_ringAtom j := by rw [e]; decide
      exact br_f c (br_t d ⟨ij, br_f n0 (br_f c (br_f d' ⟨ij, br_f n0 ⟨rfl, I0⟩⟩))⟩)
    · have n0 : (0 : Int32) ≤ a_ringAtom j := by rw [e]; exact nI_pos' (by have := (h2.2.1 3 (by decide)).2.1; omega)
      exact br_f c (br_t d ⟨ij, br_t n0 ⟨ij, ij, br_f c (br_f d' ⟨ij, br_t n0 ⟨ij, ij, by rw [e2], I0⟩⟩)⟩⟩)
  · have d' : 9 < v1 := Int32.not_le.mp d
    exact br_f c (br_f d (br_f c (br_t d' ⟨rfl, I0⟩)))
theorem i_vc_lineChar {k : Nat} {u : SX} {v : SY} (I : i_Rel k u v) (hk : k + 5 ≤ 2563) (v1 : Int32) : wpX_lineChar (fun r => wpY_lineChar (fun r' => r' = r ∧ i_Rel (k + 5) u v) v v1) u v1 := by
  refine zz_el (P := fun u v => wpX_lineChar (fun r => wpY_lineChar (fun r' => r' = r ∧ i_Rel (k + 5) u v) v v1) u v1) ?_ I
  intro f_atomLimit f_ringLimit f_slotCount f_readState f_currentAtom f_pendingOrder f_branchDepth f_writtenLength f_writtenAtoms f_writtenCount f_bestClosed f_draftLength a_count a_kinds a_bonds a_branches a_ringAtom a_ringOrder a_line a_listing a_draft a_near a_place a_parent a_closed a_left a_pairDigit a_image a_signature a_nextSignature f_candLen b_kinds b_ringOrder b_line b_listing a_perm a_cand a_digitFrom a_digitTo a_reach h1 h2 h3 h4 h5
  have I0 : i_Rel (k + 5) (f_atomLimit, f_ringLimit, f_slotCount, f_readState, f_currentAtom, f_pendingOrder, f_branchDepth, f_writtenLength, f_writtenAtoms, f_writtenCount, f_bestClosed, f_draftLength, a_count, a_kinds, a_bonds, a_branches, a_ringAtom, a_ringOrder, a_line, a_listing, a_draft, a_near, a_place, a_parent, a_closed, a_left, a_pairDigit, a_image, a_signature, a_nextSignature) (f_atomLimit, f_ringLimit, f_slotCount, f_readState, f_currentAtom, f_pendingOrder, f_branchDepth, f_writtenLength, f_writtenAtoms, f_writtenCount, f_candLen, a_count, b_kinds, a_bonds, a_branches, a_ringAtom, b_ringOrder, b_line, b_listing, a_perm, a_cand, a_digitFrom, a_digitTo, a_reach) := zz_in h1 h2 h3 h4 h5
  by_cases c : v1 < 0
  · exact br_t c (br_t c ⟨rfl, I0⟩)
  by_cases d : v1 < f_writtenLength
  · obtain ⟨ll, la, w1, w2, w3, w4, w5, w6⟩ := h5
    obtain ⟨j, hj, e⟩ := nI_of c
    have d0 := d
    rw [w1, e, nI_ltI hj (by omega)] at d
    have ij : vp_in v1 64 := by rw [e]; exact zin (by omega) (by decide)
    have el : b_line v1.toNatClampNeg = a_line v1.toNatClampNeg := by rw [e, zcl (by omega)]; exact (w5 j d).symm
    exact br_f c (br_t d0 ⟨ij, br_f c (br_t d0 ⟨ij, el, I0⟩)⟩)
  · exact br_f c (br_f d (br_f c (br_f d ⟨rfl, I0⟩)))
theorem i_vc_lineAtom {k : Nat} {u : SX} {v : SY} (I : i_Rel k u v) (hk : k + 5 ≤ 2563) (v1 : Int32) : wpX_lineAtom (fun r => wpY_lineAtom (fun r' => r' = r ∧ i_Rel (k + 5) u v) v v1) u v1 := by
  refine zz_el (P := fun u v => wpX_lineAtom (fun r => wpY_lineAtom (fun r' => r' = r ∧ i_Rel (k + 5) u v) v v1) u v1) ?_ I
  intro f_atomLimit f_ringLimit f_slotCount f_readState f_currentAtom f_pendingOrder f_branchDepth f_writtenLength f_writtenAtoms f_writtenCount f_bestClosed f_draftLength a_count a_kinds a_bonds a_branches a_ringAtom a_ringOrder a_line a_listing a_draft a_near a_place a_parent a_closed a_left a_pairDigit a_image a_signature a_nextSignature f_candLen b_kinds b_ringOrder b_line b_listing a_perm a_cand a_digitFrom a_digitTo a_reach h1 h2 h3 h4 h5
  have I0 : i_Rel (k + 5) (f_atomLimit, f_ringLimit, f_slotCount, f_readState, f_currentAtom, f_pendingOrder, f_branchDepth, f_writtenLength, f_writtenAtoms, f_writtenCount, f_bestClosed, f_draftLength, a_count, a_kinds, a_bonds, a_branches, a_ringAtom, a_ringOrder, a_line, a_listing, a_draft, a_near, a_place, a_parent, a_closed, a_left, a_pairDigit, a_image, a_signature, a_nextSignature) (f_atomLimit, f_ringLimit, f_slotCount, f_readState, f_currentAtom, f_pendingOrder, f_branchDepth, f_writtenLength, f_writtenAtoms, f_writtenCount, f_candLen, a_count, b_kinds, a_bonds, a_branches, a_ringAtom, b_ringOrder, b_line, b_listing, a_perm, a_cand, a_digitFrom, a_digitTo, a_reach) := zz_in h1 h2 h3 h4 h5
  by_cases c : v1 < 0
  · exact br_t c (br_t c ⟨rfl, I0⟩)
  by_cases d : v1 < f_writtenAtoms
  · obtain ⟨ll, la, w1, w2, w3, w4, w5, w6⟩ := h5
    obtain ⟨j, hj, e⟩ := nI_of c
    have d0 := d
    rw [w3, e, nI_ltI hj (by omega)] at d
    have ij : vp_in v1 8 := by rw [e]; exact zin (by omega) (by decide)
    have el : b_listing v1.toNatClampNeg = a_listing v1.toNatClampNeg := by rw [e, zcl (by omega)]; exact (w6 j d).symm
    exact br_f c (br_t d0 ⟨ij, br_f c (br_t d0 ⟨ij, el, I0⟩)⟩)
  · exact br_f c (br_f d (br_f c (br_f d ⟨rfl, I0⟩)))
section
variable {f_maxAtoms f_maxRings f_slotCount f_st f_cur f_pend f_depth f_lineLen f_listingLen f_count f_candLen : Int32} {a_size a_kinds a_bonds a_stack a_ringAtom a_ringOrder a_line a_listing a_perm a_cand a_digitFrom a_digitTo a_reach : Nat → Int32}
theorem zy_good {P : Prop} {A B : Prop} {x : Int32} {m : Nat} {postS : Int32 → Prop} (h : zGood f_slotCount x m) (ha : x = -1 → A) (hb : postS 0) : (x = -1 → A) ∧ (¬ x = -1 → wpY_badSlot postS (f_maxAtoms, f_maxRings, f_slotCount, f_st, f_cur, f_pend, f_depth, f_lineLen, f_listingLen, f_count, f_candLen, a_size, a_kinds, a_bonds, a_stack, a_ringAtom, a_ringOrder, a_line, a_listing, a_perm, a_cand, a_digitFrom, a_digitTo, a_reach) x) := by
  rcases h with ⟨h, e⟩ | ⟨h, e, a, b⟩
  · exact br_t h (ha h)
  · exact br_f h (zy_slot0 a b hb)
theorem zy_bad {A : Prop} {x : Int32} {postS : Int32 → Prop} (h : zBad f_slotCount x) (hb : postS 1) : (x = -1 → A) ∧ (¬ x = -1 → wpY_badSlot postS (f_maxAtoms, f_maxRings, f_slotCount, f_st, f_cur, f_pend, f_depth, f_lineLen, f_listingLen, f_count, f_candLen, a_size, a_kinds, a_bonds, a_stack, a_ringAtom, a_ringOrder, a_line, a_listing, a_perm, a_cand, a_digitFrom, a_digitTo, a_reach) x) := br_f h.1 (zy_slot1 h.2 hb)
end
theorem zy_pick {A : Int32 → Prop} {f x : Int32} {m : Nat} (h : zGood f x m) (p : A (nI m)) : (x = -1 → A 3) ∧ (¬ x = -1 → A x) := by
  rcases h with ⟨h, rfl⟩ | ⟨h, rfl, a, b⟩
  · exact br_t h p
  · exact br_f h p
end
section
/-! ===== atoms, kind, bond, hydrogens ===== -/
theorem i_vc_atoms {k : Nat} {u : SX} {v : SY} (I : i_Rel k u v) (hk : k + 5 ≤ 2563) (v1 : Int32) : wpX_atoms (fun r => wpY_atoms (fun r' => r' = r ∧ i_Rel (k + 5) u v) v v1) u v1 := by
  refine zz_el (P := fun u v => wpX_atoms (fun r => wpY_atoms (fun r' => r' = r ∧ i_Rel (k + 5) u v) v v1) u v1) ?_ I
  intro f_atomLimit f_ringLimit f_slotCount f_readState f_currentAtom f_pendingOrder f_branchDepth f_writtenLength f_writtenAtoms f_writtenCount f_bestClosed f_draftLength a_count a_kinds a_bonds a_branches a_ringAtom a_ringOrder a_line a_listing a_draft a_near a_place a_parent a_closed a_left a_pairDigit a_image a_signature a_nextSignature f_candLen b_kinds b_ringOrder b_line b_listing a_perm a_cand a_digitFrom a_digitTo a_reach h1 h2 h3 h4 h5
  have I0 : i_Rel (k + 5) (f_atomLimit, f_ringLimit, f_slotCount, f_readState, f_currentAtom, f_pendingOrder, f_branchDepth, f_writtenLength, f_writtenAtoms, f_writtenCount, f_bestClosed, f_draftLength, a_count, a_kinds, a_bonds, a_branches, a_ringAtom, a_ringOrder, a_line, a_listing, a_draft, a_near, a_place, a_parent, a_closed, a_left, a_pairDigit, a_image, a_signature, a_nextSignature) (f_atomLimit, f_ringLimit, f_slotCount, f_readState, f_currentAtom, f_pendingOrder, f_branchDepth, f_writtenLength, f_writtenAtoms, f_writtenCount, f_candLen, a_count, b_kinds, a_bonds, a_branches, a_ringAtom, b_ringOrder, b_line, b_listing, a_perm, a_cand, a_digitFrom, a_digitTo, a_reach) := zz_in h1 h2 h3 h4 h5
  unfold wpX_atoms
  rcases zblk (x := v1) h1 with b | ⟨m, hm, g⟩
  · refine zx_blkB b (br_f (by decide) ?_)
    unfold wpY_atoms
    exact zy_bad b (br_f (by decide) ⟨rfl, I0⟩)
  · refine zx_blkG g (br_t (nI_pos' (by omega)) ⟨zin hm (by decide), ?_⟩)
    rw [zcl (show m < 1000000 by omega)]
    unfold wpY_atoms
    rcases g with ⟨g, rfl⟩ | ⟨g, rfl, a, b⟩
    · exact br_t g ⟨rfl, I0⟩
    · refine br_f g (zy_slot0 a b (br_t rfl ⟨zin hm (by decide), ?_⟩))
      rw [zcl (show m < 1000000 by omega)]
      exact ⟨rfl, I0⟩
theorem i_vc_kind {k : Nat} {u : SX} {v : SY} (I : i_Rel k u v) (hk : k + 5 ≤ 2563) (v1 : Int32) (v2 : Int32) : wpX_kind (fun r => wpY_kind (fun r' => r' = r ∧ i_Rel (k + 5) u v) v v1 v2) u v1 v2 := by
  refine zz_el (P := fun u v => wpX_kind (fun r => wpY_kind (fun r' => r' = r ∧ i_Rel (k + 5) u v) v v1 v2) u v1 v2) ?_ I
  intro f_atomLimit f_ringLimit f_slotCount f_readState f_currentAtom f_pendingOrder f_branchDepth f_writtenLength f_writtenAtoms f_writtenCount f_bestClosed f_draftLength a_count a_kinds a_bonds a_branches a_ringAtom a_ringOrder a_line a_listing a_draft a_near a_place a_parent a_closed a_left a_pairDigit a_image a_signature a_nextSignature f_candLen b_kinds b_ringOrder b_line b_listing a_perm a_cand a_digitFrom a_digitTo a_reach h1 h2 h3 h4 h5
  have I0 : i_Rel (k + 5) (f_atomLimit, f_ringLimit, f_slotCount, f_readState, f_currentAtom, f_pendingOrder, f_branchDepth, f_writtenLength, f_writtenAtoms, f_writtenCount, f_bestClosed, f_draftLength, a_count, a_kinds, a_bonds, a_branches, a_ringAtom, a_ringOrder, a_line, a_listing, a_draft, a_near, a_place, a_parent, a_closed, a_left, a_pairDigit, a_image, a_signature, a_nextSignature) (f_atomLimit, f_ringLimit, f_slotCount, f_readState, f_currentAtom, f_pendingOrder, f_branchDepth, f_writtenLength, f_writtenAtoms, f_writtenCount, f_candLen, a_count, b_kinds, a_bonds, a_branches, a_ringAtom, b_ringOrder, b_line, b_listing, a_perm, a_cand, a_digitFrom, a_digitTo, a_reach) := zz_in h1 h2 h3 h4 h5
  unfold wpX_kind
  rcases zblk (x := v1) h1 with b | ⟨m, hm, g⟩
  · refine zx_blkB b (br_f (by decide) ?_)
    unfold wpY_kind
    exact zy_bad b (br_f (by decide) ⟨rfl, I0⟩)
  · obtain ⟨hc, hM⟩ := h2.2.1 m hm
    have n8 := hM.1
    have hY : ∀ post : Int32 → Prop, wY_kind_26 post v2 (nI m) f_atomLimit f_ringLimit f_slotCount f_readState f_currentAtom f_pendingOrder f_branchDepth f_writtenLength f_writtenAtoms f_writtenCount f_candLen a_count b_kinds a_bonds a_branches a_ringAtom b_ringOrder b_line b_listing a_perm a_cand a_digitFrom a_digitTo a_reach → wpY_kind post (f_atomLimit, f_ringLimit, f_slotCount, f_readState, f_currentAtom, f_pendingOrder, f_branchDepth, f_writtenLength, f_writtenAtoms, f_writtenCount, f_candLen, a_count, b_kinds, a_bonds, a_branches, a_ringAtom, b_ringOrder, b_line, b_listing, a_perm, a_cand, a_digitFrom, a_digitTo, a_reach) v1 v2 := by
      intro post q
      have q16 : wY_kind_16 post v1 v2 f_atomLimit f_ringLimit f_slotCount f_readState f_currentAtom f_pendingOrder f_branchDepth f_writtenLength f_writtenAtoms f_writtenCount f_candLen a_count b_kinds a_bonds a_branches a_ringAtom b_ringOrder b_line b_listing a_perm a_cand a_digitFrom a_digitTo a_reach := zy_pick (A := fun z => wY_kind_26 post v2 z f_atomLimit f_ringLimit f_slotCount f_readState f_currentAtom f_pendingOrder f_branchDepth f_writtenLength f_writtenAtoms f_writtenCount f_candLen a_count b_kinds a_bonds a_branches a_ringAtom b_ringOrder b_line b_listing a_perm a_cand a_digitFrom a_digitTo a_reach) g q
      unfold wpY_kind
      exact zy_good (P := True) (B := True) g (fun _ => q16) (br_t rfl q16)
    rcases zatom n8 v2 with na | ⟨j, hj, rfl⟩
    · exact zx_blkG g (br_t (nI_pos' (by omega)) (zx_at0 hm hc na (br_t rfl (hY _ (zy_at1 hm hc na (br_f (by decide) ⟨rfl, I0⟩))))))
    · refine zx_blkG g (br_t (nI_pos' (by omega)) (zx_at1 hm n8 hc hj (br_f (by decide) ⟨zkx_in hm (by omega), hY _ (zy_at0 hm n8 hc hj (br_t rfl ⟨zkx_in hm (by omega), ?_, I0⟩))⟩)))
      rw [zkx_c hm (by omega)]
      exact (h2.2.2 m j hm hj).1.symm
theorem i_vc_bond {k : Nat} {u : SX} {v : SY} (I : i_Rel k u v) (hk : k + 5 ≤ 2563) (v1 : Int32) (v2 : Int32) (v3 : Int32) : wpX_bond (fun r => wpY_bond (fun r' => r' = r ∧ i_Rel (k + 5) u v) v v1 v2 v3) u v1 v2 v3 := by
  refine zz_el (P := fun u v => wpX_bond (fun r => wpY_bond (fun r' => r' = r ∧ i_Rel (k + 5) u v) v v1 v2 v3) u v1 v2 v3) ?_ I
  intro f_atomLimit f_ringLimit f_slotCount f_readState f_currentAtom f_pendingOrder f_branchDepth f_writtenLength f_writtenAtoms f_writtenCount f_bestClosed f_draftLength a_count a_kinds a_bonds a_branches a_ringAtom a_ringOrder a_line a_listing a_draft a_near a_place a_parent a_closed a_left a_pairDigit a_image a_signature a_nextSignature f_candLen b_kinds b_ringOrder b_line b_listing a_perm a_cand a_digitFrom a_digitTo a_reach h1 h2 h3 h4 h5
  have I0 : i_Rel (k + 5) (f_atomLimit, f_ringLimit, f_slotCount, f_readState, f_currentAtom, f_pendingOrder, f_branchDepth, f_writtenLength, f_writtenAtoms, f_writtenCount, f_bestClosed, f_draftLength, a_count, a_kinds, a_bonds, a_branches, a_ringAtom, a_ringOrder, a_line, a_listing, a_draft, a_near, a_place, a_parent, a_closed, a_left, a_pairDigit, a_image, a_signature, a_nextSignature) (f_atomLimit, f_ringLimit, f_slotCount, f_readState, f_currentAtom, f_pendingOrder, f_branchDepth, f_writtenLength, f_writtenAtoms, f_writtenCount, f_candLen, a_count, b_kinds, a_bonds, a_branches, a_ringAtom, b_ringOrder, b_line, b_listing, a_perm, a_cand, a_digitFrom, a_digitTo, a_reach) := zz_in h1 h2 h3 h4 h5
  unfold wpX_bond
  rcases zblk (x := v1) h1 with b | ⟨m, hm, g⟩
  · refine zx_blkB b (br_f (by decide) ?_)
    unfold wpY_bond
    exact zy_bad b (br_f (by decide) ⟨rfl, I0⟩)
  · obtain ⟨hc, hM⟩ := h2.2.1 m hm
    have n8 := hM.1
    have hY : ∀ post : Int32 → Prop, wY_bond_26 post v2 v3 (nI m) f_atomLimit f_ringLimit f_slotCount f_readState f_currentAtom f_pendingOrder f_branchDepth f_writtenLength f_writtenAtoms f_writtenCount f_candLen a_count b_kinds a_bonds a_branches a_ringAtom b_ringOrder b_line b_listing a_perm a_cand a_digitFrom a_digitTo a_reach → wpY_bond post (f_atomLimit, f_ringLimit, f_slotCount, f_readState, f_currentAtom, f_pendingOrder, f_branchDepth, f_writtenLength, f_writtenAtoms, f_writtenCount, f_candLen, a_count, b_kinds, a_bonds, a_branches, a_ringAtom, b_ringOrder, b_line, b_listing, a_perm, a_cand, a_digitFrom, a_digitTo, a_reach) v1 v2 v3 := by
      intro post q
      have q16 : wY_bond_16 post v1 v2 v3 f_atomLimit f_ringLimit f_slotCount f_readState f_currentAtom f_pendingOrder f_branchDepth f_writtenLength f_writtenAtoms f_writtenCount f_candLen a_count b_kinds a_bonds a_branches a_ringAtom b_ringOrder b_line b_listing a_perm a_cand a_digitFrom a_digitTo a_reach := zy_pick (A := fun z => wY_bond_26 post v2 v3 z f_atomLimit f_ringLimit f_slotCount f_readState f_currentAtom f_pendingOrder f_branchDepth f_writtenLength f_writtenAtoms f_writtenCount f_candLen a_count b_kinds a_bonds a_branches a_ringAtom b_ringOrder b_line b_listing a_perm a_cand a_digitFrom a_digitTo a_reach) g q
      unfold wpY_bond
      exact zy_good (P := True) (B := True) g (fun _ => q16) (br_t rfl q16)
    rcases zatom n8 v2 with na | ⟨j, hj, rfl⟩
    · exact zx_blkG g (br_t (nI_pos' (by omega)) (zx_at0 hm hc na (br_t rfl (hY _ (zy_at1 hm hc na (br_f (by decide) ⟨rfl, I0⟩))))))
    rcases zatom n8 v3 with na | ⟨i, hi, rfl⟩
    · exact zx_blkG g (br_t (nI_pos' (by omega)) (zx_at1 hm n8 hc hj (br_f (by decide) (zx_at0 hm hc na (br_t rfl (hY _ (zy_at0 hm n8 hc hj (br_t rfl (zy_at1 hm hc na (br_f (by decide) ⟨rfl, I0⟩))))))))))
    · refine zx_blkG g (br_t (nI_pos' (by omega)) (zx_at1 hm n8 hc hj (br_f (by decide) (zx_at1 hm n8 hc hi (br_f (by decide) ⟨zix_in hm (by omega) (by omega), hY _ (zy_at0 hm n8 hc hj (br_t rfl (zy_at0 hm n8 hc hi (br_t rfl (zy_get hm (by omega) (by omega) ⟨?_, I0⟩)))))⟩)))))
      rw [zix_c hm (by omega) (by omega)]
theorem i_vc_hydrogens {k : Nat} {u : SX} {v : SY} (I : i_Rel k u v) (hk : k + 5 ≤ 2563) (v1 : Int32) (v2 : Int32) : wpX_hydrogens (fun r => wpY_hydrogens (fun r' => r' = r ∧ i_Rel (k + 5) u v) v v1 v2) u v1 v2 := by
  refine zz_el (P := fun u v => wpX_hydrogens (fun r => wpY_hydrogens (fun r' => r' = r ∧ i_Rel (k + 5) u v) v v1 v2) u v1 v2) ?_ I
  intro f_atomLimit f_ringLimit f_slotCount f_readState f_currentAtom f_pendingOrder f_branchDepth f_writtenLength f_writtenAtoms f_writtenCount f_bestClosed f_draftLength a_count a_kinds a_bonds a_branches a_ringAtom a_ringOrder a_line a_listing a_draft a_near a_place a_parent a_closed a_left a_pairDigit a_image a_signature a_nextSignature f_candLen b_kinds b_ringOrder b_line b_listing a_perm a_cand a_digitFrom a_digitTo a_reach h1 h2 h3 h4 h5
  have I0 : i_Rel (k + 5) (f_atomLimit, f_ringLimit, f_slotCount, f_readState, f_currentAtom, f_pendingOrder, f_branchDepth, f_writtenLength, f_writtenAtoms, f_writtenCount, f_bestClosed, f_draftLength, a_count, a_kinds, a_bonds, a_branches, a_ringAtom, a_ringOrder, a_line, a_listing, a_draft, a_near, a_place, a_parent, a_closed, a_left, a_pairDigit, a_image, a_signature, a_nextSignature) (f_atomLimit, f_ringLimit, f_slotCount, f_readState, f_currentAtom, f_pendingOrder, f_branchDepth, f_writtenLength, f_writtenAtoms, f_writtenCount, f_candLen, a_count, b_kinds, a_bonds, a_branches, a_ringAtom, b_ringOrder, b_line, b_listing, a_perm, a_cand, a_digitFrom, a_digitTo, a_reach) := zz_in h1 h2 h3 h4 h5
  unfold wpX_hydrogens
  rcases zblk (x := v1) h1 with b | ⟨m, hm, g⟩
  · refine zx_blkB b (br_f (by decide) ?_)
    unfold wpY_hydrogens
    exact zy_bad b (br_f (by decide) ⟨rfl, I0⟩)
  · obtain ⟨hc, hM⟩ := h2.2.1 m hm
    have n8 := hM.1
    have hY : ∀ post : Int32 → Prop, wY_hydrogens_26 post v2 (nI m) f_atomLimit f_ringLimit f_slotCount f_readState f_currentAtom f_pendingOrder f_branchDepth f_writtenLength f_writtenAtoms f_writtenCount f_candLen a_count b_kinds a_bonds a_branches a_ringAtom b_ringOrder b_line b_listing a_perm a_cand a_digitFrom a_digitTo a_reach → wpY_hydrogens post (f_atomLimit, f_ringLimit, f_slotCount, f_readState, f_currentAtom, f_pendingOrder, f_branchDepth, f_writtenLength, f_writtenAtoms, f_writtenCount, f_candLen, a_count, b_kinds, a_bonds, a_branches, a_ringAtom, b_ringOrder, b_line, b_listing, a_perm, a_cand, a_digitFrom, a_digitTo, a_reach) v1 v2 := by
      intro post q
      have q16 : wY_hydrogens_16 post v1 v2 f_atomLimit f_ringLimit f_slotCount f_readState f_currentAtom f_pendingOrder f_branchDepth f_writtenLength f_writtenAtoms f_writtenCount f_candLen a_count b_kinds a_bonds a_branches a_ringAtom b_ringOrder b_line b_listing a_perm a_cand a_digitFrom a_digitTo a_reach := zy_pick (A := fun z => wY_hydrogens_26 post v2 z f_atomLimit f_ringLimit f_slotCount f_readState f_currentAtom f_pendingOrder f_branchDepth f_writtenLength f_writtenAtoms f_writtenCount f_candLen a_count b_kinds a_bonds a_branches a_ringAtom b_ringOrder b_line b_listing a_perm a_cand a_digitFrom a_digitTo a_reach) g q
      unfold wpY_hydrogens
      exact zy_good (P := True) (B := True) g (fun _ => q16) (br_t rfl q16)
    rcases zatom n8 v2 with na | ⟨j, hj, rfl⟩
    · exact zx_blkG g (br_t (nI_pos' (by omega)) (zx_at0 hm hc na (br_t rfl (hY _ (zy_at1 hm hc na (br_f (by decide) ⟨rfl, I0⟩))))))
    · refine zx_blkG g (br_t (nI_pos' (by omega)) (zx_at1 hm n8 hc hj (br_f (by decide) (zx_free hm (by omega) (hY _ (zy_at0 hm n8 hc hj (br_t rfl (zy_free hm (by omega) n8 hc ⟨?_, I0⟩))))))))
      rw [← (h2.2.2 m j hm hj).1, zfree_n h2.1 hM (by omega)]
/-! ===== the constructors ===== -/
def zcm (x lo hi : Int32) : Int32 := if lo ≤ x then (if x ≤ hi then x else hi) else lo
theorem zcm_N {x : Int32} {lo hi : Nat} (h : lo ≤ hi) (hh : hi < 1000) : ∃ j, zcm x (nI lo) (nI hi) = nI j ∧ lo ≤ j ∧ j ≤ hi := by
  unfold zcm
  by_cases c : nI lo ≤ x
  · rw [if_pos c]
    by_cases d : x ≤ nI hi
    · rw [if_pos d]
      have c0 : ¬ x < 0 := fun z => by
        rw [Int32.lt_iff_toInt_lt] at z
        rw [Int32.le_iff_toInt_le, nI_toInt (by omega)] at c
        have e1 : (0 : Int32).toInt = 0 := by decide
        omega
      obtain ⟨j, hj, e⟩ := nI_of c0
      rw [e, nI_leI (by omega) hj] at c
      rw [e, nI_leI hj (by omega)] at d
      exact ⟨j, e, c, d⟩
    · rw [if_neg d]; exact ⟨hi, rfl, h, Nat.le_refl _⟩
  · rw [if_neg c]; exact ⟨lo, rfl, Nat.le_refl _, h⟩
section
variable {f_atomLimit f_ringLimit f_slotCount f_readState f_currentAtom f_pendingOrder f_branchDepth f_writtenLength f_writtenAtoms f_writtenCount f_bestClosed f_draftLength : Int32} {a_count a_kinds a_bonds a_branches a_ringAtom a_ringOrder a_line a_listing a_draft a_near a_place a_parent a_closed a_left a_pairDigit a_image a_signature a_nextSignature : Nat → Int32}
theorem zx_clamp {post : Int32 → Prop} {x lo hi : Int32} (p : post (zcm x lo hi)) : wpX_clamp post (f_atomLimit, f_ringLimit, f_slotCount, f_readState, f_currentAtom, f_pendingOrder, f_branchDepth, f_writtenLength, f_writtenAtoms, f_writtenCount, f_bestClosed, f_draftLength, a_count, a_kinds, a_bonds, a_branches, a_ringAtom, a_ringOrder, a_line, a_listing, a_draft, a_near, a_place, a_parent, a_closed, a_left, a_pairDigit, a_image, a_signature, a_nextSignature) x lo hi := by
  unfold zcm at p
  by_cases c : lo ≤ x
  · rw [if_pos c] at p
    by_cases d : x ≤ hi
    · rw [if_pos d] at p; exact br_t c (br_t d p)
    · rw [if_neg d] at p; exact br_t c (br_f d p)
  · rw [if_neg c] at p; exact br_f c p
end
theorem zcm_if {x lo hi : Int32} {W : Int32 → Prop} (p : W (zcm x lo hi)) : (lo ≤ x → ((x ≤ hi → W x) ∧ (¬ x ≤ hi → W hi))) ∧ (¬ lo ≤ x → W lo) := by
  unfold zcm at p
  by_cases c : lo ≤ x
  · rw [if_pos c] at p
    by_cases d : x ≤ hi
    · rw [if_pos d] at p; exact br_t c (br_t d p)
    · rw [if_neg d] at p; exact br_t c (br_f d p)
  · rw [if_neg c] at p; exact br_f c p
theorem zSto_0 : zSto (fun _ => 0) (fun _ => 0) (fun _ => 0) (fun _ => 0) := by
  have z : ∀ i, zc (fun _ => (0 : Int32)) i = 0 := fun i => rfl
  refine ⟨fun t => ⟨rfl, Nat.zero_le _⟩, fun m _ => ⟨rfl, ?_⟩, fun m i _ hi => ?_⟩
  · rw [z]; exact zMol_0 (fun _ _ _ _ => rfl)
  · rw [z] at hi; omega
theorem i_vc0 (k0 : Int32) (k1 : Int32) (k2 : Int32) : wpX_init (fun u => wpY_init (fun v => i_Rel 3 u v) k0 k1 k2) k0 k1 k2 := by
  obtain ⟨al, e1, a1, a2⟩ := zcm_N (x := k0) (lo := 2) (hi := 8) (by decide) (by decide)
  obtain ⟨rl, e2, b1, b2⟩ := zcm_N (x := k1) (lo := 0) (hi := 9) (by decide) (by decide)
  obtain ⟨sc, e3, c1, c2⟩ := zcm_N (x := k2) (lo := 1) (hi := 3) (by decide) (by decide)
  have hL : zLim (zcm k0 2 8) (zcm k1 0 9) (zcm k2 1 3) := ⟨al, rl, sc, e1, a1, a2, e2, b2, e3, c1, c2⟩
  unfold wpX_init
  refine zx_clamp (zx_clamp (zx_clamp (zx_reset ?_)))
  dsimp only
  unfold wpY_init
  refine zcm_if (W := fun z0 => wY_init_130 _ k1 k2 z0 0 0 0 0 0 0 0 0 0 0 0 (fun _ => 0) (fun _ => 0) (fun _ => 0) (fun _ => 0) (fun _ => 0) (fun _ => 0) (fun _ => 0) (fun _ => 0) (fun _ => 0) (fun _ => 0) (fun _ => 0) (fun _ => 0) (fun _ => 0)) ?_
  unfold wY_init_130
  refine zcm_if (W := fun z0 => wY_init_154 _ k2 z0 (zcm k0 2 8) 0 0 0 0 0 0 0 0 0 0 (fun _ => 0) (fun _ => 0) (fun _ => 0) (fun _ => 0) (fun _ => 0) (fun _ => 0) (fun _ => 0) (fun _ => 0) (fun _ => 0) (fun _ => 0) (fun _ => 0) (fun _ => 0) (fun _ => 0)) ?_
  unfold wY_init_154
  refine zcm_if (W := fun z0 => wY_init_177 _ z0 (zcm k0 2 8) (zcm k1 0 9) 0 0 0 0 0 0 0 0 0 (fun _ => 0) (fun _ => 0) (fun _ => 0) (fun _ => 0) (fun _ => 0) (fun _ => 0) (fun _ => 0) (fun _ => 0) (fun _ => 0) (fun _ => 0) (fun _ => 0) (fun _ => 0) (fun _ => 0)) ?_
  unfold wY_init_177
  refine zy_reset ?_
  refine zz_in hL (zSto_reset zSto_0) (zRing_none _ _ _ _) (zRd_0 hL (zc_us (v := 0) (by decide))) ⟨0, 0, rfl, by decide, rfl, by decide, fun i hi => by omega, fun i hi => by omega⟩
end
section
/-! ===== swap ===== -/
def zsx (a : Nat → Int32) (p q : Nat) : Nat → Int32 := upd (upd a p (a q)) q (a p)
theorem zsx_e (a : Nat → Int32) (p q t : Nat) : zsx a p q t = a (zsw p q t) := by
  unfold zsx
  by_cases c : t = q
  · rw [c, pk_us, zsw_j]
  · rw [pk_un c]
    by_cases d : t = p
    · rw [d, pk_us, zsw_i]
    · rw [pk_un d, zsw_n d c]
theorem zBd_sx {a : Nat → Int32} {p q : Nat} (h : zBd a) : zBd (zsx a p q) := fun t => by
  have e := zsx_e a p q t
  have e2 : zc (zsx a p q) t = zc a (zsw p q t) := by unfold zc; rw [e]
  rw [e2, e]; exact h _
def zrow (a : Nat → Int32) (s i j : Nat) : Nat → Nat → Int32
  | 0 => a
  | c + 1 => zsx (zrow a s i j c) (s * 64 + i * 8 + c) (s * 64 + j * 8 + c)
def zcol (a : Nat → Int32) (s i j : Nat) : Nat → Nat → Int32
  | 0 => a
  | c + 1 => zsx (zcol a s i j c) (s * 64 + c * 8 + i) (s * 64 + c * 8 + j)
theorem zrow_e {a : Nat → Int32} {s i j : Nat} (hi : i < 8) (hj : j < 8) : ∀ c, c ≤ 8 → ∀ m x y, x < 8 → y < 8 → zrow a s i j c (m * 64 + x * 8 + y) = if m = s ∧ y < c then a (s * 64 + zsw i j x * 8 + y) else a (m * 64 + x * 8 + y) := by
  intro c
  induction c with
  | zero => intro _ m x y _ _; rw [if_neg (by omega)]; rfl
  | succ c ih =>
    intro hc m x y hx hy
    show zsx (zrow a s i j c) (s * 64 + i * 8 + c) (s * 64 + j * 8 + c) (m * 64 + x * 8 + y) = _
    rw [zsx_e]
    by_cases e : m = s ∧ y = c
    · obtain ⟨rfl, rfl⟩ := e
      rw [if_pos ⟨rfl, by omega⟩]
      have e1 : zsw (m * 64 + i * 8 + y) (m * 64 + j * 8 + y) (m * 64 + x * 8 + y) = m * 64 + zsw i j x * 8 + y := by
        by_cases c1 : x = i
        · rw [c1, zsw_i, zsw_i]
        · by_cases c2 : x = j
          · rw [c2, zsw_j, zsw_j]
          · rw [zsw_n c1 c2, zsw_n (by omega) (by omega)]
      have hb := (zsw_P (n := 8) hi hj).1 x hx
      rw [e1, ih (by omega) m (zsw i j x) y hb hy, if_neg (by omega)]
    · rw [zsw_n (by omega) (by omega), ih (by omega) m x y hx hy]
      by_cases f : m = s ∧ y < c
      · rw [if_pos f, if_pos ⟨f.1, by omega⟩]
      · rw [if_neg f, if_neg (by omega)]
theorem zcol_e {a : Nat → Int32} {s i j : Nat} (hi : i < 8) (hj : j < 8) : ∀ c, c ≤ 8 → ∀ m x y, x < 8 → y < 8 → zcol a s i j c (m * 64 + x * 8 + y) = if m = s ∧ x < c then a (s * 64 + x * 8 + zsw i j y) else a (m * 64 + x * 8 + y) := by
  intro c
  induction c with
  | zero => intro _ m x y _ _; rw [if_neg (by omega)]; rfl
  | succ c ih =>
    intro hc m x y hx hy
    show zsx (zcol a s i j c) (s * 64 + c * 8 + i) (s * 64 + c * 8 + j) (m * 64 + x * 8 + y) = _
    rw [zsx_e]
    by_cases e : m = s ∧ x = c
    · obtain ⟨rfl, rfl⟩ := e
      rw [if_pos ⟨rfl, by omega⟩]
      have e1 : zsw (m * 64 + x * 8 + i) (m * 64 + x * 8 + j) (m * 64 + x * 8 + y) = m * 64 + x * 8 + zsw i j y := by
        by_cases c1 : y = i
        · rw [c1, zsw_i, zsw_i]
        · by_cases c2 : y = j
          · rw [c2, zsw_j, zsw_j]
          · rw [zsw_n c1 c2, zsw_n (by omega) (by omega)]
      have hb := (zsw_P (n := 8) hi hj).1 y hy
      rw [e1, ih (by omega) m x (zsw i j y) hx hb, if_neg (by omega)]
    · rw [zsw_n (by omega) (by omega), ih (by omega) m x y hx hy]
      by_cases f : m = s ∧ x < c
      · rw [if_pos f, if_pos ⟨f.1, by omega⟩]
      · rw [if_neg f, if_neg (by omega)]
theorem zBd_row {a : Nat → Int32} {s i j : Nat} (h : zBd a) : ∀ c, zBd (zrow a s i j c) := by
  intro c
  induction c with
  | zero => exact h
  | succ c ih => exact zBd_sx ih
theorem zBd_col {a : Nat → Int32} {s i j : Nat} (h : zBd a) : ∀ c, zBd (zcol a s i j c) := by
  intro c
  induction c with
  | zero => exact h
  | succ c ih => exact zBd_sx ih
def zswb (a : Nat → Int32) (s i j : Nat) : Nat → Int32 := zcol (zrow a s i j 8) s i j 8
theorem zswb_e {a : Nat → Int32} {s i j m x y : Nat} (hi : i < 8) (hj : j < 8) (hx : x < 8) (hy : y < 8) : zswb a s i j (m * 64 + x * 8 + y) = if m = s then a (s * 64 + zsw i j x * 8 + zsw i j y) else a (m * 64 + x * 8 + y) := by
  unfold zswb
  have hb := (zsw_P (n := 8) hi hj).1 y hy
  rw [zcol_e hi hj 8 (Nat.le_refl _) m x y hx hy]
  by_cases c : m = s
  · rw [if_pos ⟨c, hx⟩, zrow_e hi hj 8 (Nat.le_refl _) s x _ hx hb, if_pos ⟨rfl, hb⟩, if_pos c]
  · rw [if_neg (fun z => c z.1), zrow_e hi hj 8 (Nat.le_refl _) m x y hx hy, if_neg (fun z => c z.1), if_neg c]
theorem zSto_swap {a_count a_kinds b_kinds a_bonds : Nat → Int32} {s i j : Nat} (h : zSto a_count a_kinds b_kinds a_bonds) (hs : s < 3) (hi : i < zc a_count s) (hj : j < zc a_count s) : zSto a_count (zsx a_kinds (s * 8 + i) (s * 8 + j)) (zsx b_kinds (s * 8 + i) (s * 8 + j)) (zswb a_bonds s i j) := by
  obtain ⟨s1, s2, s3⟩ := h
  have n8 := (s2 s (by omega)).2.1
  refine ⟨zBd_col (zBd_row s1 8) 8, fun m hm => ⟨(s2 m hm).1, ?_⟩, fun m x hm hx => ?_⟩
  · by_cases c : m = s
    · subst c
      refine zMol_congr (fun x y hx hy => ?_) (zMol_sw (s2 m hm).2 hi hj)
      unfold zbm zc
      rw [zswb_e (by omega) (by omega) hx hy, if_pos rfl]
    · refine zMol_congr (fun x y hx hy => ?_) (s2 m hm).2
      unfold zbm zc
      rw [zswb_e (by omega) (by omega) hx hy, if_neg c]
  · have n8m := (s2 m hm).2.1
    have key : ∃ x', x' < zc a_count m ∧ zsw (s * 8 + i) (s * 8 + j) (m * 8 + x) = m * 8 + x' := by
      by_cases c1 : m * 8 + x = s * 8 + i
      · have : m = s := by omega
        subst this
        exact ⟨j, hj, by rw [c1, zsw_i]⟩
      · by_cases c2 : m * 8 + x = s * 8 + j
        · have : m = s := by omega
          subst this
          exact ⟨i, hi, by rw [c2, zsw_j]⟩
        · exact ⟨x, hx, zsw_n c1 c2⟩
    obtain ⟨x', hx', e⟩ := key
    have f1 : zsx a_kinds (s * 8 + i) (s * 8 + j) (m * 8 + x) = a_kinds (m * 8 + x') := by rw [zsx_e, e]
    have f2 : zsx b_kinds (s * 8 + i) (s * 8 + j) (m * 8 + x) = b_kinds (m * 8 + x') := by rw [zsx_e, e]
    have f3 : zc (zsx a_kinds (s * 8 + i) (s * 8 + j)) (m * 8 + x) = zc a_kinds (m * 8 + x') := by unfold zc; rw [f1]
    rw [f3, f1, f2]
    exact s3 m x' hm hx'
theorem zrx {s x y : Nat} (hs : s < 3) (hx : x < 8) (hy : y < 8) : vp_in (nI (s * 64) + nI x * 8 + nI y) 256 ∧ (nI (s * 64) + nI x * 8 + nI y).toNatClampNeg = s * 64 + x * 8 + y := by
  have e : nI (s * 64) + nI x * 8 + nI y = nI (s * 64 + x * 8 + y) := by rw [zi8, nI_add, nI_add]
  rw [e]
  exact ⟨zin (by omega) (by decide), zcl (by omega)⟩
section
variable {f_atomLimit f_ringLimit f_slotCount f_readState f_currentAtom f_pendingOrder f_branchDepth f_writtenLength f_writtenAtoms f_writtenCount f_bestClosed f_draftLength : Int32} {a_count a_kinds a_bonds a_branches a_ringAtom a_ringOrder a_line a_listing a_draft a_near a_place a_parent a_closed a_left a_pairDigit a_image a_signature a_nextSignature : Nat → Int32}
theorem zx_sw167 {post : Int32 → SX → Prop} {s i j : Nat} (hs : s < 3) (hi : i < 8) (hj : j < 8) (h : post 0 (f_atomLimit, f_ringLimit, f_slotCount, f_readState, f_currentAtom, f_pendingOrder, f_branchDepth, f_writtenLength, f_writtenAtoms, f_writtenCount, f_bestClosed, f_draftLength, a_count, a_kinds, zcol a_bonds s i j 8, a_branches, a_ringAtom, a_ringOrder, a_line, a_listing, a_draft, a_near, a_place, a_parent, a_closed, a_left, a_pairDigit, a_image, a_signature, a_nextSignature)) :
    ∀ d c, c + d = 8 → wX_swap_167 post (nI i) (nI j) (nI (s * 64)) f_atomLimit f_ringLimit f_slotCount f_readState f_currentAtom f_pendingOrder f_branchDepth f_writtenLength f_writtenAtoms f_writtenCount f_bestClosed f_draftLength (d + 1) (nI c) a_count a_kinds (zcol a_bonds s i j c) a_branches a_ringAtom a_ringOrder a_line a_listing a_draft a_near a_place a_parent a_closed a_left a_pairDigit a_image a_signature a_nextSignature := by
  intro d
  induction d with
  | zero =>
    intro c hc
    have : c = 8 := by omega
    subst this
    exact br_t (by decide) h
  | succ d ih =>
    intro c hc
    obtain ⟨p1, p2⟩ := zrx (y := i) hs (show c < 8 by omega) hi
    obtain ⟨q1, q2⟩ := zrx (y := j) hs (show c < 8 by omega) hj
    refine br_f (nI_ge (b := 8) (by omega) (by decide)) ?_
    rw [p2, q2]
    exact ⟨p1, nm_e ⟨q1, p1, nm_e ⟨q1, nm_e (nm_r (nI_1 c) (ih (c + 1) (by omega)))⟩⟩⟩
theorem zx_sw87 {post : Int32 → SX → Prop} {s i j : Nat} (hs : s < 3) (hi : i < 8) (hj : j < 8) (h : post 0 (f_atomLimit, f_ringLimit, f_slotCount, f_readState, f_currentAtom, f_pendingOrder, f_branchDepth, f_writtenLength, f_writtenAtoms, f_writtenCount, f_bestClosed, f_draftLength, a_count, a_kinds, zswb a_bonds s i j, a_branches, a_ringAtom, a_ringOrder, a_line, a_listing, a_draft, a_near, a_place, a_parent, a_closed, a_left, a_pairDigit, a_image, a_signature, a_nextSignature)) :
    ∀ d c, c + d = 8 → wX_swap_87 post (nI i) (nI j) (nI (s * 64)) f_atomLimit f_ringLimit f_slotCount f_readState f_currentAtom f_pendingOrder f_branchDepth f_writtenLength f_writtenAtoms f_writtenCount f_bestClosed f_draftLength (d + 1) (nI c) a_count a_kinds (zrow a_bonds s i j c) a_branches a_ringAtom a_ringOrder a_line a_listing a_draft a_near a_place a_parent a_closed a_left a_pairDigit a_image a_signature a_nextSignature := by
  intro d
  induction d with
  | zero =>
    intro c hc
    have : c = 8 := by omega
    subst this
    exact br_t (by decide) ⟨9, zx_sw167 (a_bonds := zrow a_bonds s i j 8) hs hi hj h 8 0 (by omega)⟩
  | succ d ih =>
    intro c hc
    obtain ⟨p1, p2⟩ := zrx (x := i) hs hi (show c < 8 by omega)
    obtain ⟨q1, q2⟩ := zrx (x := j) hs hj (show c < 8 by omega)
    refine br_f (nI_ge (b := 8) (by omega) (by decide)) ?_
    rw [p2, q2]
    exact ⟨p1, nm_e ⟨q1, p1, nm_e ⟨q1, nm_e (nm_r (nI_1 c) (ih (c + 1) (by omega)))⟩⟩⟩
end
section
variable {f_maxAtoms f_maxRings f_slotCount f_st f_cur f_pend f_depth f_lineLen f_listingLen f_count f_candLen : Int32} {a_size a_kinds a_bonds a_stack a_ringAtom a_ringOrder a_line a_listing a_perm a_cand a_digitFrom a_digitTo a_reach : Nat → Int32}
theorem zy_sw169 {post : Int32 → SY → Prop} {s i j : Nat} (hs : s < 3) (hi : i < 8) (hj : j < 8) (h : post 0 (f_maxAtoms, f_maxRings, f_slotCount, f_st, f_cur, f_pend, f_depth, f_lineLen, f_listingLen, f_count, f_candLen, a_size, a_kinds, zcol a_bonds s i j 8, a_stack, a_ringAtom, a_ringOrder, a_line, a_listing, a_perm, a_cand, a_digitFrom, a_digitTo, a_reach)) :
    ∀ d c, c + d = 8 → wY_swap_169 post (nI i) (nI j) (nI (s * 64)) f_maxAtoms f_maxRings f_slotCount f_st f_cur f_pend f_depth f_lineLen f_listingLen f_count f_candLen (d + 1) (nI c) a_size a_kinds (zcol a_bonds s i j c) a_stack a_ringAtom a_ringOrder a_line a_listing a_perm a_cand a_digitFrom a_digitTo a_reach := by
  intro d
  induction d with
  | zero =>
    intro c hc
    have : c = 8 := by omega
    subst this
    exact br_t (by decide) h
  | succ d ih =>
    intro c hc
    obtain ⟨p1, p2⟩ := zrx (y := i) hs (show c < 8 by omega) hi
    obtain ⟨q1, q2⟩ := zrx (y := j) hs (show c < 8 by omega) hj
    refine br_f (nI_ge (b := 8) (by omega) (by decide)) ?_
    rw [p2, q2]
    exact ⟨p1, nm_e ⟨q1, p1, nm_e ⟨q1, nm_e (nm_r (nI_1 c) (ih (c + 1) (by omega)))⟩⟩⟩
theorem zy_sw89 {post : Int32 → SY → Prop} {s i j : Nat} (hs : s < 3) (hi : i < 8) (hj : j < 8) (h : post 0 (f_maxAtoms, f_maxRings, f_slotCount, f_st, f_cur, f_pend, f_depth, f_lineLen, f_listingLen, f_count, f_candLen, a_size, a_kinds, zswb a_bonds s i j, a_stack, a_ringAtom, a_ringOrder, a_line, a_listing, a_perm, a_cand, a_digitFrom, a_digitTo, a_reach)) :
    ∀ d c, c + d = 8 → wY_swap_89 post (nI i) (nI j) (nI (s * 64)) f_maxAtoms f_maxRings f_slotCount f_st f_cur f_pend f_depth f_lineLen f_listingLen f_count f_candLen (d + 1) (nI c) a_size a_kinds (zrow a_bonds s i j c) a_stack a_ringAtom a_ringOrder a_line a_listing a_perm a_cand a_digitFrom a_digitTo a_reach := by
  intro d
  induction d with
  | zero =>
    intro c hc
    have : c = 8 := by omega
    subst this
    exact br_t (by decide) ⟨9, zy_sw169 (a_bonds := zrow a_bonds s i j 8) hs hi hj h 8 0 (by omega)⟩
  | succ d ih =>
    intro c hc
    obtain ⟨p1, p2⟩ := zrx (x := i) hs hi (show c < 8 by omega)
    obtain ⟨q1, q2⟩ := zrx (x := j) hs hj (show c < 8 by omega)
    refine br_f (nI_ge (b := 8) (by omega) (by decide)) ?_
    rw [p2, q2]
    exact ⟨p1, nm_e ⟨q1, p1, nm_e ⟨q1, nm_e (nm_r (nI_1 c) (ih (c + 1) (by omega)))⟩⟩⟩
end
theorem i_vc_swap {k : Nat} {u : SX} {v : SY} (I : i_Rel k u v) (hk : k + 5 ≤ 2563) (v1 : Int32) (v2 : Int32) (v3 : Int32) : wpX_swap (fun r u' => wpY_swap (fun r' v' => r' = r ∧ i_Rel (k + 5) u' v') v v1 v2 v3) u v1 v2 v3 := by
  refine zz_el (P := fun u v => wpX_swap (fun r u' => wpY_swap (fun r' v' => r' = r ∧ i_Rel (k + 5) u' v') v v1 v2 v3) u v1 v2 v3) ?_ I
  intro f_atomLimit f_ringLimit f_slotCount f_readState f_currentAtom f_pendingOrder f_branchDepth f_writtenLength f_writtenAtoms f_writtenCount f_bestClosed f_draftLength a_count a_kinds a_bonds a_branches a_ringAtom a_ringOrder a_line a_listing a_draft a_near a_place a_parent a_closed a_left a_pairDigit a_image a_signature a_nextSignature f_candLen b_kinds b_ringOrder b_line b_listing a_perm a_cand a_digitFrom a_digitTo a_reach h1 h2 h3 h4 h5
  have I0 : i_Rel (k + 5) (f_atomLimit, f_ringLimit, f_slotCount, f_readState, f_currentAtom, f_pendingOrder, f_branchDepth, f_writtenLength, f_writtenAtoms, f_writtenCount, f_bestClosed, f_draftLength, a_count, a_kinds, a_bonds, a_branches, a_ringAtom, a_ringOrder, a_line, a_listing, a_draft, a_near, a_place, a_parent, a_closed, a_left, a_pairDigit, a_image, a_signature, a_nextSignature) (f_atomLimit, f_ringLimit, f_slotCount, f_readState, f_currentAtom, f_pendingOrder, f_branchDepth, f_writtenLength, f_writtenAtoms, f_writtenCount, f_candLen, a_count, b_kinds, a_bonds, a_branches, a_ringAtom, b_ringOrder, b_line, b_listing, a_perm, a_cand, a_digitFrom, a_digitTo, a_reach) := zz_in h1 h2 h3 h4 h5
  unfold wpX_swap
  have bad : (v1 < 0 ∨ (¬ v1 < 0 ∧ f_slotCount ≤ v1)) → wpX_swap (fun r u' => wpY_swap (fun r' v' => r' = r ∧ i_Rel (k + 5) u' v') (f_atomLimit, f_ringLimit, f_slotCount, f_readState, f_currentAtom, f_pendingOrder, f_branchDepth, f_writtenLength, f_writtenAtoms, f_writtenCount, f_candLen, a_count, b_kinds, a_bonds, a_branches, a_ringAtom, b_ringOrder, b_line, b_listing, a_perm, a_cand, a_digitFrom, a_digitTo, a_reach) v1 v2 v3) (f_atomLimit, f_ringLimit, f_slotCount, f_readState, f_currentAtom, f_pendingOrder, f_branchDepth, f_writtenLength, f_writtenAtoms, f_writtenCount, f_bestClosed, f_draftLength, a_count, a_kinds, a_bonds, a_branches, a_ringAtom, a_ringOrder, a_line, a_listing, a_draft, a_near, a_place, a_parent, a_closed, a_left, a_pairDigit, a_image, a_signature, a_nextSignature) v1 v2 v3 := fun b => by
    unfold wpX_swap
    refine zx_slot0 b (br_t rfl ?_)
    unfold wpY_swap
    exact zy_slot1 b (br_f (by decide) ⟨rfl, I0⟩)
  unfold wpX_swap at bad
  rcases zslot (x := v1) h1 with b | b | ⟨s, hs, rfl, b1, b2⟩
  · exact bad (Or.inl b)
  · exact bad (Or.inr b)
  obtain ⟨hc, hM⟩ := h2.2.1 s (by omega)
  have n8 := hM.1
  have hm : s < 4 := by omega
  rcases zatom n8 v2 with na | ⟨i, hi, rfl⟩
  · refine zx_slot1 b1 b2 (br_f (by decide) (zx_at0 hm hc na (br_t rfl ?_)))
    unfold wpY_swap
    exact zy_slot0 b1 b2 (br_t rfl (zy_at1 hm hc na (br_f (by decide) ⟨rfl, I0⟩)))
  rcases zatom n8 v3 with na | ⟨j, hj, rfl⟩
  · refine zx_slot1 b1 b2 (br_f (by decide) (zx_at1 hm n8 hc hi (br_f (by decide) (zx_at0 hm hc na (br_t rfl ?_)))))
    unfold wpY_swap
    exact zy_slot0 b1 b2 (br_t rfl (zy_at0 hm n8 hc hi (br_t rfl (zy_at1 hm hc na (br_f (by decide) ⟨rfl, I0⟩)))))
  have c1 := zkx_c hm (show i < 8 by omega)
  have c2 := zkx_c hm (show j < 8 by omega)
  have d1 := zkx_in hm (show i < 8 by omega)
  have d2 := zkx_in hm (show j < 8 by omega)
  refine zx_slot1 b1 b2 (br_f (by decide) (zx_at1 hm n8 hc hi (br_f (by decide) (zx_at1 hm n8 hc hj (br_f (by decide) (nm_e ?_))))))
  rw [c1, c2]
  refine ⟨d1, nm_e ⟨d2, d1, nm_e ⟨d2, nm_r (e' := zsx a_kinds (s * 8 + i) (s * 8 + j)) rfl (nm_r (zi64 s) ⟨9, ?_⟩)⟩⟩⟩
  refine zx_sw87 hs (by omega) (by omega) ?_ 8 0 (by omega)
  unfold wpY_swap
  refine zy_slot0 b1 b2 (br_t rfl (zy_at0 hm n8 hc hi (br_t rfl (zy_at0 hm n8 hc hj (br_t rfl ?_)))))
  rw [c1, c2]
  refine ⟨d1, nm_e ⟨d2, d1, nm_e ⟨d2, nm_r (e' := zsx b_kinds (s * 8 + i) (s * 8 + j)) rfl (nm_r (zi64 s) ⟨9, ?_⟩)⟩⟩⟩
  refine zy_sw89 hs (by omega) (by omega) ?_ 8 0 (by omega)
  exact ⟨rfl, zz_in h1 (zSto_swap h2 hs hi hj) h3 h4 h5⟩
end
section
/-! ===== joinedWithout and connected ===== -/
/-- within a round: the rows below a are done -/
def zRI (n : Nat) (A : Nat → Nat → Prop) (R0 : Nat → Prop) (a : Nat) (R : Nat → Prop) : Prop :=
  (∀ x, x < n → R0 x → R x) ∧ (∀ x y, x < a → y < n → R0 x → A x y → R y) ∧ (∀ S : Nat → Prop, (∀ x, x < n → R0 x → S x) → zCl n A S → ∀ x, x < n → R x → S x)
theorem zRI_0 {n : Nat} {A : Nat → Nat → Prop} {R : Nat → Prop} : zRI n A R 0 R := ⟨fun _ _ h => h, fun x y hx => by omega, fun S h _ => h⟩
theorem zRI_keep {n a : Nat} {A : Nat → Nat → Prop} {R0 R : Nat → Prop} (ha : a < n) (h : zRI n A R0 a R) (hr : ¬ R a) : zRI n A R0 (a + 1) R := by
  refine ⟨h.1, fun x y hx hy h0 hxy => ?_, h.2.2⟩
  by_cases c : x = a
  · exact absurd (h.1 a ha (by rw [← c]; exact h0)) hr
  · exact h.2.1 x y (by omega) hy h0 hxy
theorem zRI_grow {n a : Nat} {A : Nat → Nat → Prop} {R0 R R' : Nat → Prop} (ha : a < n) (h : zRI n A R0 a R) (hr : R a) (e : ∀ y, y < n → (R' y ↔ (R y ∨ A a y))) : zRI n A R0 (a + 1) R' := by
  refine ⟨fun x hx h0 => (e x hx).mpr (Or.inl (h.1 x hx h0)), fun x y hx hy h0 hxy => ?_, fun S hS hc x hx hrx => ?_⟩
  · by_cases c : x = a
    · rw [c] at hxy; exact (e y hy).mpr (Or.inr hxy)
    · exact (e y hy).mpr (Or.inl (h.2.1 x y (by omega) hy h0 hxy))
  · rcases (e x hx).mp hrx with q | q
    · exact h.2.2 S hS hc x hx q
    · exact hc a x ha hx q (h.2.2 S hS hc a ha hr)
def zBt (x : Int32) : Nat → Prop := fun i => bt x i = true
section
variable {f_atomLimit f_ringLimit f_slotCount f_readState f_currentAtom f_pendingOrder f_branchDepth f_writtenLength f_writtenAtoms f_writtenCount f_bestClosed f_draftLength : Int32} {a_count a_kinds a_bonds a_branches a_ringAtom a_ringOrder a_line a_listing a_draft a_near a_place a_parent a_closed a_left a_pairDigit a_image a_signature a_nextSignature : Nat → Int32}
theorem zx_jw26 {post : Int32 → Prop} {J : Int32 → Int32 → Prop} {m n i j r : Nat} {R0 : Nat → Prop} (hb : zBd a_bonds) (hm : m < 4) (hn : n ≤ 8) (hi : i < n) (hj : j < n)
    (hT : ∀ R, zRI n (zWd (fun a b => zbm a_bonds m a b ≠ 0) i j) R0 n R → R j → post 1) (hF : ∀ x, zRI n (zWd (fun a b => zbm a_bonds m a b ≠ 0) i j) R0 n (zBt x) → ¬ zBt x j → J x (nI (r + 1))) :
    ∀ d a, a + d = n → ∀ x, zRI n (zWd (fun a b => zbm a_bonds m a b ≠ 0) i j) R0 a (zBt x) → wX_joinedWithout_26 post J (nI m) (nI i) (nI j) (nI n) (nI r) f_atomLimit f_ringLimit f_slotCount f_readState f_currentAtom f_pendingOrder f_branchDepth f_writtenLength f_writtenAtoms f_writtenCount f_bestClosed f_draftLength a_count a_kinds a_bonds a_branches a_ringAtom a_ringOrder a_line a_listing a_draft a_near a_place a_parent a_closed a_left a_pairDigit a_image a_signature a_nextSignature (d + 1) x (nI a) := by
  intro d
  induction d with
  | zero =>
    intro a ha x h
    have : a = n := by omega
    subst this
    refine br_t (nI_le (Nat.le_refl _) (by omega)) ?_
    by_cases c : bt x j = false
    · exact br_t ((zbtst (by omega)).mpr c) (nm_r (nI_1 r) (hF x h (by unfold zBt; rw [c]; exact Bool.noConfusion)))
    · refine br_f (fun z => c ((zbtst (by omega)).mp z)) (hT _ h ?_)
      unfold zBt
      cases q : bt x j
      · exact absurd q c
      · rfl
  | succ d ih =>
    intro a ha x h
    refine br_f (nI_ge (by omega) (by omega)) ?_
    by_cases c : bt x a = false
    · refine br_t ((zbtst (by omega)).mpr c) (nm_r (nI_1 a) (ih (a + 1) (by omega) x (zRI_keep (by omega) h ?_)))
      unfold zBt; rw [c]; exact Bool.noConfusion
    · have ca : zBt x a := by
        unfold zBt
        cases q : bt x a
        · exact absurd q c
        · rfl
      refine br_f (fun z => c ((zbtst (by omega)).mp z)) (zx_nm hm (by omega) ?_)
      have hbit : ∀ y, y < n → (bt (zmk (fun j => a_bonds (m * 64 + a * 8 + j)) 8) y = true ↔ zbm a_bonds m a y ≠ 0) := by
        intro y hy
        rw [zmk_b 8 (by omega) y (by omega), decide_eq_true (show y < 8 by omega), Bool.true_and, decide_eq_true_iff]
        have := zBd_z hb (m * 64 + a * 8 + y)
        have e : zbm a_bonds m a y = zc a_bonds (m * 64 + a * 8 + y) := rfl
        rw [e]
        exact not_congr this
      by_cases ai : a = i
      · refine br_t (by rw [ai]) (nm_e (nm_e (nm_r (nI_1 a) (ih (a + 1) (by omega) _ (zRI_grow (by omega) h ca (fun y hy => ?_))))))
        show bt _ y = true ↔ _
        rw [b_or, b_and, zbnot (by omega), zbsh j (by omega) y (by omega), Bool.or_eq_true, Bool.and_eq_true, hbit y hy, Bool.not_eq_true', decide_eq_false_iff_not]
        constructor
        · rintro (q | ⟨q1, q2⟩)
          · exact Or.inl q
          · exact Or.inr ⟨q1, fun z => q2 z.2⟩
        · rintro (q | ⟨q1, q2⟩)
          · exact Or.inl q
          · exact Or.inr ⟨q1, fun z => q2 ⟨ai, z⟩⟩
      · refine br_f (fun z => ai ((nI_eq (by omega) (by omega)).mp z)) (nm_e (nm_r (nI_1 a) (ih (a + 1) (by omega) _ (zRI_grow (by omega) h ca (fun y hy => ?_)))))
        show bt _ y = true ↔ _
        rw [b_or, Bool.or_eq_true, hbit y hy]
        constructor
        · rintro (q | q)
          · exact Or.inl q
          · exact Or.inr ⟨q, fun z => ai z.1⟩
        · rintro (q | ⟨q1, q2⟩)
          · exact Or.inl q
          · exact Or.inr q1
theorem zx_jw16 {post : Int32 → Prop} {m n i j : Nat} (hb : zBd a_bonds) (hm : m < 4) (hn : n ≤ 8) (hi : i < n) (hj : j < n)
    (hT : (∀ S : Nat → Prop, S i → zCl n (zWd (fun a b => zbm a_bonds m a b ≠ 0) i j) S → S j) → post 1) (hF : ∀ S : Nat → Prop, S i → zCl n (zWd (fun a b => zbm a_bonds m a b ≠ 0) i j) S → ¬ S j → post 0) :
    ∀ d r, r + d = n → ∀ x, zBt x i → ¬ zBt x j → (∀ S : Nat → Prop, S i → zCl n (zWd (fun a b => zbm a_bonds m a b ≠ 0) i j) S → ∀ y, y < n → zBt x y → S y) → (zCl n (zWd (fun a b => zbm a_bonds m a b ≠ 0) i j) (zBt x) ∨ r + 1 ≤ zcd n (zBt x)) → wX_joinedWithout_16 post (nI m) (nI i) (nI j) (nI n) f_atomLimit f_ringLimit f_slotCount f_readState f_currentAtom f_pendingOrder f_branchDepth f_writtenLength f_writtenAtoms f_writtenCount f_bestClosed f_draftLength a_count a_kinds a_bonds a_branches a_ringAtom a_ringOrder a_line a_listing a_draft a_near a_place a_parent a_closed a_left a_pairDigit a_image a_signature a_nextSignature (d + 1) x (nI r) := by
  intro d
  induction d with
  | zero =>
    intro r hr x x1 x2 x3 x4
    exact br_t (nI_le (by omega) (by omega)) (hF _ x1 (zrd_end x4 (by omega)) x2)
  | succ d ih =>
    intro r hr x x1 x2 x3 x4
    refine br_f (nI_ge (by omega) (by omega)) ⟨n + 1, zx_jw26 (R0 := zBt x) hb hm hn hi hj (fun R h q => hT (fun S s1 s2 => h.2.2 S (x3 S s1 s2) s2 j hj q)) (fun x' h q => ?_) n 0 (by omega) x zRI_0⟩
    exact ih (r + 1) (by omega) x' (h.1 i hi x1) q (fun S s1 s2 => h.2.2 S (x3 S s1 s2) s2) (zrd x4 h.1 (fun a b ha hb => h.2.1 a b ha hb) h.2.2)
theorem zx_jw {post : Int32 → Prop} {m n i j : Nat} (hb : zBd a_bonds) (hm : m < 4) (hn : n ≤ 8) (hc : a_count m = nI n) (hi : i < n) (hj : j < n) (hij : i ≠ j)
    (hT : (∀ S : Nat → Prop, S i → zCl n (zWd (fun a b => zbm a_bonds m a b ≠ 0) i j) S → S j) → post 1) (hF : ∀ S : Nat → Prop, S i → zCl n (zWd (fun a b => zbm a_bonds m a b ≠ 0) i j) S → ¬ S j → post 0) : wpX_joinedWithout post (f_atomLimit, f_ringLimit, f_slotCount, f_readState, f_currentAtom, f_pendingOrder, f_branchDepth, f_writtenLength, f_writtenAtoms, f_writtenCount, f_bestClosed, f_draftLength, a_count, a_kinds, a_bonds, a_branches, a_ringAtom, a_ringOrder, a_line, a_listing, a_draft, a_near, a_place, a_parent, a_closed, a_left, a_pairDigit, a_image, a_signature, a_nextSignature) (nI m) (nI i) (nI j) := by
  unfold wpX_joinedWithout
  dsimp only
  rw [zcl (show m < 1000000 by omega), hc]
  have hbit : ∀ y, y < 32 → (zBt ((1 : Int32) <<< (nI i &&& 31)) y ↔ y = i) := by
    intro y hy
    unfold zBt
    rw [zbsh i (by omega) y hy, decide_eq_true_iff]
  have h1 : zBt ((1 : Int32) <<< (nI i &&& 31)) i := (hbit i (by omega)).mpr rfl
  refine ⟨zin hm (by decide), nm_e (nm_e ⟨n + 1, zx_jw16 hb hm hn hi hj hT hF n 0 (by omega) _ h1 ?_ ?_ (Or.inr (zcd_one hi h1))⟩)⟩
  · exact fun z => hij ((hbit j (by omega)).mp z).symm
  · intro S s1 s2 y hy q
    rw [(hbit y (by omega)).mp q]; exact s1
end
/-! ===== Y: connected ===== -/
def zre (R : Nat → Bool) (a : Nat → Int32) : Prop := ∀ x, x < 8 → a x = if R x = true then 1 else 0
theorem zre_1 {R : Nat → Bool} {a : Nat → Int32} (h : zre R a) {x : Nat} (hx : x < 8) : a x = 1 ↔ R x = true := by
  rw [h x hx]
  cases R x
  · exact ⟨fun z => absurd z (by decide), fun z => absurd z (by decide)⟩
  · exact ⟨fun _ => rfl, fun _ => rfl⟩
theorem zre_0 {R : Nat → Bool} {a : Nat → Int32} (h : zre R a) {x : Nat} (hx : x < 8) : a x = 0 ↔ ¬ R x = true := by
  rw [h x hx]
  cases R x
  · exact ⟨fun _ => Bool.noConfusion, fun _ => rfl⟩
  · exact ⟨fun z => absurd z (by decide), fun z => absurd rfl z⟩
theorem zre_u {R : Nat → Bool} {a : Nat → Int32} (h : zre R a) (y : Nat) : zre (fun x => x == y || R x) (upd a y 1) := by
  intro x hx
  by_cases c : x = y
  · rw [c, pk_us]; simp
  · rw [pk_un c, h x hx]
    have : (x == y || R x) = R x := by
      have e : (x == y) = false := by simp [c]
      rw [e, Bool.false_or]
    show _ = if (x == y || R x) = true then (1 : Int32) else 0
    rw [this]
/-- within a row of a round -/
def zRI2 (n : Nat) (A : Nat → Nat → Prop) (R0 : Nat → Prop) (x y : Nat) (R : Nat → Prop) : Prop := zRI n A R0 x R ∧ (∀ z, z < y → R0 x → A x z → R z)
theorem zRI2_end {n x : Nat} {A : Nat → Nat → Prop} {R0 R : Nat → Prop} (h : zRI2 n A R0 x n R) : zRI n A R0 (x + 1) R := by
  refine ⟨h.1.1, fun a b ha hb h0 hab => ?_, h.1.2.2⟩
  by_cases c : a = x
  · rw [c] at h0 hab; exact h.2 b hb h0 hab
  · exact h.1.2.1 a b (by omega) hb h0 hab
theorem zRI2_keep {n x y : Nat} {A : Nat → Nat → Prop} {R0 R : Nat → Prop} (h : zRI2 n A R0 x y R) (hn : ¬ (R0 x ∧ A x y)) : zRI2 n A R0 x (y + 1) R := by
  refine ⟨h.1, fun z hz h0 hA => ?_⟩
  by_cases c : z = y
  · rw [c] at hA; exact absurd ⟨h0, hA⟩ hn
  · exact h.2 z (by omega) h0 hA
theorem zRI2_grow {n x y : Nat} {A : Nat → Nat → Prop} {R0 R R' : Nat → Prop} (hx : x < n) (h : zRI2 n A R0 x y R) (hr : R x) (hA : A x y) (e : ∀ z, R' z ↔ (z = y ∨ R z)) : zRI2 n A R0 x (y + 1) R' := by
  refine ⟨⟨fun a ha h0 => (e a).mpr (Or.inr (h.1.1 a ha h0)), fun a b ha hb h0 hab => (e b).mpr (Or.inr (h.1.2.1 a b ha hb h0 hab)), fun S hS hc a ha hra => ?_⟩, fun z hz h0 hAz => ?_⟩
  · rcases (e a).mp hra with q | q
    · rw [q] at ha ⊢; exact hc x y hx ha hA (h.1.2.2 S hS hc x hx hr)
    · exact h.1.2.2 S hS hc a ha q
  · by_cases c : z = y
    · exact (e z).mpr (Or.inl c)
    · exact (e z).mpr (Or.inr (h.2 z (by omega) h0 hAz))
section
variable {f_maxAtoms f_maxRings f_slotCount f_st f_cur f_pend f_depth f_lineLen f_listingLen f_count f_candLen : Int32} {a_size a_kinds a_bonds a_stack a_ringAtom a_ringOrder a_line a_listing a_perm a_cand a_digitFrom a_digitTo a_reach : Nat → Int32}
theorem zy_c52 {post : Int32 → SY → Prop} {J31 J39 : Int32 → (Nat → Int32) → (Nat → Int32) → (Nat → Int32) → (Nat → Int32) → (Nat → Int32) → (Nat → Int32) → (Nat → Int32) → (Nat → Int32) → (Nat → Int32) → (Nat → Int32) → (Nat → Int32) → (Nat → Int32) → (Nat → Int32) → Prop} {x2 : Int32} {m n x : Nat} {R0 : Nat → Prop} (hb : zBd a_bonds) (hm : m < 4) (hn : n ≤ 8) (hc : a_size m = nI n) (hx : x < n)
    (hJ : ∀ R a, zre R a → zRI n (fun a b => zbm a_bonds m a b ≠ 0) R0 (x + 1) (fun t => R t = true) → J39 (nI (x + 1)) a_size a_kinds a_bonds a_stack a_ringAtom a_ringOrder a_line a_listing a_perm a_cand a_digitFrom a_digitTo a) :
    ∀ d y, y + d = n → ∀ R a, zre R a → zRI2 n (fun a b => zbm a_bonds m a b ≠ 0) R0 x y (fun t => R t = true) → wY_connected_52 post J31 J39 (nI m) x2 (nI x) f_maxAtoms f_maxRings f_slotCount f_st f_cur f_pend f_depth f_lineLen f_listingLen f_count f_candLen (d + 1) (nI y) a_size a_kinds a_bonds a_stack a_ringAtom a_ringOrder a_line a_listing a_perm a_cand a_digitFrom a_digitTo a := by
  intro d
  induction d with
  | zero =>
    intro y hy R a hR h
    have : y = n := by omega
    subst this
    refine ⟨zin hm (by decide), ?_⟩
    rw [zcl (show m < 1000000 by omega), hc]
    exact br_t (nI_le (Nat.le_refl _) (by omega)) (nm_r (nI_1 x) (hJ R a hR (zRI2_end h)))
  | succ d ih =>
    intro y hy R a hR h
    refine ⟨zin hm (by decide), ?_⟩
    rw [zcl (show m < 1000000 by omega), hc]
    refine br_f (nI_ge (by omega) (by omega)) ⟨zin (by omega) (by decide), ?_⟩
    rw [zcl (show x < 1000000 by omega)]
    by_cases rx : R x = true
    · refine br_t ((zre_1 hR (by omega)).mpr rx) (zy_get hm (by omega) (by omega) ?_)
      by_cases b0 : a_bonds (m * 64 + x * 8 + y) = 0
      · refine br_t ((zBd_le hb _).mpr b0) (nm_r (nI_1 y) (ih (y + 1) (by omega) R a hR (zRI2_keep h (fun z => z.2 ((zBd_z hb _).mp b0)))))
      · refine br_f (fun z => b0 ((zBd_le hb _).mp z)) ⟨zin (by omega) (by decide), ?_⟩
        rw [zcl (show y < 1000000 by omega)]
        refine nm_e (nm_r (nI_1 y) (ih (y + 1) (by omega) _ _ (zre_u hR y) (zRI2_grow (R := fun t => R t = true) hx h rx (fun z => b0 ((zBd_z hb _).mpr z)) (fun z => ?_))))
        show (z == y || R z) = true ↔ _
        rw [Bool.or_eq_true, beq_iff_eq]
    · exact br_f (fun z => rx ((zre_1 hR (by omega)).mp z)) (nm_r (nI_1 y) (ih (y + 1) (by omega) R a hR (zRI2_keep h (fun z => rx (h.1.1 x hx z.1)))))
theorem zy_c39 {post : Int32 → SY → Prop} {J31 : Int32 → (Nat → Int32) → (Nat → Int32) → (Nat → Int32) → (Nat → Int32) → (Nat → Int32) → (Nat → Int32) → (Nat → Int32) → (Nat → Int32) → (Nat → Int32) → (Nat → Int32) → (Nat → Int32) → (Nat → Int32) → (Nat → Int32) → Prop} {m n r : Nat} {R0 : Nat → Prop} (hb : zBd a_bonds) (hm : m < 4) (hn : n ≤ 8) (hc : a_size m = nI n)
    (hJ : ∀ R a, zre R a → zRI n (fun a b => zbm a_bonds m a b ≠ 0) R0 n (fun t => R t = true) → J31 (nI (r + 1)) a_size a_kinds a_bonds a_stack a_ringAtom a_ringOrder a_line a_listing a_perm a_cand a_digitFrom a_digitTo a) :
    ∀ d x, x + d = n → ∀ R a, zre R a → zRI n (fun a b => zbm a_bonds m a b ≠ 0) R0 x (fun t => R t = true) → wY_connected_39 post J31 (nI m) (nI r) f_maxAtoms f_maxRings f_slotCount f_st f_cur f_pend f_depth f_lineLen f_listingLen f_count f_candLen (d + 1) (nI x) a_size a_kinds a_bonds a_stack a_ringAtom a_ringOrder a_line a_listing a_perm a_cand a_digitFrom a_digitTo a := by
  intro d
  induction d with
  | zero =>
    intro x hx R a hR h
    have : x = n := by omega
    subst this
    refine ⟨zin hm (by decide), ?_⟩
    rw [zcl (show m < 1000000 by omega), hc]
    exact br_t (nI_le (Nat.le_refl _) (by omega)) (nm_r (nI_1 r) (hJ R a hR h))
  | succ d ih =>
    intro x hx R a hR h
    refine ⟨zin hm (by decide), ?_⟩
    rw [zcl (show m < 1000000 by omega), hc]
    refine br_f (nI_ge (by omega) (by omega)) ⟨n + 1, zy_c52 hb hm hn hc (by omega) (fun R' a' hR' h' => ih (x + 1) (by omega) R' a' hR' h') n 0 (by omega) R a hR ⟨h, fun z hz => by omega⟩⟩
theorem zy_c112 {post : Int32 → SY → Prop} {m n : Nat} {R : Nat → Bool} (hm : m < 4) (hn : n ≤ 8) (hc : a_size m = nI n) (hR : zre R a_reach)
    (hT : (∀ x, x < n → R x = true) → post 1 (f_maxAtoms, f_maxRings, f_slotCount, f_st, f_cur, f_pend, f_depth, f_lineLen, f_listingLen, f_count, f_candLen, a_size, a_kinds, a_bonds, a_stack, a_ringAtom, a_ringOrder, a_line, a_listing, a_perm, a_cand, a_digitFrom, a_digitTo, a_reach)) (hF : (∃ x, x < n ∧ ¬ R x = true) → post 0 (f_maxAtoms, f_maxRings, f_slotCount, f_st, f_cur, f_pend, f_depth, f_lineLen, f_listingLen, f_count, f_candLen, a_size, a_kinds, a_bonds, a_stack, a_ringAtom, a_ringOrder, a_line, a_listing, a_perm, a_cand, a_digitFrom, a_digitTo, a_reach)) :
    ∀ d x, x + d = n → (∀ y, y < x → R y = true) → wY_connected_112 post (nI m) f_maxAtoms f_maxRings f_slotCount f_st f_cur f_pend f_depth f_lineLen f_listingLen f_count f_candLen a_size a_kinds a_bonds a_stack a_ringAtom a_ringOrder a_line a_listing a_perm a_cand a_digitFrom a_digitTo a_reach (d + 1) (nI x) := by
  intro d
  induction d with
  | zero =>
    intro x hx h
    have : x = n := by omega
    subst this
    refine ⟨zin hm (by decide), ?_⟩
    rw [zcl (show m < 1000000 by omega), hc]
    exact br_t (nI_le (Nat.le_refl _) (by omega)) (hT h)
  | succ d ih =>
    intro x hx h
    refine ⟨zin hm (by decide), ?_⟩
    rw [zcl (show m < 1000000 by omega), hc]
    refine br_f (nI_ge (by omega) (by omega)) ⟨zin (by omega) (by decide), ?_⟩
    rw [zcl (show x < 1000000 by omega)]
    by_cases rx : R x = true
    · refine br_f (fun z => (zre_0 hR (by omega)).mp z rx) (nm_r (nI_1 x) (ih (x + 1) (by omega) (fun y hy => ?_)))
      by_cases c : y = x
      · rw [c]; exact rx
      · exact h y (by omega)
    · exact br_t ((zre_0 hR (by omega)).mpr rx) (hF ⟨x, by omega, rx⟩)
theorem zy_c31 {post : Int32 → SY → Prop} {m n : Nat} (hb : zBd a_bonds) (hm : m < 4) (hn : n ≤ 8) (hc : a_size m = nI n)
    (hT : zConn n (fun a b => zbm a_bonds m a b ≠ 0) → ∀ a, post 1 (f_maxAtoms, f_maxRings, f_slotCount, f_st, f_cur, f_pend, f_depth, f_lineLen, f_listingLen, f_count, f_candLen, a_size, a_kinds, a_bonds, a_stack, a_ringAtom, a_ringOrder, a_line, a_listing, a_perm, a_cand, a_digitFrom, a_digitTo, a)) (hF : ¬ zConn n (fun a b => zbm a_bonds m a b ≠ 0) → ∀ a, post 0 (f_maxAtoms, f_maxRings, f_slotCount, f_st, f_cur, f_pend, f_depth, f_lineLen, f_listingLen, f_count, f_candLen, a_size, a_kinds, a_bonds, a_stack, a_ringAtom, a_ringOrder, a_line, a_listing, a_perm, a_cand, a_digitFrom, a_digitTo, a)) :
    ∀ d r, r + d = 8 → ∀ R a, zre R a → R 0 = true → (∀ S : Nat → Prop, S 0 → zCl n (fun a b => zbm a_bonds m a b ≠ 0) S → ∀ y, y < n → R y = true → S y) → (zCl n (fun a b => zbm a_bonds m a b ≠ 0) (fun t => R t = true) ∨ r + 1 ≤ zcd n (fun t => R t = true)) → 0 < n → wY_connected_31 post (nI m) f_maxAtoms f_maxRings f_slotCount f_st f_cur f_pend f_depth f_lineLen f_listingLen f_count f_candLen (d + 1) (nI r) a_size a_kinds a_bonds a_stack a_ringAtom a_ringOrder a_line a_listing a_perm a_cand a_digitFrom a_digitTo a := by
  intro d
  induction d with
  | zero =>
    intro r hr R a hR x1 x3 x4 h0
    have : r = 8 := by omega
    subst this
    have hcl := zrd_end x4 hn
    refine br_t (by decide) ⟨n + 1, zy_c112 hm hn hc hR (fun hall => hT (fun S s0 sc y hy => x3 S s0 sc y hy (hall y hy)) a) (fun ⟨x, hx, hnx⟩ => hF (fun hC => hnx (hC _ x1 hcl x hx)) a) n 0 (by omega) (fun y hy => by omega)⟩
  | succ d ih =>
    intro r hr R a hR x1 x3 x4 h0
    refine br_f (nI_ge (b := 8) (by omega) (by decide)) ⟨n + 1, zy_c39 (R0 := fun t => R t = true) hb hm hn hc (fun R' a' hR' h' => ?_) n 0 (by omega) R a hR zRI_0⟩
    exact ih (r + 1) (by omega) R' a' hR' (h'.1 0 h0 x1) (fun S s1 s2 => h'.2.2 S (x3 S s1 s2) s2) (zrd x4 h'.1 (fun a b ha hb => h'.2.1 a b ha hb) h'.2.2) h0
theorem zy_c2 {post : Int32 → SY → Prop} {m n : Nat} (hb : zBd a_bonds) (hm : m < 4) (hn : n ≤ 8) (h0 : 0 < n) (hc : a_size m = nI n)
    (hT : zConn n (fun a b => zbm a_bonds m a b ≠ 0) → ∀ a, post 1 (f_maxAtoms, f_maxRings, f_slotCount, f_st, f_cur, f_pend, f_depth, f_lineLen, f_listingLen, f_count, f_candLen, a_size, a_kinds, a_bonds, a_stack, a_ringAtom, a_ringOrder, a_line, a_listing, a_perm, a_cand, a_digitFrom, a_digitTo, a)) (hF : ¬ zConn n (fun a b => zbm a_bonds m a b ≠ 0) → ∀ a, post 0 (f_maxAtoms, f_maxRings, f_slotCount, f_st, f_cur, f_pend, f_depth, f_lineLen, f_listingLen, f_count, f_candLen, a_size, a_kinds, a_bonds, a_stack, a_ringAtom, a_ringOrder, a_line, a_listing, a_perm, a_cand, a_digitFrom, a_digitTo, a)) :
    ∀ d x, x + d = 8 → ∀ a, (∀ y, y < x → a y = if y = 0 then 1 else 0) → wY_connected_2 post (nI m) f_maxAtoms f_maxRings f_slotCount f_st f_cur f_pend f_depth f_lineLen f_listingLen f_count f_candLen (d + 1) (nI x) a_size a_kinds a_bonds a_stack a_ringAtom a_ringOrder a_line a_listing a_perm a_cand a_digitFrom a_digitTo a := by
  intro d
  induction d with
  | zero =>
    intro x hx a ha
    have : x = 8 := by omega
    subst this
    refine br_t (by decide) ⟨9, zy_c31 hb hm hn hc hT hF 8 0 (by omega) (fun t => t == 0) a (fun y hy => ?_) rfl (fun S s0 sc y hy q => ?_) (Or.inr (zcd_one h0 rfl)) h0⟩
    · rw [ha y hy]
      by_cases c : y = 0
      · rw [if_pos c, c]; rfl
      · rw [if_neg c]
        have : ¬ (y == 0) = true := by simp [c]
        rw [if_neg this]
    · have e : y = 0 := by simpa using q
      rw [e]; exact s0
  | succ d ih =>
    intro x hx a ha
    refine br_f (nI_ge (b := 8) (by omega) (by decide)) ?_
    rw [zcl (show x < 1000000 by omega)]
    by_cases c : x = 0
    · refine br_t (by rw [c]; rfl) ⟨zin (by omega) (by decide), nm_e (nm_r (nI_1 x) (ih (x + 1) (by omega) _ (fun y hy => ?_)))⟩
      have : y = x := by omega
      rw [this, pk_us, if_pos c]
    · refine br_f (nI_ne0 (by omega) (by omega)) ⟨zin (by omega) (by decide), nm_e (nm_r (nI_1 x) (ih (x + 1) (by omega) _ (fun y hy => ?_)))⟩
      by_cases e : y = x
      · rw [e, pk_us, if_neg c]
      · rw [pk_un e]; exact ha y (by omega)
theorem zy_conn {post : Int32 → SY → Prop} {m n : Nat} (hb : zBd a_bonds) (hm : m < 4) (hn : n ≤ 8) (h0 : 0 < n) (hc : a_size m = nI n)
    (hT : zConn n (fun a b => zbm a_bonds m a b ≠ 0) → ∀ a, post 1 (f_maxAtoms, f_maxRings, f_slotCount, f_st, f_cur, f_pend, f_depth, f_lineLen, f_listingLen, f_count, f_candLen, a_size, a_kinds, a_bonds, a_stack, a_ringAtom, a_ringOrder, a_line, a_listing, a_perm, a_cand, a_digitFrom, a_digitTo, a)) (hF : ¬ zConn n (fun a b => zbm a_bonds m a b ≠ 0) → ∀ a, post 0 (f_maxAtoms, f_maxRings, f_slotCount, f_st, f_cur, f_pend, f_depth, f_lineLen, f_listingLen, f_count, f_candLen, a_size, a_kinds, a_bonds, a_stack, a_ringAtom, a_ringOrder, a_line, a_listing, a_perm, a_cand, a_digitFrom, a_digitTo, a)) : wpY_connected post (f_maxAtoms, f_maxRings, f_slotCount, f_st, f_cur, f_pend, f_depth, f_lineLen, f_listingLen, f_count, f_candLen, a_size, a_kinds, a_bonds, a_stack, a_ringAtom, a_ringOrder, a_line, a_listing, a_perm, a_cand, a_digitFrom, a_digitTo, a_reach) (nI m) := by
  unfold wpY_connected
  dsimp only
  exact ⟨9, zy_c2 hb hm hn h0 hc hT hF 8 0 (by omega) a_reach (fun y hy => by omega)⟩
end
end
section
/-! ===== setBond ===== -/
theorem zval_N (k : Int32) : ∃ v, v ≤ 4 ∧ zval k = nI v := by
  unfold zval
  by_cases h1 : k = 67
  · rw [if_pos h1]; exact ⟨4, by decide, rfl⟩
  rw [if_neg h1]
  by_cases h2 : k = 66
  · rw [if_pos h2]; exact ⟨3, by decide, rfl⟩
  rw [if_neg h2]
  by_cases h3 : k = 78
  · rw [if_pos h3]; exact ⟨3, by decide, rfl⟩
  rw [if_neg h3]
  by_cases h4 : k = 79
  · rw [if_pos h4]; exact ⟨2, by decide, rfl⟩
  rw [if_neg h4]
  by_cases h5 : k = 70
  · rw [if_pos h5]; exact ⟨1, by decide, rfl⟩
  · rw [if_neg h5]; exact ⟨0, by decide, rfl⟩
theorem zis_N {a : Nat → Int32} (hb : zBd a) (t : Nat) : ∀ m, ∃ s, s ≤ 3 * m ∧ zis (fun j => a (t + j)) m = nI s := by
  intro m
  induction m with
  | zero => exact ⟨0, by omega, rfl⟩
  | succ m ih =>
    obtain ⟨s, h1, h2⟩ := ih
    obtain ⟨g1, g2⟩ := hb (t + m)
    refine ⟨s + zc a (t + m), by omega, ?_⟩
    rw [zis_s, h2]
    show nI s + a (t + m) = _
    rw [← nI_add, ← g1]
theorem zfr_cmp {a : Nat → Int32} (hb : zBd a) (t : Nat) (K : Int32) {o b : Nat} (ho : o ≤ 3) (hbb : b ≤ 3) : zfree K (fun j => a (t + j)) 8 < nI o - nI b ↔ zfree K (fun j => a (t + j)) 8 + nI b < nI o := by
  obtain ⟨v, v1, v2⟩ := zval_N K
  obtain ⟨s, s1, s2⟩ := zis_N hb t 8
  have e : zfree K (fun j => a (t + j)) 8 = nI v - nI s := by unfold zfree; rw [v2, s2]
  have e2 : nI v - nI s + nI b = nI (v + b) - nI s := by rw [← nI_add]; grind
  rw [e, e2, Int32.lt_iff_toInt_lt, Int32.lt_iff_toInt_lt, pk_sub_toInt (by omega) (by omega), pk_sub_toInt (by omega) (by omega), pk_sub_toInt (by omega) (by omega), nI_toInt (by omega)]
  omega
theorem zput_back {a : Nat → Int32} {m i j : Nat} {v w : Int32} (h1 : a (m * 64 + i * 8 + j) = v) (h2 : a (m * 64 + j * 8 + i) = v) : zput (zput a m i j w) m i j v = a := by
  unfold zput
  funext t
  by_cases c : t = m * 64 + j * 8 + i
  · rw [c, pk_us, h2]
  · rw [pk_un c]
    by_cases d : t = m * 64 + i * 8 + j
    · rw [d, pk_us, h1]
    · rw [pk_un d, pk_un c, pk_un d]
def zOut2 (WX : (Int32 → SX → Prop) → Prop) (WY : (Int32 → SY → Prop) → Prop) : Prop := ∃ r u, ∃ V : SY → Prop, (∀ v, V v → i_Rel 0 u v) ∧ (∀ post : Int32 → SX → Prop, post r u → WX post) ∧ (∀ post : Int32 → SY → Prop, (∀ v, V v → post r v) → WY post)
theorem zOut_2 {WX : (Int32 → SX → Prop) → Prop} {WY : (Int32 → SY → Prop) → Prop} (h : zOut WX WY) : zOut2 WX WY := by
  obtain ⟨r, u, v, i, wx, wy⟩ := h
  exact ⟨r, u, fun v' => v' = v, fun v' e => by rw [e]; exact i, wx, fun post q => wy post (q v rfl)⟩
section
variable {f_atomLimit f_ringLimit f_slotCount f_readState f_currentAtom f_pendingOrder f_branchDepth f_writtenLength f_writtenAtoms f_writtenCount f_bestClosed f_draftLength : Int32} {a_count a_kinds a_bonds a_branches a_ringAtom a_ringOrder a_line a_listing a_draft a_near a_place a_parent a_closed a_left a_pairDigit a_image a_signature a_nextSignature : Nat → Int32}
variable {f_candLen : Int32} {b_kinds b_ringOrder b_line b_listing a_perm a_cand a_digitFrom a_digitTo a_reach : Nat → Int32}
/-- the new order is set -/
theorem zz_sb98 {s i j o b : Nat} (h1 : zLim f_atomLimit f_ringLimit f_slotCount) (h2 : zSto a_count a_kinds b_kinds a_bonds) (h3 : zRing (zc a_count 3) a_ringAtom a_ringOrder b_ringOrder)
     (h4 : zRd f_atomLimit f_readState f_currentAtom f_pendingOrder f_branchDepth (zc a_count 3) a_branches) (h5 : zWri f_writtenLength f_writtenAtoms a_line b_line a_listing b_listing)
     (hs : s < 3) (hi : i < zc a_count s) (hj : j < zc a_count s) (hij : i ≠ j) (ho : o ≤ 3) (hob : o ≠ b) (eb : zbm a_bonds s i j = b) (he : b = 0 → zed (zbm a_bonds s) (zc a_count s) + 1 ≤ zc a_count s + 8) :
     zOut2 (fun post => wX_setBond_98 post (nI s) (nI i) (nI j) (nI o) (nI b) f_atomLimit f_ringLimit f_slotCount f_readState f_currentAtom f_pendingOrder f_branchDepth f_writtenLength f_writtenAtoms f_writtenCount f_bestClosed f_draftLength a_count a_kinds a_bonds a_branches a_ringAtom a_ringOrder a_line a_listing a_draft a_near a_place a_parent a_closed a_left a_pairDigit a_image a_signature a_nextSignature) (fun post => wY_setBond_89 post (nI s) (nI i) (nI j) (nI o) (nI b) f_atomLimit f_ringLimit f_slotCount f_readState f_currentAtom f_pendingOrder f_branchDepth f_writtenLength f_writtenAtoms f_writtenCount f_candLen a_count b_kinds a_bonds a_branches a_ringAtom b_ringOrder b_line b_listing a_perm a_cand a_digitFrom a_digitTo a_reach) := by
  have hS := h2
  obtain ⟨s1, s2, s3⟩ := h2
  have hm : s < 4 := by omega
  obtain ⟨hc, hM⟩ := s2 s hm
  have n8 := hM.1
  have hb3 : b ≤ 3 := by rw [← eb]; exact (s1 _).2
  have ebI : a_bonds (s * 64 + i * 8 + j) = nI b := by rw [(s1 _).1]; exact congrArg nI eb
  have ebJ : a_bonds (s * 64 + j * 8 + i) = nI b := by
    rw [(s1 _).1]
    have : zbm a_bonds s j i = b := by rw [hM.2.1 j i (by omega) (by omega)]; exact eb
    exact congrArg nI this
  have fri : zfree (b_kinds (s * 8 + i)) (fun j => a_bonds (s * 64 + i * 8 + j)) (zc a_count s) = zfree (a_kinds (s * 8 + i)) (fun j => a_bonds (s * 64 + i * 8 + j)) 8 := by
    rw [← (s3 s i hm hi).1, zfree_n s1 hM (by omega)]
  have frj : zfree (b_kinds (s * 8 + j)) (fun k => a_bonds (s * 64 + j * 8 + k)) (zc a_count s) = zfree (a_kinds (s * 8 + j)) (fun k => a_bonds (s * 64 + j * 8 + k)) 8 := by
    rw [← (s3 s j hm hj).1, zfree_n s1 hM (by omega)]
  have cmi := zfr_cmp s1 (s * 64 + i * 8) (a_kinds (s * 8 + i)) ho hb3
  have cmj := zfr_cmp s1 (s * 64 + j * 8) (a_kinds (s * 8 + j)) ho hb3
  by_cases v1 : zfree (a_kinds (s * 8 + i)) (fun j => a_bonds (s * 64 + i * 8 + j)) 8 < nI o - nI b
  · refine zOut_2 ⟨-4, (f_atomLimit, f_ringLimit, f_slotCount, f_readState, f_currentAtom, f_pendingOrder, f_branchDepth, f_writtenLength, f_writtenAtoms, f_writtenCount, f_bestClosed, f_draftLength, a_count, a_kinds, a_bonds, a_branches, a_ringAtom, a_ringOrder, a_line, a_listing, a_draft, a_near, a_place, a_parent, a_closed, a_left, a_pairDigit, a_image, a_signature, a_nextSignature), (f_atomLimit, f_ringLimit, f_slotCount, f_readState, f_currentAtom, f_pendingOrder, f_branchDepth, f_writtenLength, f_writtenAtoms, f_writtenCount, f_candLen, a_count, b_kinds, a_bonds, a_branches, a_ringAtom, b_ringOrder, b_line, b_listing, a_perm, a_cand, a_digitFrom, a_digitTo, a_reach), zz_in h1 hS h3 h4 h5, fun post p => ?_, fun post p => ?_⟩
    · exact nm_e (zx_free hm (by omega) (br_t v1 p))
    · refine zy_free hm (by omega) n8 hc ?_
      rw [fri]
      exact br_t (cmi.mp v1) p
  · by_cases v2 : nI o - nI b ≤ zfree (a_kinds (s * 8 + j)) (fun k => a_bonds (s * 64 + j * 8 + k)) 8
    · have v2' : nI o ≤ zfree (a_kinds (s * 8 + j)) (fun k => a_bonds (s * 64 + j * 8 + k)) 8 + nI b := Int32.not_lt.mp (fun z => Int32.not_lt.mpr v2 (cmj.mpr z))
      have hXr : ∀ post : Int32 → SX → Prop, (((nI o = 0 → (wpX_joinedWithout (fun r_201 => (((r_201 = 0 → (post (-16) (f_atomLimit, f_ringLimit, f_slotCount, f_readState, f_currentAtom, f_pendingOrder, f_branchDepth, f_writtenLength, f_writtenAtoms, f_writtenCount, f_bestClosed, f_draftLength, a_count, a_kinds, a_bonds, a_branches, a_ringAtom, a_ringOrder, a_line, a_listing, a_draft, a_near, a_place, a_parent, a_closed, a_left, a_pairDigit, a_image, a_signature, a_nextSignature))) ∧ (¬ r_201 = 0 → (wX_setBond_148 post (nI s) (nI i) (nI j) (nI o) f_atomLimit f_ringLimit f_slotCount f_readState f_currentAtom f_pendingOrder f_branchDepth f_writtenLength f_writtenAtoms f_writtenCount f_bestClosed f_draftLength a_count a_kinds a_bonds a_branches a_ringAtom a_ringOrder a_line a_listing a_draft a_near a_place a_parent a_closed a_left a_pairDigit a_image a_signature a_nextSignature))))) (f_atomLimit, f_ringLimit, f_slotCount, f_readState, f_currentAtom, f_pendingOrder, f_branchDepth, f_writtenLength, f_writtenAtoms, f_writtenCount, f_bestClosed, f_draftLength, a_count, a_kinds, a_bonds, a_branches, a_ringAtom, a_ringOrder, a_line, a_listing, a_draft, a_near, a_place, a_parent, a_closed, a_left, a_pairDigit, a_image, a_signature, a_nextSignature) (nI s) (nI i) (nI j))) ∧ (¬ nI o = 0 → (wX_setBond_148 post (nI s) (nI i) (nI j) (nI o) f_atomLimit f_ringLimit f_slotCount f_readState f_currentAtom f_pendingOrder f_branchDepth f_writtenLength f_writtenAtoms f_writtenCount f_bestClosed f_draftLength a_count a_kinds a_bonds a_branches a_ringAtom a_ringOrder a_line a_listing a_draft a_near a_place a_parent a_closed a_left a_pairDigit a_image a_signature a_nextSignature)))) → wX_setBond_98 post (nI s) (nI i) (nI j) (nI o) (nI b) f_atomLimit f_ringLimit f_slotCount f_readState f_currentAtom f_pendingOrder f_branchDepth f_writtenLength f_writtenAtoms f_writtenCount f_bestClosed f_draftLength a_count a_kinds a_bonds a_branches a_ringAtom a_ringOrder a_line a_listing a_draft a_near a_place a_parent a_closed a_left a_pairDigit a_image a_signature a_nextSignature := by
        intro post w
        exact nm_e (zx_free hm (by omega) (br_f v1 (zx_free hm (by omega) (br_t v2 w))))
      have hYr : ∀ post : Int32 → SY → Prop, (((nI o = 0 → (wpY_connected (fun r_187 u => match u with | (f_maxAtoms9, f_maxRings9, f_slotCount9, f_st9, f_cur9, f_pend9, f_depth9, f_lineLen9, f_listingLen9, f_count9, f_candLen9, a_size9, a_kinds9, a_bonds9, a_stack9, a_ringAtom9, a_ringOrder9, a_line9, a_listing9, a_perm9, a_cand9, a_digitFrom9, a_digitTo9, a_reach9) => (((r_187 = 0 → (wpY_put (fun u => match u with | (f_maxAtoms8, f_maxRings8, f_slotCount8, f_st8, f_cur8, f_pend8, f_depth8, f_lineLen8, f_listingLen8, f_count8, f_candLen8, a_size8, a_kinds8, a_bonds8, a_stack8, a_ringAtom8, a_ringOrder8, a_line8, a_listing8, a_perm8, a_cand8, a_digitFrom8, a_digitTo8, a_reach8) => (post (-16) (f_maxAtoms8, f_maxRings8, f_slotCount8, f_st8, f_cur8, f_pend8, f_depth8, f_lineLen8, f_listingLen8, f_count8, f_candLen8, a_size8, a_kinds8, a_bonds8, a_stack8, a_ringAtom8, a_ringOrder8, a_line8, a_listing8, a_perm8, a_cand8, a_digitFrom8, a_digitTo8, a_reach8))) (f_maxAtoms9, f_maxRings9, f_slotCount9, f_st9, f_cur9, f_pend9, f_depth9, f_lineLen9, f_listingLen9, f_count9, f_candLen9, a_size9, a_kinds9, a_bonds9, a_stack9, a_ringAtom9, a_ringOrder9, a_line9, a_listing9, a_perm9, a_cand9, a_digitFrom9, a_digitTo9, a_reach9) (nI s) (nI i) (nI j) (nI b))) ∧ (¬ r_187 = 0 → (post 0 (f_maxAtoms9, f_maxRings9, f_slotCount9, f_st9, f_cur9, f_pend9, f_depth9, f_lineLen9, f_listingLen9, f_count9, f_candLen9, a_size9, a_kinds9, a_bonds9, a_stack9, a_ringAtom9, a_ringOrder9, a_line9, a_listing9, a_perm9, a_cand9, a_digitFrom9, a_digitTo9, a_reach9)))))) (f_atomLimit, f_ringLimit, f_slotCount, f_readState, f_currentAtom, f_pendingOrder, f_branchDepth, f_writtenLength, f_writtenAtoms, f_writtenCount, f_candLen, a_count, b_kinds, zput a_bonds s i j (nI o), a_branches, a_ringAtom, b_ringOrder, b_line, b_listing, a_perm, a_cand, a_digitFrom, a_digitTo, a_reach) (nI s))) ∧ (¬ nI o = 0 → (post 0 (f_atomLimit, f_ringLimit, f_slotCount, f_readState, f_currentAtom, f_pendingOrder, f_branchDepth, f_writtenLength, f_writtenAtoms, f_writtenCount, f_candLen, a_count, b_kinds, zput a_bonds s i j (nI o), a_branches, a_ringAtom, b_ringOrder, b_line, b_listing, a_perm, a_cand, a_digitFrom, a_digitTo, a_reach))))) → wY_setBond_89 post (nI s) (nI i) (nI j) (nI o) (nI b) f_atomLimit f_ringLimit f_slotCount f_readState f_currentAtom f_pendingOrder f_branchDepth f_writtenLength f_writtenAtoms f_writtenCount f_candLen a_count b_kinds a_bonds a_branches a_ringAtom b_ringOrder b_line b_listing a_perm a_cand a_digitFrom a_digitTo a_reach := by
        intro post w
        refine zy_free hm (by omega) n8 hc ?_
        rw [fri]
        refine br_f (fun z => v1 (cmi.mpr z)) (zy_free hm (by omega) n8 hc ?_)
        rw [frj]
        exact br_t v2' (zy_put hm (by omega) (by omega) w)
      have good : (o ≠ 0 ∨ zConn (zc a_count s) (fun x y => zpt (zbm a_bonds s) i j o x y ≠ 0)) → zSto a_count a_kinds b_kinds (zput a_bonds s i j (nI o)) := by
        intro hcn
        refine zSto_put hS hm (by omega) (by omega) ho (zMol_put hM hi hj hij hcn ?_)
        by_cases b0 : b = 0
        · have := zed_put (zbm a_bonds s) i j o (zc a_count s)
          have := he b0
          omega
        · have := zed_put2 (zbm a_bonds s) i j o (zc a_count s) (Or.inr ⟨by rw [eb]; exact b0, by rw [hM.2.1 j i (by omega) (by omega), eb]; exact b0⟩)
          have := hM.2.2.2.2.2
          omega
      by_cases o0 : o = 0
      · subst o0
        have eo : nI 0 = 0 := rfl
        have hcong : ∀ x y, x < zc a_count s → y < zc a_count s → (zbm (zput a_bonds s i j (nI 0)) s x y ≠ 0 ↔ zWo (fun a b => zbm a_bonds s a b ≠ 0) i j x y) := by
          intro x y hx hy
          rw [zbm_put (by omega) (by omega) (by omega) (by omega) (by omega)]
          by_cases c : (x = i ∧ y = j) ∨ (x = j ∧ y = i)
          · rw [zpt_t c]
            constructor
            · intro z; exact absurd rfl z
            · intro z
              rcases c with c | c
              · exact absurd c z.2.1
              · exact absurd c z.2.2
          · rw [zpt_f c]
            exact ⟨fun z => ⟨z, fun q => c (Or.inl q), fun q => c (Or.inr q)⟩, fun z => z.1⟩
        have hsym : zSym (zc a_count s) (fun a b => zbm a_bonds s a b ≠ 0) := fun a b ha hb q => by
          show zbm a_bonds s b a ≠ 0
          rw [hM.2.1 b a (by omega) (by omega)]; exact q
        by_cases conn : zConn (zc a_count s) (fun a b => zbm (zput a_bonds s i j (nI 0)) s a b ≠ 0)
        · have c2 : zConn (zc a_count s) (fun x y => zpt (zbm a_bonds s) i j 0 x y ≠ 0) := zConn_mono (fun x y hx hy q => by rw [← zbm_put (a := a_bonds) (m := s) (i := i) (j := j) (v := 0) (by omega) (by omega) (by omega) (by omega) (by omega)]; exact q) conn
          have cW : zConn (zc a_count s) (zWo (fun a b => zbm a_bonds s a b ≠ 0) i j) := zConn_mono (fun x y hx hy q => (hcong x y hx hy).mp q) conn
          refine ⟨0, (f_atomLimit, f_ringLimit, f_slotCount, f_readState, f_currentAtom, f_pendingOrder, f_branchDepth, f_writtenLength, f_writtenAtoms, f_writtenCount, f_bestClosed, f_draftLength, a_count, a_kinds, zput a_bonds s i j (nI 0), a_branches, a_ringAtom, a_ringOrder, a_line, a_listing, a_draft, a_near, a_place, a_parent, a_closed, a_left, a_pairDigit, a_image, a_signature, a_nextSignature), fun v => ∃ a, v = (f_atomLimit, f_ringLimit, f_slotCount, f_readState, f_currentAtom, f_pendingOrder, f_branchDepth, f_writtenLength, f_writtenAtoms, f_writtenCount, f_candLen, a_count, b_kinds, zput a_bonds s i j (nI 0), a_branches, a_ringAtom, b_ringOrder, b_line, b_listing, a_perm, a_cand, a_digitFrom, a_digitTo, a), fun v ⟨a, ev⟩ => by rw [ev]; exact zz_in h1 (good (Or.inr c2)) h3 h4 h5, fun post p => hXr post (br_t rfl ?_), fun post p => hYr post (br_t rfl ?_)⟩
          · refine zx_jw s1 hm n8 hc hi hj hij (fun _ => br_f (by decide) (zx_put hm (by omega) (by omega) p)) (fun S q1 q2 q3 => ?_)
            exact absurd cW (zWo_f hsym hi hj S q1 q2 q3)
          · exact zy_conn (zBd_put s1 (by omega)) hm n8 (by omega) hc (fun _ a => br_f (by decide) (p _ ⟨a, rfl⟩)) (fun q => absurd conn q)
        · have cW : ¬ zConn (zc a_count s) (zWo (fun a b => zbm a_bonds s a b ≠ 0) i j) := fun z => conn (zConn_mono (fun x y hx hy q => (hcong x y hx hy).mpr q) z)
          refine ⟨-16, (f_atomLimit, f_ringLimit, f_slotCount, f_readState, f_currentAtom, f_pendingOrder, f_branchDepth, f_writtenLength, f_writtenAtoms, f_writtenCount, f_bestClosed, f_draftLength, a_count, a_kinds, a_bonds, a_branches, a_ringAtom, a_ringOrder, a_line, a_listing, a_draft, a_near, a_place, a_parent, a_closed, a_left, a_pairDigit, a_image, a_signature, a_nextSignature), fun v => ∃ a, v = (f_atomLimit, f_ringLimit, f_slotCount, f_readState, f_currentAtom, f_pendingOrder, f_branchDepth, f_writtenLength, f_writtenAtoms, f_writtenCount, f_candLen, a_count, b_kinds, a_bonds, a_branches, a_ringAtom, b_ringOrder, b_line, b_listing, a_perm, a_cand, a_digitFrom, a_digitTo, a), fun v ⟨a, ev⟩ => by rw [ev]; exact zz_in h1 hS h3 h4 h5, fun post p => hXr post (br_t rfl ?_), fun post p => hYr post (br_t rfl ?_)⟩
          · exact zx_jw s1 hm n8 hc hi hj hij (fun q => absurd (zWo_t hsym hM.2.2.2.2.1 q) cW) (fun S q1 q2 q3 => br_t rfl p)
          · refine zy_conn (zBd_put s1 (by omega)) hm n8 (by omega) hc (fun q => absurd q conn) (fun _ a => br_t rfl (zy_put hm (by omega) (by omega) ?_))
            rw [zput_back ebI ebJ]
            exact p _ ⟨a, rfl⟩
      · have on : ¬ nI o = 0 := nI_ne0 (by omega) (by omega)
        exact zOut_2 ⟨0, (f_atomLimit, f_ringLimit, f_slotCount, f_readState, f_currentAtom, f_pendingOrder, f_branchDepth, f_writtenLength, f_writtenAtoms, f_writtenCount, f_bestClosed, f_draftLength, a_count, a_kinds, zput a_bonds s i j (nI o), a_branches, a_ringAtom, a_ringOrder, a_line, a_listing, a_draft, a_near, a_place, a_parent, a_closed, a_left, a_pairDigit, a_image, a_signature, a_nextSignature), (f_atomLimit, f_ringLimit, f_slotCount, f_readState, f_currentAtom, f_pendingOrder, f_branchDepth, f_writtenLength, f_writtenAtoms, f_writtenCount, f_candLen, a_count, b_kinds, zput a_bonds s i j (nI o), a_branches, a_ringAtom, b_ringOrder, b_line, b_listing, a_perm, a_cand, a_digitFrom, a_digitTo, a_reach), zz_in h1 (good (Or.inl o0)) h3 h4 h5, fun post p => hXr post (br_f on (zx_put hm (by omega) (by omega) p)), fun post p => hYr post (br_f on p)⟩
    · refine zOut_2 ⟨-4, (f_atomLimit, f_ringLimit, f_slotCount, f_readState, f_currentAtom, f_pendingOrder, f_branchDepth, f_writtenLength, f_writtenAtoms, f_writtenCount, f_bestClosed, f_draftLength, a_count, a_kinds, a_bonds, a_branches, a_ringAtom, a_ringOrder, a_line, a_listing, a_draft, a_near, a_place, a_parent, a_closed, a_left, a_pairDigit, a_image, a_signature, a_nextSignature), (f_atomLimit, f_ringLimit, f_slotCount, f_readState, f_currentAtom, f_pendingOrder, f_branchDepth, f_writtenLength, f_writtenAtoms, f_writtenCount, f_candLen, a_count, b_kinds, a_bonds, a_branches, a_ringAtom, b_ringOrder, b_line, b_listing, a_perm, a_cand, a_digitFrom, a_digitTo, a_reach), zz_in h1 hS h3 h4 h5, fun post p => ?_, fun post p => ?_⟩
      · exact nm_e (zx_free hm (by omega) (br_f v1 (zx_free hm (by omega) (br_f v2 p))))
      · refine zy_free hm (by omega) n8 hc ?_
        rw [fri]
        refine br_f (fun z => v1 (cmi.mpr z)) (zy_free hm (by omega) n8 hc ?_)
        rw [frj]
        exact br_f (fun z => v2 (Int32.not_lt.mp (fun q => Int32.not_lt.mpr z (cmj.mp q)))) p
end
theorem i_vc_setBond {k : Nat} {u : SX} {v : SY} (I : i_Rel k u v) (hk : k + 5 ≤ 2563) (v1 : Int32) (v2 : Int32) (v3 : Int32) (v4 : Int32) : wpX_setBond (fun r u' => wpY_setBond (fun r' v' => r' = r ∧ i_Rel (k + 5) u' v') v v1 v2 v3 v4) u v1 v2 v3 v4 := by
  refine zz_el (P := fun u v => wpX_setBond (fun r u' => wpY_setBond (fun r' v' => r' = r ∧ i_Rel (k + 5) u' v') v v1 v2 v3 v4) u v1 v2 v3 v4) ?_ I
  intro f_atomLimit f_ringLimit f_slotCount f_readState f_currentAtom f_pendingOrder f_branchDepth f_writtenLength f_writtenAtoms f_writtenCount f_bestClosed f_draftLength a_count a_kinds a_bonds a_branches a_ringAtom a_ringOrder a_line a_listing a_draft a_near a_place a_parent a_closed a_left a_pairDigit a_image a_signature a_nextSignature f_candLen b_kinds b_ringOrder b_line b_listing a_perm a_cand a_digitFrom a_digitTo a_reach h1 h2 h3 h4 h5
  have I0 : i_Rel (k + 5) (f_atomLimit, f_ringLimit, f_slotCount, f_readState, f_currentAtom, f_pendingOrder, f_branchDepth, f_writtenLength, f_writtenAtoms, f_writtenCount, f_bestClosed, f_draftLength, a_count, a_kinds, a_bonds, a_branches, a_ringAtom, a_ringOrder, a_line, a_listing, a_draft, a_near, a_place, a_parent, a_closed, a_left, a_pairDigit, a_image, a_signature, a_nextSignature) (f_atomLimit, f_ringLimit, f_slotCount, f_readState, f_currentAtom, f_pendingOrder, f_branchDepth, f_writtenLength, f_writtenAtoms, f_writtenCount, f_candLen, a_count, b_kinds, a_bonds, a_branches, a_ringAtom, b_ringOrder, b_line, b_listing, a_perm, a_cand, a_digitFrom, a_digitTo, a_reach) := zz_in h1 h2 h3 h4 h5
  have bad : (v1 < 0 ∨ (¬ v1 < 0 ∧ f_slotCount ≤ v1)) → wpX_setBond (fun r u' => wpY_setBond (fun r' v' => r' = r ∧ i_Rel (k + 5) u' v') (f_atomLimit, f_ringLimit, f_slotCount, f_readState, f_currentAtom, f_pendingOrder, f_branchDepth, f_writtenLength, f_writtenAtoms, f_writtenCount, f_candLen, a_count, b_kinds, a_bonds, a_branches, a_ringAtom, b_ringOrder, b_line, b_listing, a_perm, a_cand, a_digitFrom, a_digitTo, a_reach) v1 v2 v3 v4) (f_atomLimit, f_ringLimit, f_slotCount, f_readState, f_currentAtom, f_pendingOrder, f_branchDepth, f_writtenLength, f_writtenAtoms, f_writtenCount, f_bestClosed, f_draftLength, a_count, a_kinds, a_bonds, a_branches, a_ringAtom, a_ringOrder, a_line, a_listing, a_draft, a_near, a_place, a_parent, a_closed, a_left, a_pairDigit, a_image, a_signature, a_nextSignature) v1 v2 v3 v4 := fun b => by
    unfold wpX_setBond
    refine zx_slot0 b (br_t rfl ?_)
    unfold wpY_setBond
    exact zy_slot1 b (br_f (by decide) ⟨rfl, I0⟩)
  rcases zslot (x := v1) h1 with b | b | ⟨s, hs, rfl, b1, b2⟩
  · exact bad (Or.inl b)
  · exact bad (Or.inr b)
  obtain ⟨hc, hM⟩ := h2.2.1 s (by omega)
  have n8 := hM.1
  have hm : s < 4 := by omega
  unfold wpX_setBond
  rcases zatom n8 v2 with na | ⟨i, hi, rfl⟩
  · refine zx_slot1 b1 b2 (br_f (by decide) (zx_at0 hm hc na (br_t rfl ?_)))
    unfold wpY_setBond
    exact zy_slot0 b1 b2 (br_t rfl (zy_at1 hm hc na (br_f (by decide) ⟨rfl, I0⟩)))
  rcases zatom n8 v3 with na | ⟨j, hj, rfl⟩
  · refine zx_slot1 b1 b2 (br_f (by decide) (zx_at1 hm n8 hc hi (br_f (by decide) (zx_at0 hm hc na (br_t rfl ?_)))))
    unfold wpY_setBond
    exact zy_slot0 b1 b2 (br_t rfl (zy_at0 hm n8 hc hi (br_t rfl (zy_at1 hm hc na (br_f (by decide) ⟨rfl, I0⟩)))))
  refine zx_slot1 b1 b2 (br_f (by decide) (zx_at1 hm n8 hc hi (br_f (by decide) (zx_at1 hm n8 hc hj (br_f (by decide) ?_)))))
  have hY : ∀ post : Int32 → SY → Prop, (((nI i = nI j → (post (-10) (f_atomLimit, f_ringLimit, f_slotCount, f_readState, f_currentAtom, f_pendingOrder, f_branchDepth, f_writtenLength, f_writtenAtoms, f_writtenCount, f_candLen, a_count, b_kinds, a_bonds, a_branches, a_ringAtom, b_ringOrder, b_line, b_listing, a_perm, a_cand, a_digitFrom, a_digitTo, a_reach))) ∧ (¬ nI i = nI j → (((v4 < 0 → (post (-15) (f_atomLimit, f_ringLimit, f_slotCount, f_readState, f_currentAtom, f_pendingOrder, f_branchDepth, f_writtenLength, f_writtenAtoms, f_writtenCount, f_candLen, a_count, b_kinds, a_bonds, a_branches, a_ringAtom, b_ringOrder, b_line, b_listing, a_perm, a_cand, a_digitFrom, a_digitTo, a_reach))) ∧ (¬ v4 < 0 → (((v4 ≤ 3 → (wpY_get (fun r_82 => (((v4 = r_82 → (post 0 (f_atomLimit, f_ringLimit, f_slotCount, f_readState, f_currentAtom, f_pendingOrder, f_branchDepth, f_writtenLength, f_writtenAtoms, f_writtenCount, f_candLen, a_count, b_kinds, a_bonds, a_branches, a_ringAtom, b_ringOrder, b_line, b_listing, a_perm, a_cand, a_digitFrom, a_digitTo, a_reach))) ∧ (¬ v4 = r_82 → (((r_82 = 0 → (wpY_ringBonds (fun r_238 => (((r_238 < f_ringLimit → (wY_setBond_89 post (nI s) (nI i) (nI j) v4 r_82 f_atomLimit f_ringLimit f_slotCount f_readState f_currentAtom f_pendingOrder f_branchDepth f_writtenLength f_writtenAtoms f_writtenCount f_candLen a_count b_kinds a_bonds a_branches a_ringAtom b_ringOrder b_line b_listing a_perm a_cand a_digitFrom a_digitTo a_reach)) ∧ (¬ r_238 < f_ringLimit → (post (-8) (f_atomLimit, f_ringLimit, f_slotCount, f_readState, f_currentAtom, f_pendingOrder, f_branchDepth, f_writtenLength, f_writtenAtoms, f_writtenCount, f_candLen, a_count, b_kinds, a_bonds, a_branches, a_ringAtom, b_ringOrder, b_line, b_listing, a_perm, a_cand, a_digitFrom, a_digitTo, a_reach)))))) (f_atomLimit, f_ringLimit, f_slotCount, f_readState, f_currentAtom, f_pendingOrder, f_branchDepth, f_writtenLength, f_writtenAtoms, f_writtenCount, f_candLen, a_count, b_kinds, a_bonds, a_branches, a_ringAtom, b_ringOrder, b_line, b_listing, a_perm, a_cand, a_digitFrom, a_digitTo, a_reach) (nI s))) ∧ (¬ r_82 = 0 → (wY_setBond_89 post (nI s) (nI i) (nI j) v4 r_82 f_atomLimit f_ringLimit f_slotCount f_readState f_currentAtom f_pendingOrder f_branchDepth f_writtenLength f_writtenAtoms f_writtenCount f_candLen a_count b_kinds a_bonds a_branches a_ringAtom b_ringOrder b_line b_listing a_perm a_cand a_digitFrom a_digitTo a_reach)))))))) (f_atomLimit, f_ringLimit, f_slotCount, f_readState, f_currentAtom, f_pendingOrder, f_branchDepth, f_writtenLength, f_writtenAtoms, f_writtenCount, f_candLen, a_count, b_kinds, a_bonds, a_branches, a_ringAtom, b_ringOrder, b_line, b_listing, a_perm, a_cand, a_digitFrom, a_digitTo, a_reach) (nI s) (nI i) (nI j))) ∧ (¬ v4 ≤ 3 → (post (-15) (f_atomLimit, f_ringLimit, f_slotCount, f_readState, f_currentAtom, f_pendingOrder, f_branchDepth, f_writtenLength, f_writtenAtoms, f_writtenCount, f_candLen, a_count, b_kinds, a_bonds, a_branches, a_ringAtom, b_ringOrder, b_line, b_listing, a_perm, a_cand, a_digitFrom, a_digitTo, a_reach))))))))))) → wpY_setBond post (f_atomLimit, f_ringLimit, f_slotCount, f_readState, f_currentAtom, f_pendingOrder, f_branchDepth, f_writtenLength, f_writtenAtoms, f_writtenCount, f_candLen, a_count, b_kinds, a_bonds, a_branches, a_ringAtom, b_ringOrder, b_line, b_listing, a_perm, a_cand, a_digitFrom, a_digitTo, a_reach) (nI s) (nI i) (nI j) v4 := by
    intro post w
    unfold wpY_setBond
    exact zy_slot0 b1 b2 (br_t rfl (zy_at0 hm n8 hc hi (br_t rfl (zy_at0 hm n8 hc hj (br_t rfl w)))))
  by_cases ij : i = j
  · have e : nI i = nI j := by rw [ij]
    exact br_t e (hY _ (br_t e ⟨rfl, I0⟩))
  have e : ¬ nI i = nI j := fun z => ij ((nI_eq (by omega) (by omega)).mp z)
  by_cases o0 : v4 < 0
  · exact br_f e (br_t o0 (hY _ (br_f e (br_t o0 ⟨rfl, I0⟩))))
  by_cases o3 : v4 ≤ 3
  · obtain ⟨o, ho, eo⟩ := nI_of o0
    subst eo
    have o3' : nI o ≤ nI 3 := o3
    rw [nI_leI ho (by decide)] at o3'
    have ob := h2.1 (s * 64 + i * 8 + j)
    obtain ⟨b, hb⟩ : ∃ b, zc a_bonds (s * 64 + i * 8 + j) = b := ⟨_, rfl⟩
    rw [hb] at ob
    refine br_f e (br_f o0 (br_t o3 ⟨zix_in hm (by omega) (by omega), ?_⟩))
    rw [zix_c hm (by omega) (by omega), ob.1]
    refine nm_e ?_
    have hY2 : ∀ post : Int32 → SY → Prop, (((nI o = nI b → (post 0 (f_atomLimit, f_ringLimit, f_slotCount, f_readState, f_currentAtom, f_pendingOrder, f_branchDepth, f_writtenLength, f_writtenAtoms, f_writtenCount, f_candLen, a_count, b_kinds, a_bonds, a_branches, a_ringAtom, b_ringOrder, b_line, b_listing, a_perm, a_cand, a_digitFrom, a_digitTo, a_reach))) ∧ (¬ nI o = nI b → (((nI b = 0 → (wpY_ringBonds (fun r_238 => (((r_238 < f_ringLimit → (wY_setBond_89 post (nI s) (nI i) (nI j) (nI o) (nI b) f_atomLimit f_ringLimit f_slotCount f_readState f_currentAtom f_pendingOrder f_branchDepth f_writtenLength f_writtenAtoms f_writtenCount f_candLen a_count b_kinds a_bonds a_branches a_ringAtom b_ringOrder b_line b_listing a_perm a_cand a_digitFrom a_digitTo a_reach)) ∧ (¬ r_238 < f_ringLimit → (post (-8) (f_atomLimit, f_ringLimit, f_slotCount, f_readState, f_currentAtom, f_pendingOrder, f_branchDepth, f_writtenLength, f_writtenAtoms, f_writtenCount, f_candLen, a_count, b_kinds, a_bonds, a_branches, a_ringAtom, b_ringOrder, b_line, b_listing, a_perm, a_cand, a_digitFrom, a_digitTo, a_reach)))))) (f_atomLimit, f_ringLimit, f_slotCount, f_readState, f_currentAtom, f_pendingOrder, f_branchDepth, f_writtenLength, f_writtenAtoms, f_writtenCount, f_candLen, a_count, b_kinds, a_bonds, a_branches, a_ringAtom, b_ringOrder, b_line, b_listing, a_perm, a_cand, a_digitFrom, a_digitTo, a_reach) (nI s))) ∧ (¬ nI b = 0 → (wY_setBond_89 post (nI s) (nI i) (nI j) (nI o) (nI b) f_atomLimit f_ringLimit f_slotCount f_readState f_currentAtom f_pendingOrder f_branchDepth f_writtenLength f_writtenAtoms f_writtenCount f_candLen a_count b_kinds a_bonds a_branches a_ringAtom b_ringOrder b_line b_listing a_perm a_cand a_digitFrom a_digitTo a_reach))))))) → wpY_setBond post (f_atomLimit, f_ringLimit, f_slotCount, f_readState, f_currentAtom, f_pendingOrder, f_branchDepth, f_writtenLength, f_writtenAtoms, f_writtenCount, f_candLen, a_count, b_kinds, a_bonds, a_branches, a_ringAtom, b_ringOrder, b_line, b_listing, a_perm, a_cand, a_digitFrom, a_digitTo, a_reach) (nI s) (nI i) (nI j) (nI o) := by
      intro post w
      refine hY post (br_f e (br_f o0 (br_t o3 (zy_get hm (by omega) (by omega) ?_))))
      rw [ob.1]; exact w
    by_cases ee : o = b
    · have q : nI o = nI b := by rw [ee]
      exact br_t q (hY2 _ (br_t q ⟨rfl, I0⟩))
    have q : ¬ nI o = nI b := fun z => ee ((nI_eq (by omega) (by omega)).mp z)
    have core : (b = 0 → zed (zbm a_bonds s) (zc a_count s) + 1 ≤ zc a_count s + 8) → zOut2 (fun post => wX_setBond_98 post (nI s) (nI i) (nI j) (nI o) (nI b) f_atomLimit f_ringLimit f_slotCount f_readState f_currentAtom f_pendingOrder f_branchDepth f_writtenLength f_writtenAtoms f_writtenCount f_bestClosed f_draftLength a_count a_kinds a_bonds a_branches a_ringAtom a_ringOrder a_line a_listing a_draft a_near a_place a_parent a_closed a_left a_pairDigit a_image a_signature a_nextSignature) (fun post => wY_setBond_89 post (nI s) (nI i) (nI j) (nI o) (nI b) f_atomLimit f_ringLimit f_slotCount f_readState f_currentAtom f_pendingOrder f_branchDepth f_writtenLength f_writtenAtoms f_writtenCount f_candLen a_count b_kinds a_bonds a_branches a_ringAtom b_ringOrder b_line b_listing a_perm a_cand a_digitFrom a_digitTo a_reach) := fun he => zz_sb98 h1 h2 h3 h4 h5 hs hi hj ij o3' ee hb he
    by_cases bz : b = 0
    · have z0 : nI b = 0 := by rw [bz]; rfl
      by_cases lt : zrv (zec (fun k j => a_bonds (s * 64 + k * 8 + j)) (zc a_count s)) (zc a_count s) < f_ringLimit
      · have he : zed (zbm a_bonds s) (zc a_count s) + 1 ≤ zc a_count s + 8 := by
          obtain ⟨al, rl, sc, l1, l2, l3, l4, l5, l6, l7, l8⟩ := h1
          rw [← zec_ed h2.1 hM]
          have hle := zec_le (fun k j => a_bonds (s * 64 + k * 8 + j)) n8
          rw [l4, Int32.lt_iff_toInt_lt, zrv_i (by omega) (by omega), nI_toInt (by omega)] at lt
          omega
        obtain ⟨r, u, V, i0, wx, wy⟩ := core (fun _ => he)
        exact br_f q (br_t z0 (zx_rb hm n8 hc (br_t lt (wx _ (hY2 _ (br_f q (br_t z0 (zy_rb h2.1 hm n8 hc (br_t lt (wy _ (fun v hv => ⟨rfl, i0 v hv⟩)))))))))))
      · exact br_f q (br_t z0 (zx_rb hm n8 hc (br_f lt (hY2 _ (br_f q (br_t z0 (zy_rb h2.1 hm n8 hc (br_f lt ⟨rfl, I0⟩))))))))
    · have z0 : ¬ nI b = 0 := nI_ne0 (by omega) (by omega)
      obtain ⟨r, u, V, i0, wx, wy⟩ := core (fun z => absurd z bz)
      exact br_f q (br_f z0 (wx _ (hY2 _ (br_f q (br_f z0 (wy _ (fun v hv => ⟨rfl, i0 v hv⟩)))))))
  · exact br_f e (br_f o0 (br_f o3 (hY _ (br_f e (br_f o0 (br_f o3 ⟨rfl, I0⟩))))))
end
section
/-! ===== Y: arrangements ===== -/
def zV (n : Nat) (p : Nat → Nat) (a : Nat → Int32) : Prop := ∀ x, x < n → a x = nI (p x)
section
variable {f_maxAtoms f_maxRings f_slotCount f_st f_cur f_pend f_depth f_lineLen f_listingLen f_count f_candLen : Int32} {a_size a_kinds a_bonds a_stack a_ringAtom a_ringOrder a_line a_listing a_perm a_cand a_digitFrom a_digitTo a_reach : Nat → Int32}
theorem zy_ex {post : SY → Prop} {i j : Nat} (hi : i < 8) (hj : j < 8) (h : post (f_maxAtoms, f_maxRings, f_slotCount, f_st, f_cur, f_pend, f_depth, f_lineLen, f_listingLen, f_count, f_candLen, a_size, a_kinds, a_bonds, a_stack, a_ringAtom, a_ringOrder, a_line, a_listing, zsx a_perm i j, a_cand, a_digitFrom, a_digitTo, a_reach)) : wpY_exchange post (f_maxAtoms, f_maxRings, f_slotCount, f_st, f_cur, f_pend, f_depth, f_lineLen, f_listingLen, f_count, f_candLen, a_size, a_kinds, a_bonds, a_stack, a_ringAtom, a_ringOrder, a_line, a_listing, a_perm, a_cand, a_digitFrom, a_digitTo, a_reach) (nI i) (nI j) := by
  unfold wpY_exchange
  dsimp only
  rw [zcl (show i < 1000000 by omega), zcl (show j < 1000000 by omega)]
  exact ⟨zin hi (by decide), nm_e ⟨zin hj (by decide), zin hi (by decide), nm_e ⟨zin hj (by decide), nm_e h⟩⟩⟩
theorem zy_np98 {post : Int32 → SY → Prop} {n i : Nat} {P : Nat → Int32} (hn : n ≤ 8) (hi : i < n) (h : ∀ a : Nat → Int32, (∀ z, z ≤ i → a z = P z) → (∀ z, i < z → z < n → a z = P (n + i - z)) → post 1 (f_maxAtoms, f_maxRings, f_slotCount, f_st, f_cur, f_pend, f_depth, f_lineLen, f_listingLen, f_count, f_candLen, a_size, a_kinds, a_bonds, a_stack, a_ringAtom, a_ringOrder, a_line, a_listing, a, a_cand, a_digitFrom, a_digitTo, a_reach)) :
    ∀ d lo hi (a : Nat → Int32), lo + hi = n + i → i < lo → hi ≤ lo + 2 * d → hi < n → (∀ z, z ≤ i → a z = P z) → (∀ z, i < z → z < lo → a z = P (n + i - z)) → (∀ z, hi < z → z < n → a z = P (n + i - z)) → (∀ z, lo ≤ z → z ≤ hi → a z = P z) → wY_nextPerm_98 post (d + 1) (nI lo) (nI hi) f_maxAtoms f_maxRings f_slotCount f_st f_cur f_pend f_depth f_lineLen f_listingLen f_count f_candLen a_size a_kinds a_bonds a_stack a_ringAtom a_ringOrder a_line a_listing a a_cand a_digitFrom a_digitTo a_reach := by
  intro d
  induction d with
  | zero =>
    intro lo hh a e1 e2 e3 e4 i1 i2 i3 i4
    refine br_t (nI_le (by omega) (by omega)) (h a i1 (fun z z1 z2 => ?_))
    by_cases c : z < lo
    · exact i2 z z1 c
    · by_cases c2 : hh < z
      · exact i3 z c2 z2
      · have : n + i - z = z := by omega
        rw [this]; exact i4 z (by omega) (by omega)
  | succ d ih =>
    intro lo hh a e1 e2 e3 e4 i1 i2 i3 i4
    by_cases c0 : hh ≤ lo
    · refine br_t (nI_le c0 (by omega)) (h a i1 (fun z z1 z2 => ?_))
      by_cases c : z < lo
      · exact i2 z z1 c
      · by_cases c2 : hh < z
        · exact i3 z c2 z2
        · have : n + i - z = z := by omega
          rw [this]; exact i4 z (by omega) (by omega)
    · have em : nI hh + (-1) = nI (hh - 1) := sb_m1 (by omega)
      refine br_f (nI_ge (by omega) (by omega)) (zy_ex (by omega) (by omega) (nm_r (nI_1 lo) (nm_r em (ih (lo + 1) (hh - 1) (zsx a lo hh) (by omega) (by omega) (by omega) (by omega) (fun z z1 => ?_) (fun z z1 z2 => ?_) (fun z z1 z2 => ?_) (fun z z1 z2 => ?_)))))
      · rw [zsx_e, zsw_n (by omega) (by omega)]; exact i1 z z1
      · by_cases c : z = lo
        · rw [zsx_e, c, zsw_i, i4 hh (by omega) (by omega)]
          congr 1; omega
        · rw [zsx_e, zsw_n c (by omega)]; exact i2 z z1 (by omega)
      · by_cases c : z = hh
        · rw [zsx_e, c, zsw_j, i4 lo (by omega) (by omega)]
          congr 1; omega
        · rw [zsx_e, zsw_n (by omega) c]; exact i3 z (by omega) z2
      · rw [zsx_e, zsw_n (by omega) (by omega)]; exact i4 z (by omega) (by omega)
theorem zy_np51 {post : Int32 → SY → Prop} {n i : Nat} {p : Nat → Nat} (hn : n ≤ 8) (hp : zP n p) (hv : zV n p a_perm) (hi : i + 1 < n) (ha : p i < p (i + 1)) (hd : zDsc n (i + 1) p)
    (h1 : ∀ q a', zNx n p q → zV n q a' → post 1 (f_maxAtoms, f_maxRings, f_slotCount, f_st, f_cur, f_pend, f_depth, f_lineLen, f_listingLen, f_count, f_candLen, a_size, a_kinds, a_bonds, a_stack, a_ringAtom, a_ringOrder, a_line, a_listing, a', a_cand, a_digitFrom, a_digitTo, a_reach)) :
    ∀ d x j, x + d = n → i < j → j < n → p i < p j → (∀ y, j < y → y < x → ¬ p i < p y) → i < x → wY_nextPerm_51 post (nI n) (nI i) f_maxAtoms f_maxRings f_slotCount f_st f_cur f_pend f_depth f_lineLen f_listingLen f_count f_candLen a_size a_kinds a_bonds a_stack a_ringAtom a_ringOrder a_line a_listing a_perm a_cand a_digitFrom a_digitTo a_reach (d + 1) (nI j) (nI x) := by
  intro d
  induction d with
  | zero =>
    intro x j hx j1 j2 j3 j4 hix
    have : x = n := by omega
    subst this
    have e1 : nI x - 1 = nI (x - 1) := by
      have := nI_pred (x - 1)
      have q : x - 1 + 1 = x := by omega
      rw [q] at this; exact this
    refine br_t (nI_le (Nat.le_refl _) (by omega)) (zy_ex (by omega) (by omega) (nm_r (nI_1 i) (nm_r e1 ⟨9, ?_⟩)))
    refine zy_np98 (P := zsx a_perm i j) (n := x) (i := i) hn (by omega) (fun a a1 a2 => ?_) 8 (i + 1) (x - 1) (zsx a_perm i j) (by omega) (by omega) (by omega) (by omega) (fun z _ => rfl) (fun z _ _ => by omega) (fun z _ _ => by omega) (fun z _ _ => rfl)
    refine h1 (fun y => if y < i then p y else if y = i then p j else if x + i - y = j then p i else p (x + i - y)) a (zNx_mk hp hi ha hd j1 j2 j3 (fun y y1 y2 => j4 y y1 y2) (fun y hy => if_pos hy) ?_ (fun y y1 y2 => ?_)) (fun y hy => ?_)
    · rw [if_neg (by omega), if_pos rfl]
    · rw [if_neg (by omega), if_neg (by omega)]
    · show a y = nI (if y < i then p y else if y = i then p j else if x + i - y = j then p i else p (x + i - y))
      by_cases c : y < i
      · rw [if_pos c, a1 y (by omega), zsx_e, zsw_n (by omega) (by omega)]; exact hv y hy
      · rw [if_neg c]
        by_cases c2 : y = i
        · rw [if_pos c2, c2, a1 i (Nat.le_refl _), zsx_e, zsw_i]; exact hv j j2
        · rw [if_neg c2, a2 y (by omega) hy, zsx_e]
          by_cases c3 : x + i - y = j
          · rw [if_pos c3, c3, zsw_j]; exact hv i (by omega)
          · rw [if_neg c3, zsw_n (by omega) c3]; exact hv _ (by omega)
  | succ d ih =>
    intro x j hx j1 j2 j3 j4 hix
    refine br_f (nI_ge (by omega) (by omega)) ⟨zin (by omega) (by decide), zin (by omega) (by decide), ?_⟩
    rw [zcl (show x < 1000000 by omega), zcl (show i < 1000000 by omega), hv x (by omega), hv i (by omega)]
    have b1 := hp.1 x (by omega)
    have b2 := hp.1 i (by omega)
    by_cases c : p x ≤ p i
    · refine br_t (nI_le c (by omega)) (nm_r (nI_1 x) (ih (x + 1) j (by omega) j1 j2 j3 (fun y y1 y2 => ?_) (by omega)))
      by_cases e : y = x
      · rw [e]; omega
      · exact j4 y y1 (by omega)
    · exact br_f (nI_ge (by omega) (by omega)) (nm_r (nI_1 x) (ih (x + 1) x (by omega) hix (by omega) (by omega) (fun y y1 y2 => by omega) (by omega)))
theorem zy_np4 {post : Int32 → SY → Prop} {n : Nat} {p : Nat → Nat} (hn1 : 1 ≤ n) (hn : n ≤ 8) (hp : zP n p) (hv : zV n p a_perm)
    (h0 : zDsc n 0 p → post 0 (f_maxAtoms, f_maxRings, f_slotCount, f_st, f_cur, f_pend, f_depth, f_lineLen, f_listingLen, f_count, f_candLen, a_size, a_kinds, a_bonds, a_stack, a_ringAtom, a_ringOrder, a_line, a_listing, a_perm, a_cand, a_digitFrom, a_digitTo, a_reach)) (h1 : ∀ q a', zNx n p q → zV n q a' → post 1 (f_maxAtoms, f_maxRings, f_slotCount, f_st, f_cur, f_pend, f_depth, f_lineLen, f_listingLen, f_count, f_candLen, a_size, a_kinds, a_bonds, a_stack, a_ringAtom, a_ringOrder, a_line, a_listing, a', a_cand, a_digitFrom, a_digitTo, a_reach)) :
    ∀ d x x2, x + d + 1 = n → ((x2 = -1 ∧ ∀ y, y < x → ¬ p y < p (y + 1)) ∨ (∃ i, i < x ∧ x2 = nI i ∧ p i < p (i + 1) ∧ ∀ y, i < y → y < x → ¬ p y < p (y + 1))) → wY_nextPerm_4 post (nI n) f_maxAtoms f_maxRings f_slotCount f_st f_cur f_pend f_depth f_lineLen f_listingLen f_count f_candLen a_size a_kinds a_bonds a_stack a_ringAtom a_ringOrder a_line a_listing a_perm a_cand a_digitFrom a_digitTo a_reach (d + 1) x2 (nI x) := by
  intro d
  have e1 : nI n - 1 = nI (n - 1) := by
    have := nI_pred (n - 1)
    have q : n - 1 + 1 = n := by omega
    rw [q] at this; exact this
  have dsc : ∀ y, y + 1 < n → ¬ p y < p (y + 1) → p (y + 1) < p y := by
    intro y hy c
    have : p y ≠ p (y + 1) := fun z => by have := hp.2 y (y + 1) (by omega) (by omega) z; omega
    omega
  induction d with
  | zero =>
    intro x x2 hx h
    refine br_t (by rw [e1]; exact nI_le (by omega) (by omega)) ?_
    rcases h with ⟨rfl, h⟩ | ⟨i, i1, rfl, i2, i3⟩
    · exact br_f (by decide) (h0 (fun y _ y2 => dsc y y2 (h y (by omega))))
    · have hd : zDsc n (i + 1) p := fun y y1 y2 => dsc y y2 (i3 y (by omega) (by omega))
      exact br_t (nI_pos' (by omega)) (nm_r (nI_1 i) (nm_r (nI_1 i) ⟨n - (i + 1) + 1, zy_np51 hn hp hv (by omega) i2 hd h1 (n - (i + 1)) (i + 1) (i + 1) (by omega) (by omega) (by omega) i2 (fun y y1 y2 => by omega) (by omega)⟩))
  | succ d ih =>
    intro x x2 hx h
    have ix : nI x + 1 = nI (x + 1) := nI_1 x
    refine br_f (by rw [e1]; exact nI_ge (by omega) (by omega)) ⟨zin (by omega) (by decide), by rw [ix]; exact zin (by omega) (by decide), ?_⟩
    rw [ix, zcl (show x < 1000000 by omega), zcl (show x + 1 < 1000000 by omega), hv x (by omega), hv (x + 1) (by omega)]
    have b1 := hp.1 x (by omega)
    have b2 := hp.1 (x + 1) (by omega)
    by_cases c : p x < p (x + 1)
    · exact br_f (nI_ge c (by omega)) (nm_e (ih (x + 1) _ (by omega) (Or.inr ⟨x, by omega, rfl, c, fun y y1 y2 => by omega⟩)))
    · refine br_t (nI_le (by omega) (by omega)) (nm_e (ih (x + 1) _ (by omega) ?_))
      rcases h with ⟨rfl, h⟩ | ⟨i, i1, rfl, i2, i3⟩
      · refine Or.inl ⟨rfl, fun y hy => ?_⟩
        by_cases e : y = x
        · rw [e]; exact c
        · exact h y (by omega)
      · refine Or.inr ⟨i, by omega, rfl, i2, fun y y1 y2 => ?_⟩
        by_cases e : y = x
        · rw [e]; exact c
        · exact i3 y y1 (by omega)
theorem zy_np {post : Int32 → SY → Prop} {n : Nat} {p : Nat → Nat} (hn1 : 1 ≤ n) (hn : n ≤ 8) (hp : zP n p) (hv : zV n p a_perm)
    (h0 : zDsc n 0 p → post 0 (f_maxAtoms, f_maxRings, f_slotCount, f_st, f_cur, f_pend, f_depth, f_lineLen, f_listingLen, f_count, f_candLen, a_size, a_kinds, a_bonds, a_stack, a_ringAtom, a_ringOrder, a_line, a_listing, a_perm, a_cand, a_digitFrom, a_digitTo, a_reach)) (h1 : ∀ q a', zNx n p q → zV n q a' → post 1 (f_maxAtoms, f_maxRings, f_slotCount, f_st, f_cur, f_pend, f_depth, f_lineLen, f_listingLen, f_count, f_candLen, a_size, a_kinds, a_bonds, a_stack, a_ringAtom, a_ringOrder, a_line, a_listing, a', a_cand, a_digitFrom, a_digitTo, a_reach)) : wpY_nextPerm post (f_maxAtoms, f_maxRings, f_slotCount, f_st, f_cur, f_pend, f_depth, f_lineLen, f_listingLen, f_count, f_candLen, a_size, a_kinds, a_bonds, a_stack, a_ringAtom, a_ringOrder, a_line, a_listing, a_perm, a_cand, a_digitFrom, a_digitTo, a_reach) (nI n) := by
  unfold wpY_nextPerm
  dsimp only
  exact ⟨n - 1 + 1, zy_np4 hn1 hn hp hv h0 h1 (n - 1) 0 (-1) (by omega) (Or.inl ⟨rfl, fun y hy => by omega⟩)⟩
theorem zy_fp2 {post : SY → Prop} (h : ∀ a, zV 8 (fun x => x) a → post (f_maxAtoms, f_maxRings, f_slotCount, f_st, f_cur, f_pend, f_depth, f_lineLen, f_listingLen, f_count, f_candLen, a_size, a_kinds, a_bonds, a_stack, a_ringAtom, a_ringOrder, a_line, a_listing, a, a_cand, a_digitFrom, a_digitTo, a_reach)) :
    ∀ d x a, x + d = 8 → zV x (fun x => x) a → wY_firstPerm_2 post f_maxAtoms f_maxRings f_slotCount f_st f_cur f_pend f_depth f_lineLen f_listingLen f_count f_candLen (d + 1) (nI x) a_size a_kinds a_bonds a_stack a_ringAtom a_ringOrder a_line a_listing a a_cand a_digitFrom a_digitTo a_reach := by
  intro d
  induction d with
  | zero =>
    intro x a hx ha
    have : x = 8 := by omega
    subst this
    exact br_t (by decide) (h a ha)
  | succ d ih =>
    intro x a hx ha
    refine br_f (nI_ge (b := 8) (by omega) (by decide)) ⟨zin (by omega) (by decide), nm_e (nm_r (nI_1 x) (ih (x + 1) _ (by omega) (fun y hy => ?_)))⟩
    rw [zcl (show x < 1000000 by omega)]
    by_cases e : y = x
    · rw [e, pk_us]
    · rw [pk_un e]; exact ha y (by omega)
theorem zy_fp {post : SY → Prop} (h : ∀ a, zV 8 (fun x => x) a → post (f_maxAtoms, f_maxRings, f_slotCount, f_st, f_cur, f_pend, f_depth, f_lineLen, f_listingLen, f_count, f_candLen, a_size, a_kinds, a_bonds, a_stack, a_ringAtom, a_ringOrder, a_line, a_listing, a, a_cand, a_digitFrom, a_digitTo, a_reach)) : wpY_firstPerm post (f_maxAtoms, f_maxRings, f_slotCount, f_st, f_cur, f_pend, f_depth, f_lineLen, f_listingLen, f_count, f_candLen, a_size, a_kinds, a_bonds, a_stack, a_ringAtom, a_ringOrder, a_line, a_listing, a_perm, a_cand, a_digitFrom, a_digitTo, a_reach) := by
  unfold wpY_firstPerm
  dsimp only
  exact ⟨9, zy_fp2 h 8 0 a_perm (by omega) (fun y hy => by omega)⟩
/-! ===== isMap ===== -/
theorem zy_im47 {post : Int32 → Prop} {J : Int32 → Prop} {a b n x : Nat} {p : Nat → Nat} (ha : a < 4) (hb : b < 4) (hn : n ≤ 8) (hp : zP n p) (hv : zV n p a_perm) (hx : x < n)
    (hJ : (∀ y, y < x → a_bonds (a * 64 + x * 8 + y) = a_bonds (b * 64 + p x * 8 + p y)) → J (nI (x + 1))) (hF : (∃ y, y < x ∧ ¬ a_bonds (a * 64 + x * 8 + y) = a_bonds (b * 64 + p x * 8 + p y)) → post 0) :
    ∀ d y, y + d = x → (∀ z, z < y → a_bonds (a * 64 + x * 8 + z) = a_bonds (b * 64 + p x * 8 + p z)) → wY_isMap_47 post J (nI a) (nI b) (nI x) f_maxAtoms f_maxRings f_slotCount f_st f_cur f_pend f_depth f_lineLen f_listingLen f_count f_candLen a_size a_kinds a_bonds a_stack a_ringAtom a_ringOrder a_line a_listing a_perm a_cand a_digitFrom a_digitTo a_reach (d + 1) (nI y) := by
  intro d
  induction d with
  | zero =>
    intro y hy h
    have : y = x := by omega
    subst this
    exact br_t (nI_le (Nat.le_refl _) (by omega)) (nm_r (nI_1 y) (hJ h))
  | succ d ih =>
    intro y hy h
    have b1 := hp.1 x hx
    have b2 := hp.1 y (by omega)
    refine br_f (nI_ge (by omega) (by omega)) (zy_get ha (by omega) (by omega) ⟨zin (by omega) (by decide), zin (by omega) (by decide), ?_⟩)
    rw [zcl (show x < 1000000 by omega), zcl (show y < 1000000 by omega), hv x hx, hv y (by omega)]
    refine zy_get hb (by omega) (by omega) ?_
    by_cases c : a_bonds (a * 64 + x * 8 + y) = a_bonds (b * 64 + p x * 8 + p y)
    · refine br_t c (nm_r (nI_1 y) (ih (y + 1) (by omega) (fun z hz => ?_)))
      by_cases e : z = y
      · rw [e]; exact c
      · exact h z (by omega)
    · exact br_f c (hF ⟨y, by omega, c⟩)
theorem zy_im2 {post : Int32 → Prop} {a b n : Nat} {p : Nat → Nat} (ha : a < 4) (hb : b < 4) (hn : n ≤ 8) (hc : a_size a = nI n) (hp : zP n p) (hv : zV n p a_perm)
    (hT : zMap n (fun i => a_kinds (a * 8 + i)) (fun i => a_kinds (b * 8 + i)) (fun i j => a_bonds (a * 64 + i * 8 + j)) (fun i j => a_bonds (b * 64 + i * 8 + j)) p → post 1)
    (hF : ¬ zMap n (fun i => a_kinds (a * 8 + i)) (fun i => a_kinds (b * 8 + i)) (fun i j => a_bonds (a * 64 + i * 8 + j)) (fun i j => a_bonds (b * 64 + i * 8 + j)) p → post 0) :
    ∀ d x, x + d = n → (∀ y, y < x → a_kinds (a * 8 + y) = a_kinds (b * 8 + p y) ∧ ∀ z, z < y → a_bonds (a * 64 + y * 8 + z) = a_bonds (b * 64 + p y * 8 + p z)) → wY_isMap_2 post (nI a) (nI b) f_maxAtoms f_maxRings f_slotCount f_st f_cur f_pend f_depth f_lineLen f_listingLen f_count f_candLen a_size a_kinds a_bonds a_stack a_ringAtom a_ringOrder a_line a_listing a_perm a_cand a_digitFrom a_digitTo a_reach (d + 1) (nI x) := by
  intro d
  induction d with
  | zero =>
    intro x hx h
    have : x = n := by omega
    subst this
    refine ⟨zin ha (by decide), ?_⟩
    rw [zcl (show a < 1000000 by omega), hc]
    exact br_t (nI_le (Nat.le_refl _) (by omega)) (hT h)
  | succ d ih =>
    intro x hx h
    have b1 := hp.1 x (by omega)
    refine ⟨zin ha (by decide), ?_⟩
    rw [zcl (show a < 1000000 by omega), hc]
    refine br_f (nI_ge (by omega) (by omega)) ⟨zkx_in ha (by omega), zin (by omega) (by decide), ?_⟩
    rw [zcl (show x < 1000000 by omega), hv x (by omega), zkx_c ha (by omega), zkx_c hb (by omega)]
    refine ⟨zkx_in hb (by omega), ?_⟩
    by_cases c : a_kinds (a * 8 + x) = a_kinds (b * 8 + p x)
    · refine br_t c ⟨x + 1, zy_im47 ha hb hn hp hv (by omega) (fun q => ih (x + 1) (by omega) (fun y hy => ?_)) (fun ⟨y, y1, y2⟩ => hF (fun z => y2 ((z x (by omega)).2 y y1))) x 0 (by omega) (fun z hz => by omega)⟩
      by_cases e : y = x
      · rw [e]; exact ⟨c, q⟩
      · exact h y (by omega)
    · exact br_f c (hF (fun z => c (z x (by omega)).1))
theorem zy_im {post : Int32 → Prop} {a b n : Nat} {p : Nat → Nat} (ha : a < 4) (hb : b < 4) (hn : n ≤ 8) (hc : a_size a = nI n) (hp : zP n p) (hv : zV n p a_perm)
    (hT : zMap n (fun i => a_kinds (a * 8 + i)) (fun i => a_kinds (b * 8 + i)) (fun i j => a_bonds (a * 64 + i * 8 + j)) (fun i j => a_bonds (b * 64 + i * 8 + j)) p → post 1)
    (hF : ¬ zMap n (fun i => a_kinds (a * 8 + i)) (fun i => a_kinds (b * 8 + i)) (fun i j => a_bonds (a * 64 + i * 8 + j)) (fun i j => a_bonds (b * 64 + i * 8 + j)) p → post 0) : wpY_isMap post (f_maxAtoms, f_maxRings, f_slotCount, f_st, f_cur, f_pend, f_depth, f_lineLen, f_listingLen, f_count, f_candLen, a_size, a_kinds, a_bonds, a_stack, a_ringAtom, a_ringOrder, a_line, a_listing, a_perm, a_cand, a_digitFrom, a_digitTo, a_reach) (nI a) (nI b) := by
  unfold wpY_isMap
  dsimp only
  exact ⟨n + 1, zy_im2 ha hb hn hc hp hv hT hF n 0 (by omega) (fun y hy => by omega)⟩
end
end
section
/-! ===== X: signatures ===== -/
/-- the first i entries of block m hold f, the others are those of s0 -/
def zSg (m i : Nat) (f : Nat → Int32) (s0 s : Nat → Int32) : Prop := (∀ j, j < i → s (m * 8 + j) = f j) ∧ (∀ t, t < m * 8 ∨ m * 8 + i ≤ t → s t = s0 t)
theorem zSg_0 (m : Nat) (f s0 : Nat → Int32) : zSg m 0 f s0 s0 := ⟨fun j hj => by omega, fun _ _ => rfl⟩
theorem zSg_u {m i : Nat} {f s0 s : Nat → Int32} {v : Int32} (h : zSg m i f s0 s) (e : v = f i) : zSg m (i + 1) f s0 (upd s (m * 8 + i) v) := by
  refine ⟨fun j hj => ?_, fun t ht => ?_⟩
  · by_cases c : j = i
    · rw [c, pk_us, e]
    · rw [pk_un (by omega)]; exact h.1 j (by omega)
  · rw [pk_un (by omega)]; exact h.2 t (by omega)
theorem zSg_tr {m n : Nat} {f g s0 s s' : Nat → Int32} (h : zSg m n f s0 s) (h' : zSg m n g s s') : zSg m n g s0 s' := ⟨h'.1, fun t ht => (h'.2 t ht).trans (h.2 t ht)⟩
section
variable {f_atomLimit f_ringLimit f_slotCount f_readState f_currentAtom f_pendingOrder f_branchDepth f_writtenLength f_writtenAtoms f_writtenCount f_bestClosed f_draftLength : Int32} {a_count a_kinds a_bonds a_branches a_ringAtom a_ringOrder a_line a_listing a_draft a_near a_place a_parent a_closed a_left a_pairDigit a_image a_signature a_nextSignature : Nat → Int32}
theorem zx_sg189 {post : SX → Prop} {J : Int32 → (Nat → Int32) → (Nat → Int32) → (Nat → Int32) → (Nat → Int32) → (Nat → Int32) → (Nat → Int32) → (Nat → Int32) → (Nat → Int32) → (Nat → Int32) → (Nat → Int32) → (Nat → Int32) → (Nat → Int32) → (Nat → Int32) → (Nat → Int32) → (Nat → Int32) → (Nat → Int32) → (Nat → Int32) → (Nat → Int32) → Prop} {m n r : Nat} {g : Nat → Int32} (hm : m < 4) (hn : n ≤ 8) (hg : ∀ i, i < n → a_nextSignature i = g i)
    (hJ : ∀ s, zSg m n g a_signature s → J (nI (r + 1)) a_count a_kinds a_bonds a_branches a_ringAtom a_ringOrder a_line a_listing a_draft a_near a_place a_parent a_closed a_left a_pairDigit a_image s a_nextSignature) :
    ∀ d i, i + d = n → ∀ s, zSg m i g a_signature s → wX_sign_189 post J (nI m) (nI n) (nI (m * 8)) (nI r) f_atomLimit f_ringLimit f_slotCount f_readState f_currentAtom f_pendingOrder f_branchDepth f_writtenLength f_writtenAtoms f_writtenCount f_bestClosed f_draftLength (d + 1) (nI i) a_count a_kinds a_bonds a_branches a_ringAtom a_ringOrder a_line a_listing a_draft a_near a_place a_parent a_closed a_left a_pairDigit a_image s a_nextSignature := by
  intro d
  induction d with
  | zero =>
    intro i hi s h
    have : i = n := by omega
    subst this
    exact br_t (nI_le (Nat.le_refl _) (by omega)) (nm_r (nI_1 r) (hJ s h))
  | succ d ih =>
    intro i hi s h
    refine br_f (nI_ge (by omega) (by omega)) ⟨zin (by omega) (by decide), ?_⟩
    rw [nI_add, zcl (show i < 1000000 by omega), zcl (show m * 8 + i < 1000000 by omega)]
    exact ⟨zin (by omega) (by decide), nm_e (nm_r (nI_1 i) (ih (i + 1) (by omega) _ (zSg_u h (hg i (by omega)))))⟩
theorem zx_sg98 {post : SX → Prop} {J63 J : Int32 → (Nat → Int32) → (Nat → Int32) → (Nat → Int32) → (Nat → Int32) → (Nat → Int32) → (Nat → Int32) → (Nat → Int32) → (Nat → Int32) → (Nat → Int32) → (Nat → Int32) → (Nat → Int32) → (Nat → Int32) → (Nat → Int32) → (Nat → Int32) → (Nat → Int32) → (Nat → Int32) → (Nat → Int32) → (Nat → Int32) → Prop} {x4 base : Int32} {m n i : Nat} {f : Nat → Int32} (hm : m < 4) (hn : n ≤ 8) (hi : i < n) (hf : ∀ j, j < n → a_signature (m * 8 + j) = f j)
    (hJ : J (nI (i + 1)) a_count a_kinds a_bonds a_branches a_ringAtom a_ringOrder a_line a_listing a_draft a_near a_place a_parent a_closed a_left a_pairDigit a_image a_signature (upd a_nextSignature i (base + zsgt n (fun j => a_bonds (m * 64 + i * 8 + j)) f n))) :
    ∀ d j, j + d = n → ∀ x, x = base + zsgt n (fun j => a_bonds (m * 64 + i * 8 + j)) f j → wX_sign_98 post J63 J (nI m) (nI n) (nI (m * 8)) x4 (nI i) f_atomLimit f_ringLimit f_slotCount f_readState f_currentAtom f_pendingOrder f_branchDepth f_writtenLength f_writtenAtoms f_writtenCount f_bestClosed f_draftLength a_count a_kinds a_bonds a_branches a_ringAtom a_ringOrder a_line a_listing a_draft a_near a_place a_parent a_closed a_left a_pairDigit a_image a_signature a_nextSignature (d + 1) x (nI j) := by
  intro d
  induction d with
  | zero =>
    intro j hj x ex
    have : j = n := by omega
    subst this
    refine br_t (nI_le (Nat.le_refl _) (by omega)) ⟨zin (by omega) (by decide), ?_⟩
    rw [zcl (show i < 1000000 by omega), ex]
    exact nm_e (nm_r (nI_1 i) hJ)
  | succ d ih =>
    intro j hj x ex
    refine br_f (nI_ge (by omega) (by omega)) ⟨zix_in hm (by omega) (by omega), ?_⟩
    rw [zix_c hm (by omega) (by omega)]
    have es : zsgt n (fun j => a_bonds (m * 64 + i * 8 + j)) f (j + 1) = zsgt n (fun j => a_bonds (m * 64 + i * 8 + j)) f j + (if a_bonds (m * 64 + i * 8 + j) = 0 then 0 else zterm (f j) (a_bonds (m * 64 + i * 8 + j))) := rfl
    refine nm_e ?_
    by_cases c : a_bonds (m * 64 + i * 8 + j) = 0
    · refine br_t c (nm_r (nI_1 j) (ih (j + 1) (by omega) x ?_))
      rw [es, if_pos c, Int32.add_zero, ex]
    · refine br_f c ?_
      rw [nI_add, zcl (show m * 8 + j < 1000000 by omega), hf j (by omega)]
      refine ⟨zin (by omega) (by decide), nm_e (fun y ey => nm_r (nI_1 j) (ih (j + 1) (by omega) y ?_))⟩
      rw [es, if_neg c, ey, ex]
      unfold zterm
      rw [Int32.add_assoc]
theorem zx_sg72 {post : SX → Prop} {J : Int32 → (Nat → Int32) → (Nat → Int32) → (Nat → Int32) → (Nat → Int32) → (Nat → Int32) → (Nat → Int32) → (Nat → Int32) → (Nat → Int32) → (Nat → Int32) → (Nat → Int32) → (Nat → Int32) → (Nat → Int32) → (Nat → Int32) → (Nat → Int32) → (Nat → Int32) → (Nat → Int32) → (Nat → Int32) → (Nat → Int32) → Prop} {m n r : Nat} (hm : m < 4) (hn : n ≤ 8)
    (hf : ∀ j, j < n → a_signature (m * 8 + j) = zsig n (fun i => a_kinds (m * 8 + i)) (fun i j => a_bonds (m * 64 + i * 8 + j)) r j)
    (hJ : ∀ s w, zSg m n (zsig n (fun i => a_kinds (m * 8 + i)) (fun i j => a_bonds (m * 64 + i * 8 + j)) (r + 1)) a_signature s → J (nI (r + 1)) a_count a_kinds a_bonds a_branches a_ringAtom a_ringOrder a_line a_listing a_draft a_near a_place a_parent a_closed a_left a_pairDigit a_image s w) :
    ∀ d i, i + d = n → ∀ w, (∀ j, j < i → w j = zsig n (fun i => a_kinds (m * 8 + i)) (fun i j => a_bonds (m * 64 + i * 8 + j)) (r + 1) j) → wX_sign_72 post J (nI m) (nI n) (nI (m * 8)) (nI r) f_atomLimit f_ringLimit f_slotCount f_readState f_currentAtom f_pendingOrder f_branchDepth f_writtenLength f_writtenAtoms f_writtenCount f_bestClosed f_draftLength (d + 1) (nI i) a_count a_kinds a_bonds a_branches a_ringAtom a_ringOrder a_line a_listing a_draft a_near a_place a_parent a_closed a_left a_pairDigit a_image a_signature w := by
  intro d
  induction d with
  | zero =>
    intro i hi w hw
    have : i = n := by omega
    subst this
    exact br_t (nI_le (Nat.le_refl _) (by omega)) ⟨i + 1, zx_sg189 hm hn hw (fun s hs => hJ s w hs) i 0 (by omega) a_signature (zSg_0 _ _ _)⟩
  | succ d ih =>
    intro i hi w hw
    refine br_f (nI_ge (by omega) (by omega)) ?_
    rw [nI_add, zcl (show m * 8 + i < 1000000 by omega), hf i (by omega)]
    refine ⟨zin (by omega) (by decide), nm_e ⟨n + 1, zx_sg98 hm hn (by omega) hf (ih (i + 1) (by omega) _ (fun j hj => ?_)) n 0 (by omega) _ (Int32.add_zero _).symm⟩⟩
    by_cases c : j = i
    · rw [c, pk_us]; rfl
    · rw [pk_un c]; exact hw j (by omega)
theorem zx_sg63 {post : SX → Prop} {m n : Nat} {s0 : Nat → Int32} (hm : m < 4) (hn : n ≤ 8)
    (hp : ∀ s w, zSg m n (zsig n (fun i => a_kinds (m * 8 + i)) (fun i j => a_bonds (m * 64 + i * 8 + j)) 4) s0 s → post (f_atomLimit, f_ringLimit, f_slotCount, f_readState, f_currentAtom, f_pendingOrder, f_branchDepth, f_writtenLength, f_writtenAtoms, f_writtenCount, f_bestClosed, f_draftLength, a_count, a_kinds, a_bonds, a_branches, a_ringAtom, a_ringOrder, a_line, a_listing, a_draft, a_near, a_place, a_parent, a_closed, a_left, a_pairDigit, a_image, s, w)) :
    ∀ d r, r + d = 4 → ∀ s w, zSg m n (zsig n (fun i => a_kinds (m * 8 + i)) (fun i j => a_bonds (m * 64 + i * 8 + j)) r) s0 s → wX_sign_63 post (nI m) (nI n) (nI (m * 8)) f_atomLimit f_ringLimit f_slotCount f_readState f_currentAtom f_pendingOrder f_branchDepth f_writtenLength f_writtenAtoms f_writtenCount f_bestClosed f_draftLength (d + 1) (nI r) a_count a_kinds a_bonds a_branches a_ringAtom a_ringOrder a_line a_listing a_draft a_near a_place a_parent a_closed a_left a_pairDigit a_image s w := by
  intro d
  induction d with
  | zero =>
    intro r hr s w h
    have : r = 4 := by omega
    subst this
    exact br_t (by decide) (hp s w h)
  | succ d ih =>
    intro r hr s w h
    exact br_f (nI_ge (b := 4) (by omega) (by decide)) ⟨n + 1, zx_sg72 hm hn h.1 (fun s' w' h' => ih (r + 1) (by omega) s' w' (zSg_tr h h')) n 0 (by omega) w (fun j hj => by omega)⟩
theorem zx_sg15 {post : SX → Prop} {m n : Nat} {s0 : Nat → Int32} (hm : m < 4) (hn : n ≤ 8)
    (hp : ∀ s w, zSg m n (zsig n (fun i => a_kinds (m * 8 + i)) (fun i j => a_bonds (m * 64 + i * 8 + j)) 4) s0 s → post (f_atomLimit, f_ringLimit, f_slotCount, f_readState, f_currentAtom, f_pendingOrder, f_branchDepth, f_writtenLength, f_writtenAtoms, f_writtenCount, f_bestClosed, f_draftLength, a_count, a_kinds, a_bonds, a_branches, a_ringAtom, a_ringOrder, a_line, a_listing, a_draft, a_near, a_place, a_parent, a_closed, a_left, a_pairDigit, a_image, s, w)) :
    ∀ d i, i + d = n → ∀ s, zSg m i (zsig n (fun i => a_kinds (m * 8 + i)) (fun i j => a_bonds (m * 64 + i * 8 + j)) 0) s0 s → wX_sign_15 post (nI m) (nI n) (nI (m * 8)) f_atomLimit f_ringLimit f_slotCount f_readState f_currentAtom f_pendingOrder f_branchDepth f_writtenLength f_writtenAtoms f_writtenCount f_bestClosed f_draftLength (d + 1) (nI i) a_count a_kinds a_bonds a_branches a_ringAtom a_ringOrder a_line a_listing a_draft a_near a_place a_parent a_closed a_left a_pairDigit a_image s a_nextSignature := by
  intro d
  induction d with
  | zero =>
    intro i hi s h
    have : i = n := by omega
    subst this
    exact br_t (nI_le (Nat.le_refl _) (by omega)) ⟨5, zx_sg63 hm hn hp 4 0 (by omega) s a_nextSignature h⟩
  | succ d ih =>
    intro i hi s h
    refine br_f (nI_ge (by omega) (by omega)) (zx_free hm (by omega) ?_)
    rw [nI_add, zcl (show m * 8 + i < 1000000 by omega)]
    exact ⟨zin (by omega) (by decide), zin (by omega) (by decide), nm_e (nm_r (nI_1 i) (ih (i + 1) (by omega) _ (zSg_u h rfl)))⟩
theorem zx_sign {post : SX → Prop} {m n : Nat} (hm : m < 4) (hn : n ≤ 8) (hc : a_count m = nI n)
    (hp : ∀ s w, zSg m n (zsig n (fun i => a_kinds (m * 8 + i)) (fun i j => a_bonds (m * 64 + i * 8 + j)) 4) a_signature s → post (f_atomLimit, f_ringLimit, f_slotCount, f_readState, f_currentAtom, f_pendingOrder, f_branchDepth, f_writtenLength, f_writtenAtoms, f_writtenCount, f_bestClosed, f_draftLength, a_count, a_kinds, a_bonds, a_branches, a_ringAtom, a_ringOrder, a_line, a_listing, a_draft, a_near, a_place, a_parent, a_closed, a_left, a_pairDigit, a_image, s, w)) : wpX_sign post (f_atomLimit, f_ringLimit, f_slotCount, f_readState, f_currentAtom, f_pendingOrder, f_branchDepth, f_writtenLength, f_writtenAtoms, f_writtenCount, f_bestClosed, f_draftLength, a_count, a_kinds, a_bonds, a_branches, a_ringAtom, a_ringOrder, a_line, a_listing, a_draft, a_near, a_place, a_parent, a_closed, a_left, a_pairDigit, a_image, a_signature, a_nextSignature) (nI m) := by
  unfold wpX_sign
  dsimp only
  rw [zcl (show m < 1000000 by omega), hc]
  exact ⟨zin hm (by decide), nm_e (nm_r (zi8 m) ⟨n + 1, zx_sg15 hm hn hp n 0 (by omega) a_signature (zSg_0 _ _ _)⟩)⟩
end
end
section
/-! ===== X: match ===== -/
def zFt (k s o : Nat → Int32) (a b : Nat) (p : Nat → Nat) (x y : Nat) : Prop := k (a * 8 + x) = k (b * 8 + y) ∧ s (a * 8 + x) = s (b * 8 + y) ∧ ∀ w, w < x → o (a * 64 + x * 8 + w) = o (b * 64 + y * 8 + p w)
section
variable {f_atomLimit f_ringLimit f_slotCount f_readState f_currentAtom f_pendingOrder f_branchDepth f_writtenLength f_writtenAtoms f_writtenCount f_bestClosed f_draftLength : Int32} {a_count a_kinds a_bonds a_branches a_ringAtom a_ringOrder a_line a_listing a_draft a_near a_place a_parent a_closed a_left a_pairDigit a_image a_signature a_nextSignature : Nat → Int32}
theorem zx_ft59 {post : Int32 → Prop} {a b x y : Nat} {p : Nat → Nat} (ha : a < 4) (hb : b < 4) (hx : x < 8) (hy : y < 8) (hi : ∀ w, w < x → a_image w = nI (p w) ∧ p w < 8)
    (hT : (∀ w, w < x → a_bonds (a * 64 + x * 8 + w) = a_bonds (b * 64 + y * 8 + p w)) → post 1) (hF : (¬ ∀ w, w < x → a_bonds (a * 64 + x * 8 + w) = a_bonds (b * 64 + y * 8 + p w)) → post 0) :
    ∀ d w, w + d = x → (∀ v, v < w → a_bonds (a * 64 + x * 8 + v) = a_bonds (b * 64 + y * 8 + p v)) → wX_fits_59 post (nI a) (nI b) (nI x) (nI y) f_atomLimit f_ringLimit f_slotCount f_readState f_currentAtom f_pendingOrder f_branchDepth f_writtenLength f_writtenAtoms f_writtenCount f_bestClosed f_draftLength a_count a_kinds a_bonds a_branches a_ringAtom a_ringOrder a_line a_listing a_draft a_near a_place a_parent a_closed a_left a_pairDigit a_image a_signature a_nextSignature (d + 1) (nI w) := by
  intro d
  induction d with
  | zero =>
    intro w hw h
    have : w = x := by omega
    subst this
    exact br_t (nI_le (Nat.le_refl _) (by omega)) (hT h)
  | succ d ih =>
    intro w hw h
    obtain ⟨i1, i2⟩ := hi w (by omega)
    refine br_f (nI_ge (by omega) (by omega)) ⟨zix_in ha hx (by omega), zin (by omega) (by decide), ?_⟩
    rw [zcl (show w < 1000000 by omega), i1, zix_c ha hx (by omega), zix_c hb hy i2]
    refine ⟨zix_in hb hy i2, ?_⟩
    by_cases c : a_bonds (a * 64 + x * 8 + w) = a_bonds (b * 64 + y * 8 + p w)
    · refine br_t c (nm_r (nI_1 w) (ih (w + 1) (by omega) (fun v hv => ?_)))
      by_cases e : v = w
      · rw [e]; exact c
      · exact h v (by omega)
    · exact br_f c (hF (fun z => c (z w (by omega))))
theorem zx_fits {post : Int32 → Prop} {a b x y : Nat} {p : Nat → Nat} (ha : a < 4) (hb : b < 4) (hx : x < 8) (hy : y < 8) (hi : ∀ w, w < x → a_image w = nI (p w) ∧ p w < 8)
    (hT : zFt a_kinds a_signature a_bonds a b p x y → post 1) (hF : ¬ zFt a_kinds a_signature a_bonds a b p x y → post 0) : wpX_fits post (f_atomLimit, f_ringLimit, f_slotCount, f_readState, f_currentAtom, f_pendingOrder, f_branchDepth, f_writtenLength, f_writtenAtoms, f_writtenCount, f_bestClosed, f_draftLength, a_count, a_kinds, a_bonds, a_branches, a_ringAtom, a_ringOrder, a_line, a_listing, a_draft, a_near, a_place, a_parent, a_closed, a_left, a_pairDigit, a_image, a_signature, a_nextSignature) (nI a) (nI b) (nI x) (nI y) := by
  unfold wpX_fits
  dsimp only
  rw [zkx_c ha hx, zkx_c hb hy]
  refine ⟨zkx_in ha hx, zkx_in hb hy, ?_⟩
  by_cases c1 : a_kinds (a * 8 + x) = a_kinds (b * 8 + y)
  · refine br_t c1 ⟨zkx_in ha hx, zkx_in hb hy, ?_⟩
    by_cases c2 : a_signature (a * 8 + x) = a_signature (b * 8 + y)
    · exact br_t c2 ⟨x + 1, zx_ft59 ha hb hx hy hi (fun z => hT ⟨c1, c2, z⟩) (fun z => hF (fun q => z q.2.2)) x 0 (by omega) (fun v hv => by omega)⟩
    · exact br_f c2 (hF (fun z => c2 z.2.1))
  · exact br_f c1 (hF (fun z => c1 z.1))
theorem zx_ni12 {post : Int32 → Prop} {a b x n f : Nat} {m : Int32} {p : Nat → Nat} (ha : a < 4) (hb : b < 4) (hx : x < 8) (hn : n ≤ 8) (hi : ∀ w, w < x → a_image w = nI (p w) ∧ p w < 8)
    (h : ∀ r, f ≤ r → r ≤ n → (∀ y, f ≤ y → y < r → ¬ (bt m y = false ∧ zFt a_kinds a_signature a_bonds a b p x y)) → (r < n → bt m r = false ∧ zFt a_kinds a_signature a_bonds a b p x r) → post (nI r)) :
    ∀ d y, y + d = n → f ≤ y → (∀ z, f ≤ z → z < y → ¬ (bt m z = false ∧ zFt a_kinds a_signature a_bonds a b p x z)) → wX_nextImage_12 post (nI a) (nI b) (nI x) m (nI n) f_atomLimit f_ringLimit f_slotCount f_readState f_currentAtom f_pendingOrder f_branchDepth f_writtenLength f_writtenAtoms f_writtenCount f_bestClosed f_draftLength a_count a_kinds a_bonds a_branches a_ringAtom a_ringOrder a_line a_listing a_draft a_near a_place a_parent a_closed a_left a_pairDigit a_image a_signature a_nextSignature (d + 1) (nI y) := by
  intro d
  induction d with
  | zero =>
    intro y hy hf hz
    have : y = n := by omega
    subst this
    exact br_t (nI_le (Nat.le_refl _) (by omega)) (h y hf (Nat.le_refl _) hz (fun q => by omega))
  | succ d ih =>
    intro y hy hf hz
    refine br_f (nI_ge (by omega) (by omega)) ?_
    have go : ¬ (bt m y = false ∧ zFt a_kinds a_signature a_bonds a b p x y) → wX_nextImage_12 post (nI a) (nI b) (nI x) m (nI n) f_atomLimit f_ringLimit f_slotCount f_readState f_currentAtom f_pendingOrder f_branchDepth f_writtenLength f_writtenAtoms f_writtenCount f_bestClosed f_draftLength a_count a_kinds a_bonds a_branches a_ringAtom a_ringOrder a_line a_listing a_draft a_near a_place a_parent a_closed a_left a_pairDigit a_image a_signature a_nextSignature (d + 1) (nI (y + 1)) := fun no => ih (y + 1) (by omega) (by omega) (fun z z1 z2 => by
      by_cases e : z = y
      · rw [e]; exact no
      · exact hz z z1 (by omega))
    by_cases c : bt m y = false
    · refine br_t ((zbtst (by omega)).mpr c) (zx_fits ha hb hx (by omega) hi (fun q => br_f (by decide) (h y hf (by omega) hz (fun _ => ⟨c, q⟩))) (fun q => br_t rfl (nm_r (nI_1 y) (go (fun z => q z.2)))))
    · exact br_f (fun z => c ((zbtst (by omega)).mp z)) (nm_r (nI_1 y) (go (fun z => c z.1)))
theorem zx_ni {post : Int32 → Prop} {a b x n f : Nat} {m : Int32} {p : Nat → Nat} (ha : a < 4) (hb : b < 4) (hx : x < 8) (hn : n ≤ 8) (hc : a_count b = nI n) (hf : f ≤ n) (hi : ∀ w, w < x → a_image w = nI (p w) ∧ p w < 8)
    (h : ∀ r, f ≤ r → r ≤ n → (∀ y, f ≤ y → y < r → ¬ (bt m y = false ∧ zFt a_kinds a_signature a_bonds a b p x y)) → (r < n → bt m r = false ∧ zFt a_kinds a_signature a_bonds a b p x r) → post (nI r)) : wpX_nextImage post (f_atomLimit, f_ringLimit, f_slotCount, f_readState, f_currentAtom, f_pendingOrder, f_branchDepth, f_writtenLength, f_writtenAtoms, f_writtenCount, f_bestClosed, f_draftLength, a_count, a_kinds, a_bonds, a_branches, a_ringAtom, a_ringOrder, a_line, a_listing, a_draft, a_near, a_place, a_parent, a_closed, a_left, a_pairDigit, a_image, a_signature, a_nextSignature) (nI a) (nI b) (nI x) (nI f) m := by
  unfold wpX_nextImage
  dsimp only
  rw [zcl (show b < 1000000 by omega), hc]
  exact ⟨zin hb (by decide), nm_e ⟨n - f + 1, zx_ni12 ha hb hx hn hi h (n - f) f (by omega) (Nat.le_refl _) (fun z z1 z2 => by omega)⟩⟩
end
/-- the mask holds the first d images -/
def zUs (n : Nat) (p : Nat → Nat) (d : Nat) (m : Int32) : Prop := ∀ y, y < n → bt m y = zu p y d
theorem zUs_add {n d y : Nat} {p : Nat → Nat} {m : Int32} (hn : n ≤ 8) (h : zUs n p d m) (hy : y < 8) : zUs n (zup p d y) (d + 1) (m ||| ((1 : Int32) <<< (nI y &&& 31))) := by
  intro z hz
  rw [b_or, zbsh y (by omega) z (by omega), h z hz]
  show _ = (zu (zup p d y) z d || zup p d y d == z)
  rw [zup_s, zu_congr (q := p) (fun x hx => zup_n (by omega)) z]
  congr 1
  by_cases c : z = y
  · rw [decide_eq_true c, c]; simp
  · rw [decide_eq_false c]
    have : (y == z) = false := by simp; omega
    rw [this]
theorem zUs_sub {n d : Nat} {p : Nat → Nat} {m : Int32} (hn : n ≤ 8) (hI : zI n (d + 1) p) (h : zUs n p (d + 1) m) : zUs n p d (m &&& (((1 : Int32) <<< (nI (p d) &&& 31)) ^^^ (-1))) := by
  have hpd := hI.1 d (by omega)
  intro z hz
  rw [b_and, zbnot (by omega), zbsh (p d) (by omega) z (by omega), h z hz]
  show ((zu p z d || p d == z) && !decide (z = p d)) = zu p z d
  by_cases c : z = p d
  · rw [decide_eq_true c, Bool.not_true, Bool.and_false]
    refine (zu_f.mpr (fun j hj e => ?_)).symm
    have := hI.2 j d (by omega) (by omega) (by rw [e, c])
    omega
  · rw [decide_eq_false c, Bool.not_false, Bool.and_true]
    have : (p d == z) = false := by simp; omega
    rw [this, Bool.or_false]
def zMT : Nat → Nat
  | 0 => 0
  | m + 1 => 1 + (m + 1) * (1 + zMT m)
theorem zMT_8 {n : Nat} (h : n ≤ 8) : zMT n ≤ 200000 := by
  rcases n with _ | _ | _ | _ | _ | _ | _ | _ | _ | n
  any_goals decide
  omega
theorem zfc_anti {p : Nat → Nat} {k n f y : Nat} (hf : f ≤ y) (hy : y < n) (h : zu p y k = false) : zfc p k n (y + 1) + 1 ≤ zfc p k n f := by
  refine zs_lt (fun b _ => ?_) y hy ?_
  · by_cases c : y + 1 ≤ b ∧ zu p b k = false
    · rw [if_pos c, if_pos ⟨by omega, c.2⟩]; exact Nat.le_refl _
    · rw [if_neg c]; exact Nat.zero_le _
  · rw [if_neg (by omega), if_pos ⟨hf, h⟩]; omega
section
variable {f_atomLimit f_ringLimit f_slotCount f_readState f_currentAtom f_pendingOrder f_branchDepth f_writtenLength f_writtenAtoms f_writtenCount f_bestClosed f_draftLength : Int32} {a_count a_kinds a_bonds a_branches a_ringAtom a_ringOrder a_line a_listing a_draft a_near a_place a_parent a_closed a_left a_pairDigit a_image a_signature a_nextSignature : Nat → Int32}
theorem zx_ms128 {post : Int32 → SX → Prop} {J : Int32 → Int32 → Int32 → (Nat → Int32) → (Nat → Int32) → (Nat → Int32) → (Nat → Int32) → (Nat → Int32) → (Nat → Int32) → (Nat → Int32) → (Nat → Int32) → (Nat → Int32) → (Nat → Int32) → (Nat → Int32) → (Nat → Int32) → (Nat → Int32) → (Nat → Int32) → (Nat → Int32) → (Nat → Int32) → (Nat → Int32) → (Nat → Int32) → Prop}
    {x3 x4 us bl : Int32} {a b n d f t : Nat} {p : Nat → Nat} {Ok : Nat → Prop} (ha : a < 4) (hb : b < 4) (hn : n ≤ 8) (hcb : a_count b = nI n) (hd : d < n) (hf : f ≤ n) (ht : t < 250000) (hi : ∀ w, w < d → a_image w = nI (p w) ∧ p w < 8)
    (hok : ∀ y, y < n → (Ok y ↔ (bt bl y = false ∧ zFt a_kinds a_signature a_bonds a b p d y)))
    (hN : (∀ y, f ≤ y → y < n → ¬ Ok y) → J (nI d + (-1)) us (nI (t + 1)) a_count a_kinds a_bonds a_branches a_ringAtom a_ringOrder a_line a_listing a_draft a_near a_place a_parent a_closed a_left a_pairDigit (upd a_image d (-1)) a_signature a_nextSignature)
    (hS : ∀ y, f ≤ y → y < n → Ok y → (∀ z, f ≤ z → z < y → ¬ Ok z) → ∀ g : Nat → Int32, (∀ w, w < d → g w = a_image w) → g d = nI y → (d + 1 < n → g (d + 1) = -1) → J (nI (d + 1)) (us ||| ((1 : Int32) <<< (nI y &&& 31))) (nI (t + 1)) a_count a_kinds a_bonds a_branches a_ringAtom a_ringOrder a_line a_listing a_draft a_near a_place a_parent a_closed a_left a_pairDigit g a_signature a_nextSignature)
    (x9 : Int32) (h9 : x9 + 1 = nI f) : wX_match_128 post J (nI a) (nI b) x3 x4 (nI n) (nI d) us (nI t) x9 bl f_atomLimit f_ringLimit f_slotCount f_readState f_currentAtom f_pendingOrder f_branchDepth f_writtenLength f_writtenAtoms f_writtenCount f_bestClosed f_draftLength a_count a_kinds a_bonds a_branches a_ringAtom a_ringOrder a_line a_listing a_draft a_near a_place a_parent a_closed a_left a_pairDigit a_image a_signature a_nextSignature := by
  unfold wX_match_128
  rw [h9]
  refine zx_ni ha hb (by omega) hn hcb hf hi (fun r r1 r2 r3 r4 => ?_)
  rw [zcl (show d < 1000000 by omega)]
  by_cases c : r < n
  · obtain ⟨q1, q2⟩ := r4 c
    have okr : Ok r := (hok r c).mpr ⟨q1, q2⟩
    have no : ∀ z, f ≤ z → z < r → ¬ Ok z := fun z z1 z2 z3 => r3 z z1 z2 ((hok z (by omega)).mp z3)
    refine br_f (nI_ge c (by omega)) ⟨zin (by omega) (by decide), nm_e (nm_e (nm_r (nI_1 d) ?_))⟩
    by_cases e : n ≤ d + 1
    · refine br_t (nI_le e (by omega)) (nm_r (nI_1 t) (hS r r1 c okr no _ (fun w hw => pk_un (by omega)) pk_us (fun q => by omega)))
    · refine br_f (nI_ge (by omega) (by omega)) ⟨zin (by omega) (by decide), ?_⟩
      rw [zcl (show d + 1 < 1000000 by omega)]
      refine nm_e (nm_r (nI_1 t) (hS r r1 c okr no _ (fun w hw => by rw [pk_un (by omega), pk_un (by omega)]) (by rw [pk_un (by omega), pk_us]) (fun _ => pk_us)))
  · exact br_t (nI_le (by omega) (by omega)) ⟨zin (by omega) (by decide), nm_e (nm_e (nm_r (nI_1 t) (hN (fun y y1 y2 z => r3 y y1 (by omega) ((hok y y2).mp z)))))⟩
end
end
section
/-! ===== X: the search of match ===== -/
def zSol (n : Nat) (Fx : Nat → Nat → Prop) (k s o : Nat → Int32) (a b : Nat) (q : Nat → Nat) : Prop := zP n q ∧ ∀ x, x < n → Fx x (q x) ∧ zFt k s o a b q x (q x)
def zPre (Fx : Nat → Nat → Prop) (k s o : Nat → Int32) (a b d : Nat) (p : Nat → Nat) : Prop := ∀ x, x < d → Fx x (p x) ∧ zFt k s o a b p x (p x)
theorem zFt_congr {k s o : Nat → Int32} {a b x y : Nat} {p q : Nat → Nat} (e : ∀ w, w < x → p w = q w) (h : zFt k s o a b p x y) : zFt k s o a b q x y := ⟨h.1, h.2.1, fun w hw => by rw [← e w hw]; exact h.2.2 w hw⟩
theorem zPre_up {Fx : Nat → Nat → Prop} {k s o : Nat → Int32} {a b d y : Nat} {p : Nat → Nat} (h : zPre Fx k s o a b d p) (h1 : Fx d y) (h2 : zFt k s o a b p d y) : zPre Fx k s o a b (d + 1) (zup p d y) := by
  intro x hx
  by_cases c : x = d
  · rw [c, zup_s]
    exact ⟨h1, zFt_congr (fun w hw => (zup_n (by omega)).symm) h2⟩
  · rw [zup_n c]
    exact ⟨(h x (by omega)).1, zFt_congr (fun w hw => (zup_n (by omega)).symm) (h x (by omega)).2⟩
/-- how masks block what Fx bars -/
def zBlk (post : Int32 → SX → Prop) (Fx : Nat → Nat → Prop) (a b n : Nat) (x3 x4 : Int32) : Prop :=
  ∀ f_atomLimit f_ringLimit f_slotCount f_readState f_currentAtom f_pendingOrder f_branchDepth f_writtenLength f_writtenAtoms f_writtenCount f_bestClosed f_draftLength a_count a_kinds a_bonds a_branches a_ringAtom a_ringOrder a_line a_listing a_draft a_near a_place a_parent a_closed a_left a_pairDigit a_image a_signature a_nextSignature (J : Int32 → Int32 → Int32 → (Nat → Int32) → (Nat → Int32) → (Nat → Int32) → (Nat → Int32) → (Nat → Int32) → (Nat → Int32) → (Nat → Int32) → (Nat → Int32) → (Nat → Int32) → (Nat → Int32) → (Nat → Int32) → (Nat → Int32) → (Nat → Int32) → (Nat → Int32) → (Nat → Int32) → (Nat → Int32) → (Nat → Int32) → (Nat → Int32) → Prop) (d t : Nat) (us x9 : Int32), d < n →
    (∀ bl, (∀ y, y < n → (bt bl y = false ↔ (bt us y = false ∧ Fx d y))) → wX_match_128 post J (nI a) (nI b) x3 x4 (nI n) (nI d) us (nI t) x9 bl f_atomLimit f_ringLimit f_slotCount f_readState f_currentAtom f_pendingOrder f_branchDepth f_writtenLength f_writtenAtoms f_writtenCount f_bestClosed f_draftLength a_count a_kinds a_bonds a_branches a_ringAtom a_ringOrder a_line a_listing a_draft a_near a_place a_parent a_closed a_left a_pairDigit a_image a_signature a_nextSignature) → wX_match_96 post J (nI a) (nI b) x3 x4 (nI n) (nI d) us (nI t) x9 f_atomLimit f_ringLimit f_slotCount f_readState f_currentAtom f_pendingOrder f_branchDepth f_writtenLength f_writtenAtoms f_writtenCount f_bestClosed f_draftLength a_count a_kinds a_bonds a_branches a_ringAtom a_ringOrder a_line a_listing a_draft a_near a_place a_parent a_closed a_left a_pairDigit a_image a_signature a_nextSignature
theorem zBlk_none (post : Int32 → SX → Prop) (a b n : Nat) (x4 : Int32) : zBlk post (fun _ _ => True) a b n (-1) x4 := by
  intro f_atomLimit f_ringLimit f_slotCount f_readState f_currentAtom f_pendingOrder f_branchDepth f_writtenLength f_writtenAtoms f_writtenCount f_bestClosed f_draftLength a_count a_kinds a_bonds a_branches a_ringAtom a_ringOrder a_line a_listing a_draft a_near a_place a_parent a_closed a_left a_pairDigit a_image a_signature a_nextSignature J d t us x9 hd h
  exact br_t (by decide) (h us (fun y _ => ⟨fun z => ⟨z, trivial⟩, fun z => z.1⟩))
theorem zBlk_fix (post : Int32 → SX → Prop) (a b n fi tg : Nat) (hn : n ≤ 8) (hf : fi < n) (ht : tg < n) : zBlk post (fun d y => d = fi ↔ y = tg) a b n (nI fi) (nI tg) := by
  intro f_atomLimit f_ringLimit f_slotCount f_readState f_currentAtom f_pendingOrder f_branchDepth f_writtenLength f_writtenAtoms f_writtenCount f_bestClosed f_draftLength a_count a_kinds a_bonds a_branches a_ringAtom a_ringOrder a_line a_listing a_draft a_near a_place a_parent a_closed a_left a_pairDigit a_image a_signature a_nextSignature J d t us x9 hd h
  refine br_f (nI_pos (by omega)) ?_
  by_cases c : d = fi
  · refine br_t (by rw [c]) (nm_e (h _ (fun y hy => ?_)))
    rw [b_or, zbnot (by omega), zbsh tg (by omega) y (by omega), Bool.or_eq_false_iff, Bool.not_eq_false', decide_eq_true_iff]
    exact ⟨fun z => ⟨z.1, fun _ => z.2, fun _ => c⟩, fun z => ⟨z.1, z.2.mp c⟩⟩
  · refine br_f (fun z => c ((nI_eq (by omega) (by omega)).mp z)) (nm_e (h _ (fun y hy => ?_)))
    rw [b_or, zbsh tg (by omega) y (by omega), Bool.or_eq_false_iff, decide_eq_false_iff_not]
    exact ⟨fun z => ⟨z.1, fun q => absurd q c, fun q => absurd q z.2⟩, fun z => ⟨z.1, fun q => c (z.2.mpr q)⟩⟩
def zNoS (n : Nat) (Fx : Nat → Nat → Prop) (k s o : Nat → Int32) (a b d : Nat) (p : Nat → Nat) (f : Nat) : Prop := ¬ ∃ q, zSol n Fx k s o a b q ∧ (∀ x, x < d → q x = p x) ∧ f ≤ q d
def zNoP (n : Nat) (Fx : Nat → Nat → Prop) (k s o : Nat → Int32) (a b d : Nat) (p : Nat → Nat) : Prop := ¬ ∃ q, zSol n Fx k s o a b q ∧ ∀ x, x < d → q x = p x
/-- the head of the search at depth d, the next candidate f -/
def zHd (n d : Nat) (p : Nat → Nat) (f : Nat) (us x9 : Int32) : Prop := (x9 = -1 ∧ f = 0 ∧ zUs n p d us) ∨ (∃ g, f = g + 1 ∧ g < n ∧ x9 = nI g ∧ zu p g d = false ∧ zUs n (zup p d g) (d + 1) us)
section
variable {f_atomLimit f_ringLimit f_slotCount f_readState f_currentAtom f_pendingOrder f_branchDepth f_writtenLength f_writtenAtoms f_writtenCount f_bestClosed f_draftLength : Int32} {a_count a_kinds a_bonds a_branches a_ringAtom a_ringOrder a_line a_listing a_draft a_near a_place a_parent a_closed a_left a_pairDigit a_image a_signature a_nextSignature : Nat → Int32}
theorem zx_dstep {post : Int32 → SX → Prop} {x3 x4 : Int32} {a b n d m : Nat} {Fx : Nat → Nat → Prop} {p : Nat → Nat} (ha : a < 4) (hb : b < 4) (hn : n ≤ 8) (hcb : a_count b = nI n) (hd : d + m + 1 = n) (hblk : zBlk post Fx a b n x3 x4)
    (hI : zI n d p) (hP : zPre Fx a_kinds a_signature a_bonds a b d p)
    (sub : ∀ p' t F img us, zI n (d + 1) p' → zPre Fx a_kinds a_signature a_bonds a b (d + 1) p' → F + t = 250002 → t + zMT m ≤ 250000 → (∀ w, w < d + 1 → img w = nI (p' w)) → (d + 1 < n → img (d + 1) = -1) → zUs n p' (d + 1) us →
      (zNoP n Fx a_kinds a_signature a_bonds a b (d + 1) p' → ∀ t' F' img' us', F' + t' = 250002 → t' ≤ t + zMT m → (∀ w, w < d + 1 → img' w = nI (p' w)) → zUs n p' (d + 1) us' → wX_match_52 post (nI a) (nI b) x3 x4 (nI n) f_atomLimit f_ringLimit f_slotCount f_readState f_currentAtom f_pendingOrder f_branchDepth f_writtenLength f_writtenAtoms f_writtenCount f_bestClosed f_draftLength F' (nI d) us' (nI t') a_count a_kinds a_bonds a_branches a_ringAtom a_ringOrder a_line a_listing a_draft a_near a_place a_parent a_closed a_left a_pairDigit img' a_signature a_nextSignature) →
      wX_match_52 post (nI a) (nI b) x3 x4 (nI n) f_atomLimit f_ringLimit f_slotCount f_readState f_currentAtom f_pendingOrder f_branchDepth f_writtenLength f_writtenAtoms f_writtenCount f_bestClosed f_draftLength F (nI (d + 1)) us (nI t) a_count a_kinds a_bonds a_branches a_ringAtom a_ringOrder a_line a_listing a_draft a_near a_place a_parent a_closed a_left a_pairDigit img a_signature a_nextSignature) :
    ∀ c f, n - f ≤ c → f ≤ n → ∀ t F img us x9, F + t = 250002 → t + 1 + zfc p d n f * (1 + zMT m) ≤ 250000 → (∀ w, w < d → img w = nI (p w)) → img d = x9 →
      zHd n d p f us x9 →
      (zNoS n Fx a_kinds a_signature a_bonds a b d p f → ∀ t' F' img' us', F' + t' = 250002 → t' ≤ t + 1 + zfc p d n f * (1 + zMT m) → (∀ w, w < d → img' w = nI (p w)) → zUs n p d us' → wX_match_52 post (nI a) (nI b) x3 x4 (nI n) f_atomLimit f_ringLimit f_slotCount f_readState f_currentAtom f_pendingOrder f_branchDepth f_writtenLength f_writtenAtoms f_writtenCount f_bestClosed f_draftLength F' (nI d + (-1)) us' (nI t') a_count a_kinds a_bonds a_branches a_ringAtom a_ringOrder a_line a_listing a_draft a_near a_place a_parent a_closed a_left a_pairDigit img' a_signature a_nextSignature) →
      wX_match_52 post (nI a) (nI b) x3 x4 (nI n) f_atomLimit f_ringLimit f_slotCount f_readState f_currentAtom f_pendingOrder f_branchDepth f_writtenLength f_writtenAtoms f_writtenCount f_bestClosed f_draftLength F (nI d) us (nI t) a_count a_kinds a_bonds a_branches a_ringAtom a_ringOrder a_line a_listing a_draft a_near a_place a_parent a_closed a_left a_pairDigit img a_signature a_nextSignature := by
  intro c
  induction c with
  | zero =>
    intro f hc hf t F img us x9 hF ht hi h9 hu fail
    obtain ⟨F, rfl⟩ : ∃ F', F = F' + 1 := ⟨F - 1, by omega⟩
    have core : ∀ us', zUs n p d us' → x9 + 1 = nI f → wX_match_96 post (wX_match_52 post (nI a) (nI b) x3 x4 (nI n) f_atomLimit f_ringLimit f_slotCount f_readState f_currentAtom f_pendingOrder f_branchDepth f_writtenLength f_writtenAtoms f_writtenCount f_bestClosed f_draftLength F) (nI a) (nI b) x3 x4 (nI n) (nI d) us' (nI t) x9 f_atomLimit f_ringLimit f_slotCount f_readState f_currentAtom f_pendingOrder f_branchDepth f_writtenLength f_writtenAtoms f_writtenCount f_bestClosed f_draftLength a_count a_kinds a_bonds a_branches a_ringAtom a_ringOrder a_line a_listing a_draft a_near a_place a_parent a_closed a_left a_pairDigit img a_signature a_nextSignature := by
      intro us' hus' e9
      refine hblk _ _ _ _ _ _ _ _ _ _ _ _ _ _ _ _ _ _ _ _ _ _ _ _ _ _ _ _ _ _ _ d t us' x9 (by omega) (fun bl hbl => ?_)
      refine zx_ms128 (p := p) (f := f) (Ok := fun y => zu p y d = false ∧ Fx d y ∧ zFt a_kinds a_signature a_bonds a b p d y) ha hb hn hcb (by omega) hf (by omega) (fun w hw => ⟨hi w hw, by have := hI.1 w hw; omega⟩) (fun y hy => ?_) (fun none => ?_) (fun y y1 y2 => by omega) x9 e9
      · rw [hbl y hy, hus' y hy]
        exact ⟨fun z => ⟨⟨z.1, z.2.1⟩, z.2.2⟩, fun z => ⟨z.1.1, z.1.2, z.2⟩⟩
      · refine fail (fun ⟨q, q1, q2, q3⟩ => ?_) (t + 1) F _ us' (by omega) (by omega) (fun w hw => by rw [pk_un (by omega)]; exact hi w hw) hus'
        have := q1.1.1 d (by omega)
        omega
    rcases hu with ⟨u1, u2, u3⟩ | ⟨g, g1, g2, g3, g4, g5⟩
    · refine br_f (nI_ge (b := 250000) (by omega) (by decide)) (br_f (nI_pos (by omega)) (br_f (nI_ge (by omega) (by omega)) ⟨zin (by omega) (by decide), ?_⟩))
      rw [zcl (show d < 1000000 by omega), h9]
      refine nm_e (br_t (by rw [u1]; decide) (core us u3 (by rw [u1, u2]; decide)))
    · refine br_f (nI_ge (b := 250000) (by omega) (by decide)) (br_f (nI_pos (by omega)) (br_f (nI_ge (by omega) (by omega)) ⟨zin (by omega) (by decide), ?_⟩))
      rw [zcl (show d < 1000000 by omega), h9]
      have hus' : zUs n p d (us &&& (((1 : Int32) <<< (nI g &&& 31)) ^^^ (-1))) := by
        have q := zUs_sub hn (zI_up hI g2 g4) g5
        rw [zup_s] at q
        intro y hy
        rw [q y hy]
        exact zu_congr (fun x hx => zup_n (by omega)) y
      refine nm_e (br_f (by rw [g3]; exact nI_pos (by omega)) (nm_r (e' := us &&& (((1 : Int32) <<< (nI g &&& 31)) ^^^ (-1))) (by rw [g3]) (core _ hus' (by rw [g3, g1, nI_1]))))
  | succ c ih =>
    intro f hc hf t F img us x9 hF ht hi h9 hu fail
    obtain ⟨F, rfl⟩ : ∃ F', F = F' + 1 := ⟨F - 1, by omega⟩
    have core : ∀ us', zUs n p d us' → x9 + 1 = nI f → wX_match_96 post (wX_match_52 post (nI a) (nI b) x3 x4 (nI n) f_atomLimit f_ringLimit f_slotCount f_readState f_currentAtom f_pendingOrder f_branchDepth f_writtenLength f_writtenAtoms f_writtenCount f_bestClosed f_draftLength F) (nI a) (nI b) x3 x4 (nI n) (nI d) us' (nI t) x9 f_atomLimit f_ringLimit f_slotCount f_readState f_currentAtom f_pendingOrder f_branchDepth f_writtenLength f_writtenAtoms f_writtenCount f_bestClosed f_draftLength a_count a_kinds a_bonds a_branches a_ringAtom a_ringOrder a_line a_listing a_draft a_near a_place a_parent a_closed a_left a_pairDigit img a_signature a_nextSignature := by
      intro us' hus' e9
      refine hblk _ _ _ _ _ _ _ _ _ _ _ _ _ _ _ _ _ _ _ _ _ _ _ _ _ _ _ _ _ _ _ d t us' x9 (by omega) (fun bl hbl => ?_)
      refine zx_ms128 (p := p) (f := f) (Ok := fun y => zu p y d = false ∧ Fx d y ∧ zFt a_kinds a_signature a_bonds a b p d y) ha hb hn hcb (by omega) hf (by omega) (fun w hw => ⟨hi w hw, by have := hI.1 w hw; omega⟩) (fun y hy => ?_) (fun none => ?_) (fun y y1 y2 ok no g gw gd gn => ?_) x9 e9
      · rw [hbl y hy, hus' y hy]
        exact ⟨fun z => ⟨⟨z.1, z.2.1⟩, z.2.2⟩, fun z => ⟨z.1.1, z.1.2, z.2⟩⟩
      · refine fail (fun ⟨q, q1, q2, q3⟩ => ?_) (t + 1) F _ us' (by omega) (by omega) (fun w hw => by rw [pk_un (by omega)]; exact hi w hw) hus'
        refine none (q d) q3 (q1.1.1 d (by omega)) ⟨zu_f.mpr (fun j hj e => ?_), (q1.2 d (by omega)).1, zFt_congr q2 (q1.2 d (by omega)).2⟩
        have := q1.1.2 j d (by omega) (by omega) (by rw [q2 j hj, e])
        omega
      · have anti := zfc_anti y1 y2 ok.1
        have hmul : zfc p d n (y + 1) * (1 + zMT m) + (1 + zMT m) ≤ zfc p d n f * (1 + zMT m) := by
          have := Nat.mul_le_mul_right (1 + zMT m) anti
          rw [Nat.add_mul, Nat.one_mul] at this
          exact this
        have gimg : ∀ w, w < d + 1 → g w = nI (zup p d y w) := fun w hw => by
          by_cases e : w = d
          · rw [e, zup_s]; exact gd
          · rw [zup_n e, gw w (by omega)]; exact hi w (by omega)
        refine sub (zup p d y) (t + 1) F g _ (zI_up hI y2 ok.1) (zPre_up hP ok.2.1 ok.2.2) (by omega) (by omega) gimg gn (zUs_add hn hus' (by omega)) ?_
        intro nosol t' F' img' us'' hF' ht' hi' hu'
        refine ih (y + 1) (by omega) (by omega) t' F' img' us'' (nI y) hF' (by omega) (fun w hw => by rw [hi' w (by omega), zup_n (by omega)]) (by rw [hi' d (by omega), zup_s]) (Or.inr ⟨y, rfl, y2, rfl, ok.1, hu'⟩) ?_
        intro nos t2 F2 img2 us2 hF2 ht2 hi2 hu2
        refine fail (fun ⟨q, q1, q2, q3⟩ => ?_) t2 F2 img2 us2 hF2 (by omega) hi2 hu2
        have okq : zu p (q d) d = false ∧ Fx d (q d) ∧ zFt a_kinds a_signature a_bonds a b p d (q d) := by
          refine ⟨zu_f.mpr (fun j hj e => ?_), (q1.2 d (by omega)).1, zFt_congr q2 (q1.2 d (by omega)).2⟩
          have := q1.1.2 j d (by omega) (by omega) (by rw [q2 j hj, e])
          omega
        rcases Nat.lt_trichotomy (q d) y with l | l | l
        · exact no (q d) q3 l okq
        · refine nosol ⟨q, q1, fun x hx => ?_⟩
          by_cases e : x = d
          · rw [e, zup_s]; exact l
          · rw [zup_n e]; exact q2 x (by omega)
        · exact nos ⟨q, q1, q2, by omega⟩
    rcases hu with ⟨u1, u2, u3⟩ | ⟨g, g1, g2, g3, g4, g5⟩
    · refine br_f (nI_ge (b := 250000) (by omega) (by decide)) (br_f (nI_pos (by omega)) (br_f (nI_ge (by omega) (by omega)) ⟨zin (by omega) (by decide), ?_⟩))
      rw [zcl (show d < 1000000 by omega), h9]
      refine nm_e (br_t (by rw [u1]; decide) (core us u3 (by rw [u1, u2]; decide)))
    · refine br_f (nI_ge (b := 250000) (by omega) (by decide)) (br_f (nI_pos (by omega)) (br_f (nI_ge (by omega) (by omega)) ⟨zin (by omega) (by decide), ?_⟩))
      rw [zcl (show d < 1000000 by omega), h9]
      have hus' : zUs n p d (us &&& (((1 : Int32) <<< (nI g &&& 31)) ^^^ (-1))) := by
        have q := zUs_sub hn (zI_up hI g2 g4) g5
        rw [zup_s] at q
        intro y hy
        rw [q y hy]
        exact zu_congr (fun x hx => zup_n (by omega)) y
      refine nm_e (br_f (by rw [g3]; exact nI_pos (by omega)) (nm_r (e' := us &&& (((1 : Int32) <<< (nI g &&& 31)) ^^^ (-1))) (by rw [g3]) (core _ hus' (by rw [g3, g1, nI_1]))))
theorem zx_dfs {post : Int32 → SX → Prop} {x3 x4 : Int32} {a b n : Nat} {Fx : Nat → Nat → Prop} (ha : a < 4) (hb : b < 4) (hn : n ≤ 8) (hcb : a_count b = nI n) (hblk : zBlk post Fx a b n x3 x4)
    (hT : (∃ q, zSol n Fx a_kinds a_signature a_bonds a b q) → ∀ img, post 1 (f_atomLimit, f_ringLimit, f_slotCount, f_readState, f_currentAtom, f_pendingOrder, f_branchDepth, f_writtenLength, f_writtenAtoms, f_writtenCount, f_bestClosed, f_draftLength, a_count, a_kinds, a_bonds, a_branches, a_ringAtom, a_ringOrder, a_line, a_listing, a_draft, a_near, a_place, a_parent, a_closed, a_left, a_pairDigit, img, a_signature, a_nextSignature)) :
    ∀ m d, d + m + 1 = n → ∀ p, zI n d p → zPre Fx a_kinds a_signature a_bonds a b d p → ∀ f, f ≤ n → ∀ t F img us x9, F + t = 250002 → t + 1 + zfc p d n f * (1 + zMT m) ≤ 250000 → (∀ w, w < d → img w = nI (p w)) → img d = x9 → zHd n d p f us x9 →
      (zNoS n Fx a_kinds a_signature a_bonds a b d p f → ∀ t' F' img' us', F' + t' = 250002 → t' ≤ t + 1 + zfc p d n f * (1 + zMT m) → (∀ w, w < d → img' w = nI (p w)) → zUs n p d us' → wX_match_52 post (nI a) (nI b) x3 x4 (nI n) f_atomLimit f_ringLimit f_slotCount f_readState f_currentAtom f_pendingOrder f_branchDepth f_writtenLength f_writtenAtoms f_writtenCount f_bestClosed f_draftLength F' (nI d + (-1)) us' (nI t') a_count a_kinds a_bonds a_branches a_ringAtom a_ringOrder a_line a_listing a_draft a_near a_place a_parent a_closed a_left a_pairDigit img' a_signature a_nextSignature) →
      wX_match_52 post (nI a) (nI b) x3 x4 (nI n) f_atomLimit f_ringLimit f_slotCount f_readState f_currentAtom f_pendingOrder f_branchDepth f_writtenLength f_writtenAtoms f_writtenCount f_bestClosed f_draftLength F (nI d) us (nI t) a_count a_kinds a_bonds a_branches a_ringAtom a_ringOrder a_line a_listing a_draft a_near a_place a_parent a_closed a_left a_pairDigit img a_signature a_nextSignature := by
  intro m
  induction m with
  | zero =>
    intro d hd p hI hP f hf t F img us x9 hF ht hi h9 hu fail
    refine zx_dstep (m := 0) ha hb hn hcb hd hblk hI hP (fun p' t F img us i1 i2 i3 i4 i5 i6 i7 i8 => ?_) (n - f) f (Nat.le_refl _) hf t F img us x9 hF ht hi h9 hu fail
    obtain ⟨F, rfl⟩ : ∃ F', F = F' + 1 := ⟨F - 1, by omega⟩
    have e : d + 1 = n := by omega
    have fin : wX_match_207 post (nI n) (nI (d + 1)) f_atomLimit f_ringLimit f_slotCount f_readState f_currentAtom f_pendingOrder f_branchDepth f_writtenLength f_writtenAtoms f_writtenCount f_bestClosed f_draftLength a_count a_kinds a_bonds a_branches a_ringAtom a_ringOrder a_line a_listing a_draft a_near a_place a_parent a_closed a_left a_pairDigit img a_signature a_nextSignature := by
      rw [e] at i1 i2 ⊢
      exact br_t rfl (hT ⟨p', i1, i2⟩ img)
    exact br_c (fun _ => fin) (fun _ => br_f (nI_pos (by omega)) (br_t (nI_le (by omega) (by omega)) fin))
  | succ m ih =>
    intro d hd p hI hP f hf t F img us x9 hF ht hi h9 hu fail
    refine zx_dstep ha hb hn hcb hd hblk hI hP (fun p' t F img us i1 i2 i3 i4 i5 i6 i7 i8 => ?_) (n - f) f (Nat.le_refl _) hf t F img us x9 hF ht hi h9 hu fail
    have all := zfc_all (d + 1) i1 (by omega)
    have ez : zfc p' (d + 1) n 0 = m + 1 := by omega
    have eM : zMT (m + 1) = 1 + (m + 1) * (1 + zMT m) := rfl
    refine ih (d + 1) (by omega) p' i1 i2 0 (Nat.zero_le _) t F img us (-1) i3 (by rw [ez]; omega) i5 (i6 (by omega)) (Or.inl ⟨rfl, rfl, i7⟩) ?_
    intro nos t' F' img' us' hF' ht' hi' hu'
    rw [pk_m1]
    exact i8 (fun ⟨q, q1, q2⟩ => nos ⟨q, q1, q2, Nat.zero_le _⟩) t' F' img' us' hF' (by rw [ez] at ht'; omega) hi' hu'
theorem zx_m36 {post : Int32 → SX → Prop} {x3 x4 : Int32} {a b n : Nat} {Fx : Nat → Nat → Prop} (ha : a < 4) (hb : b < 4) (hn : n ≤ 8) (hn1 : 1 ≤ n) (hcb : a_count b = nI n) (hblk : zBlk post Fx a b n x3 x4)
    (hT : (∃ q, zSol n Fx a_kinds a_signature a_bonds a b q) → ∀ img, post 1 (f_atomLimit, f_ringLimit, f_slotCount, f_readState, f_currentAtom, f_pendingOrder, f_branchDepth, f_writtenLength, f_writtenAtoms, f_writtenCount, f_bestClosed, f_draftLength, a_count, a_kinds, a_bonds, a_branches, a_ringAtom, a_ringOrder, a_line, a_listing, a_draft, a_near, a_place, a_parent, a_closed, a_left, a_pairDigit, img, a_signature, a_nextSignature)) (hF : (¬ ∃ q, zSol n Fx a_kinds a_signature a_bonds a b q) → ∀ img, post 0 (f_atomLimit, f_ringLimit, f_slotCount, f_readState, f_currentAtom, f_pendingOrder, f_branchDepth, f_writtenLength, f_writtenAtoms, f_writtenCount, f_bestClosed, f_draftLength, a_count, a_kinds, a_bonds, a_branches, a_ringAtom, a_ringOrder, a_line, a_listing, a_draft, a_near, a_place, a_parent, a_closed, a_left, a_pairDigit, img, a_signature, a_nextSignature)) : wX_match_36 post (nI a) (nI b) x3 x4 (nI n) f_atomLimit f_ringLimit f_slotCount f_readState f_currentAtom f_pendingOrder f_branchDepth f_writtenLength f_writtenAtoms f_writtenCount f_bestClosed f_draftLength a_count a_kinds a_bonds a_branches a_ringAtom a_ringOrder a_line a_listing a_draft a_near a_place a_parent a_closed a_left a_pairDigit a_image a_signature a_nextSignature := by
  refine nm_e ⟨250002, ?_⟩
  have I0 : zI n 0 (fun x => x) := ⟨fun i hi => by omega, fun i j hi => by omega⟩
  have all := zfc_all 0 I0 (by omega)
  have ez : zfc (fun x => x) 0 n 0 = n := by omega
  have eM : zMT (n - 1 + 1) = 1 + (n - 1 + 1) * (1 + zMT (n - 1)) := rfl
  have en : n - 1 + 1 = n := by omega
  rw [en] at eM
  have h8 := zMT_8 hn
  refine zx_dfs ha hb hn hcb hblk hT (n - 1) 0 (by omega) (fun x => x) I0 (fun x hx => by omega) 0 (Nat.zero_le _) 0 250002 _ 0 (-1) (by omega) (by rw [ez]; omega) (fun w hw => by omega) pk_us (Or.inl ⟨rfl, rfl, fun y hy => b_0 y⟩) ?_
  intro nos t' F' img' us' hF' ht' hi' hu'
  rw [ez] at ht'
  obtain ⟨F', rfl⟩ : ∃ F2, F' = F2 + 1 := ⟨F' - 1, by omega⟩
  have fin : wX_match_207 post (nI n) (nI 0 + (-1)) f_atomLimit f_ringLimit f_slotCount f_readState f_currentAtom f_pendingOrder f_branchDepth f_writtenLength f_writtenAtoms f_writtenCount f_bestClosed f_draftLength a_count a_kinds a_bonds a_branches a_ringAtom a_ringOrder a_line a_listing a_draft a_near a_place a_parent a_closed a_left a_pairDigit img' a_signature a_nextSignature := by
    refine br_f (fun z => zm1n n (by omega) ?_) (hF (fun ⟨q, q1⟩ => nos ⟨q, q1, fun x hx => by omega, Nat.zero_le _⟩) img')
    rw [← z]; decide
  exact br_c (fun _ => fin) (fun _ => br_t (by decide) fin)
end
end
section
/-! ===== match, same, orbit ===== -/
theorem zMo_of {a : Nat → Int32} {m n : Nat} (hb : zBd a) (hM : zMol n (zbm a m)) : zMo n (fun i j => a (m * 64 + i * 8 + j)) := by
  have n8 := hM.1
  refine ⟨fun i j hi hj => ?_, fun i hi => (zBd_z hb _).mpr (hM.2.2.1 i (by omega)), fun i j hi h1 h2 => (zBd_z hb _).mpr (hM.2.2.2.1 i j (by omega) h2 h1)⟩
  show a (m * 64 + i * 8 + j) = a (m * 64 + j * 8 + i)
  rw [(hb _).1, (hb (m * 64 + j * 8 + i)).1]
  exact congrArg nI (hM.2.1 i j (by omega) (by omega))
/-- q maps block a onto block b -/
def zIso (n : Nat) (k o : Nat → Int32) (a b : Nat) (q : Nat → Nat) : Prop := zMap n (fun i => k (a * 8 + i)) (fun i => k (b * 8 + i)) (fun i j => o (a * 64 + i * 8 + j)) (fun i j => o (b * 64 + i * 8 + j)) q
theorem zIso_congr {n : Nat} {k k' o : Nat → Int32} {a b : Nat} {p q : Nat → Nat} (hp : zP n p) (e : ∀ x, x < n → p x = q x) (ka : ∀ i, i < n → k (a * 8 + i) = k' (a * 8 + i)) (kb : ∀ i, i < n → k (b * 8 + i) = k' (b * 8 + i)) (h : zIso n k o a b p) : zIso n k' o a b q := by
  intro x hx
  obtain ⟨h1, h2⟩ := h x hx
  have hpx := hp.1 x hx
  refine ⟨?_, fun y hy => ?_⟩
  · show k' (a * 8 + x) = k' (b * 8 + q x)
    rw [← ka x hx, ← e x hx, ← kb (p x) hpx]; exact h1
  · show o (a * 64 + x * 8 + y) = o (b * 64 + q x * 8 + q y)
    rw [← e x hx, ← e y (by omega)]; exact h2 y hy
theorem zSol_iff {n : Nat} {Fx : Nat → Nat → Prop} {k s o : Nat → Int32} {a b : Nat} (hn : n ≤ 8) (ho : zBd o) (hA : zMol n (zbm o a)) (hB : zMol n (zbm o b))
    (ha : ∀ i, i < n → s (a * 8 + i) = zsig n (fun i => k (a * 8 + i)) (fun i j => o (a * 64 + i * 8 + j)) 4 i) (hb : ∀ i, i < n → s (b * 8 + i) = zsig n (fun i => k (b * 8 + i)) (fun i j => o (b * 64 + i * 8 + j)) 4 i) (q : Nat → Nat) :
    zSol n Fx k s o a b q ↔ (zP n q ∧ (∀ x, x < n → Fx x (q x)) ∧ zIso n k o a b q) := by
  constructor
  · rintro ⟨h1, h2⟩
    exact ⟨h1, fun x hx => (h2 x hx).1, fun x hx => ⟨(h2 x hx).2.1, (h2 x hx).2.2.2⟩⟩
  · rintro ⟨h1, h2, h3⟩
    refine ⟨h1, fun x hx => ⟨h2 x hx, (h3 x hx).1, ?_, (h3 x hx).2⟩⟩
    rw [ha x hx, hb (q x) (h1.1 x hx)]
    exact zsig_iso hn h1 (zMo_of ho hA) (zMo_of ho hB) h3 4 x hx
section
variable {f_atomLimit f_ringLimit f_slotCount f_readState f_currentAtom f_pendingOrder f_branchDepth f_writtenLength f_writtenAtoms f_writtenCount f_bestClosed f_draftLength : Int32} {a_count a_kinds a_bonds a_branches a_ringAtom a_ringOrder a_line a_listing a_draft a_near a_place a_parent a_closed a_left a_pairDigit a_image a_signature a_nextSignature : Nat → Int32}
theorem zx_match {post : Int32 → SX → Prop} {x3 x4 : Int32} {a b n : Nat} {Fx : Nat → Nat → Prop} (ha : a < 4) (hb : b < 4) (hn : n ≤ 8) (hn1 : 1 ≤ n) (hca : a_count a = nI n) (hcb : a_count b = nI n) (hblk : zBlk post Fx a b n x3 x4)
    (ho : zBd a_bonds) (hA : zMol n (zbm a_bonds a)) (hB : zMol n (zbm a_bonds b))
    (hT : (∃ q, zP n q ∧ (∀ x, x < n → Fx x (q x)) ∧ zIso n a_kinds a_bonds a b q) → ∀ img s w, post 1 (f_atomLimit, f_ringLimit, f_slotCount, f_readState, f_currentAtom, f_pendingOrder, f_branchDepth, f_writtenLength, f_writtenAtoms, f_writtenCount, f_bestClosed, f_draftLength, a_count, a_kinds, a_bonds, a_branches, a_ringAtom, a_ringOrder, a_line, a_listing, a_draft, a_near, a_place, a_parent, a_closed, a_left, a_pairDigit, img, s, w))
    (hF : (¬ ∃ q, zP n q ∧ (∀ x, x < n → Fx x (q x)) ∧ zIso n a_kinds a_bonds a b q) → ∀ img s w, post 0 (f_atomLimit, f_ringLimit, f_slotCount, f_readState, f_currentAtom, f_pendingOrder, f_branchDepth, f_writtenLength, f_writtenAtoms, f_writtenCount, f_bestClosed, f_draftLength, a_count, a_kinds, a_bonds, a_branches, a_ringAtom, a_ringOrder, a_line, a_listing, a_draft, a_near, a_place, a_parent, a_closed, a_left, a_pairDigit, img, s, w)) : wpX_match post (f_atomLimit, f_ringLimit, f_slotCount, f_readState, f_currentAtom, f_pendingOrder, f_branchDepth, f_writtenLength, f_writtenAtoms, f_writtenCount, f_bestClosed, f_draftLength, a_count, a_kinds, a_bonds, a_branches, a_ringAtom, a_ringOrder, a_line, a_listing, a_draft, a_near, a_place, a_parent, a_closed, a_left, a_pairDigit, a_image, a_signature, a_nextSignature) (nI a) (nI b) x3 x4 := by
  unfold wpX_match
  dsimp only
  rw [zcl (show a < 1000000 by omega), zcl (show b < 1000000 by omega), hca, hcb]
  have go : ∀ s w, (∀ i, i < n → s (a * 8 + i) = zsig n (fun i => a_kinds (a * 8 + i)) (fun i j => a_bonds (a * 64 + i * 8 + j)) 4 i) → (∀ i, i < n → s (b * 8 + i) = zsig n (fun i => a_kinds (b * 8 + i)) (fun i j => a_bonds (b * 64 + i * 8 + j)) 4 i) → wX_match_36 post (nI a) (nI b) x3 x4 (nI n) f_atomLimit f_ringLimit f_slotCount f_readState f_currentAtom f_pendingOrder f_branchDepth f_writtenLength f_writtenAtoms f_writtenCount f_bestClosed f_draftLength a_count a_kinds a_bonds a_branches a_ringAtom a_ringOrder a_line a_listing a_draft a_near a_place a_parent a_closed a_left a_pairDigit a_image s w := by
    intro s w h1 h2
    refine zx_m36 ha hb hn hn1 hcb hblk (fun ⟨q, hq⟩ img => hT ⟨q, (zSol_iff hn ho hA hB h1 h2 q).mp hq⟩ img s w) (fun hq img => hF (fun ⟨q, z⟩ => hq ⟨q, (zSol_iff hn ho hA hB h1 h2 q).mpr z⟩) img s w)
  refine ⟨zin ha (by decide), nm_e ⟨zin hb (by decide), br_t rfl (zx_sign ha hn hca (fun s w h => ?_))⟩⟩
  by_cases e : a = b
  · subst e
    exact br_t rfl (go s w h.1 h.1)
  · refine br_f (fun z => e ((nI_eq (by omega) (by omega)).mp z)) (zx_sign hb hn hcb (fun s' w' h' => go s' w' (fun i hi => ?_) h'.1))
    rw [h'.2 _ (by omega)]; exact h.1 i hi
theorem zx_match0 {post : Int32 → SX → Prop} {x3 x4 : Int32} {a b n n' : Nat} (ha : a < 4) (hb : b < 4) (hn : n ≤ 8) (hn' : n' ≤ 8) (hca : a_count a = nI n) (hcb : a_count b = nI n') (hne : n ≠ n') (h : post 0 (f_atomLimit, f_ringLimit, f_slotCount, f_readState, f_currentAtom, f_pendingOrder, f_branchDepth, f_writtenLength, f_writtenAtoms, f_writtenCount, f_bestClosed, f_draftLength, a_count, a_kinds, a_bonds, a_branches, a_ringAtom, a_ringOrder, a_line, a_listing, a_draft, a_near, a_place, a_parent, a_closed, a_left, a_pairDigit, a_image, a_signature, a_nextSignature)) : wpX_match post (f_atomLimit, f_ringLimit, f_slotCount, f_readState, f_currentAtom, f_pendingOrder, f_branchDepth, f_writtenLength, f_writtenAtoms, f_writtenCount, f_bestClosed, f_draftLength, a_count, a_kinds, a_bonds, a_branches, a_ringAtom, a_ringOrder, a_line, a_listing, a_draft, a_near, a_place, a_parent, a_closed, a_left, a_pairDigit, a_image, a_signature, a_nextSignature) (nI a) (nI b) x3 x4 := by
  unfold wpX_match
  dsimp only
  rw [zcl (show a < 1000000 by omega), zcl (show b < 1000000 by omega), hca, hcb]
  exact ⟨zin ha (by decide), nm_e ⟨zin hb (by decide), br_f (fun z => hne ((nI_eq (by omega) (by omega)).mp z).symm) h⟩⟩
end
theorem zP_id (n : Nat) : zP n (fun x => x) := ⟨fun _ h => h, fun _ _ _ _ h => h⟩
theorem zAsc_id (n : Nat) : zAsc n 0 (fun x => x) := fun x _ _ => Nat.lt_succ_self x
theorem zI_0 (n : Nat) (p : Nat → Nat) : zI n 0 p := ⟨fun i hi => by omega, fun i j hi => by omega⟩
/-- an arrangement cut at n -/
def zcut (n : Nat) (p : Nat → Nat) : Nat → Nat := fun x => if x < n then p x else 0
theorem zcut_e {n : Nat} {p : Nat → Nat} {x : Nat} (h : x < n) : zcut n p x = p x := if_pos h
theorem zcut_eq {n : Nat} {p q : Nat → Nat} (e : ∀ x, x < n → p x = q x) : zcut n p = zcut n q := by
  funext x
  unfold zcut
  by_cases c : x < n
  · rw [if_pos c, if_pos c, e x c]
  · rw [if_neg c, if_neg c]
theorem zcut_P {n : Nat} {p : Nat → Nat} (h : zP n p) : zP n (zcut n p) := ⟨fun i hi => by rw [zcut_e hi]; exact h.1 i hi, fun i j hi hj e => by rw [zcut_e hi, zcut_e hj] at e; exact h.2 i j hi hj e⟩
theorem zcut_V {n : Nat} {p : Nat → Nat} {a : Nat → Int32} (h : zV n p a) : zV n (zcut n p) a := fun x hx => by rw [zcut_e hx]; exact h x hx
theorem zDsc_no {n : Nat} {p q : Nat → Nat} (h : zDsc n 0 p) : ¬ zNx n p q := fun ⟨k, k1, k2, _⟩ => by have := h k (Nat.zero_le _) k1; omega
theorem zDsc_no2 {n : Nat} {p : Nat → Nat} (h : zDsc n 0 p) : ¬ ∃ x, x + 1 < n ∧ p x < p (x + 1) := fun ⟨k, k1, k2⟩ => by have := h k (Nat.zero_le _) k1; omega
noncomputable def zgS (n : Nat) (k o : Nat → Int32) (a b : Nat) (p : Nat → Nat) (s : Nat) : Nat := if s = 1 then 1 else zb (zIso n k o a b (zcut n p))
theorem zgS_0 {n : Nat} {k o : Nat → Int32} {a b : Nat} {p : Nat → Nat} {s : Nat} (hp : zP n p) (hs : s ≠ 1) (h : ¬ zIso n k o a b p) : zgS n k o a b p s ≠ 1 := by
  unfold zgS
  rw [if_neg hs, zb_f]
  · omega
  · exact fun q => h (zIso_congr (zcut_P hp) (fun x hx => zcut_e hx) (fun _ _ => rfl) (fun _ _ => rfl) q)
theorem zgS_hit {n : Nat} {k o : Nat → Int32} {a b : Nat} {q : Nat → Nat} (hq : zP n q) (h : zIso n k o a b q) : zT n (zgS n k o a b) n 0 (fun x => x) 0 = 1 := by
  refine zT_hit (fun s => s = 1) q hq (fun p s _ e => by unfold zgS; rw [if_pos e]) (fun p s e => ?_) n 0 (by omega) _ _ (zI_0 n _) (fun x hx => by omega)
  unfold zgS
  by_cases c : s = 1
  · rw [if_pos c]
  · rw [if_neg c]
    exact zb_t (zIso_congr hq (fun x hx => by rw [zcut_e hx, e x hx]) (fun _ _ => rfl) (fun _ _ => rfl) h)
section
variable {f_maxAtoms f_maxRings f_slotCount f_st f_cur f_pend f_depth f_lineLen f_listingLen f_count f_candLen : Int32} {a_size a_kinds a_bonds a_stack a_ringAtom a_ringOrder a_line a_listing a_perm a_cand a_digitFrom a_digitTo a_reach : Nat → Int32}
theorem zy_sm {post : Int32 → SY → Prop} {a b n : Nat} (ha : a < 4) (hb : b < 4) (hn : n ≤ 8) (hn1 : 1 ≤ n) (hca : a_size a = nI n)
    (hT : (∃ q, zP n q ∧ zIso n a_kinds a_bonds a b q) → ∀ r, post 1 (f_maxAtoms, f_maxRings, f_slotCount, f_st, f_cur, f_pend, f_depth, f_lineLen, f_listingLen, f_count, f_candLen, a_size, a_kinds, a_bonds, a_stack, a_ringAtom, a_ringOrder, a_line, a_listing, r, a_cand, a_digitFrom, a_digitTo, a_reach)) (hF : (¬ ∃ q, zP n q ∧ zIso n a_kinds a_bonds a b q) → ∀ r, post 0 (f_maxAtoms, f_maxRings, f_slotCount, f_st, f_cur, f_pend, f_depth, f_lineLen, f_listingLen, f_count, f_candLen, a_size, a_kinds, a_bonds, a_stack, a_ringAtom, a_ringOrder, a_line, a_listing, r, a_cand, a_digitFrom, a_digitTo, a_reach))
    (r : Nat → Int32) (hr : zV 8 (fun x => x) r) : ∃ F, wY_same_66 post (nI a) (nI b) F 1 0 f_maxAtoms f_maxRings f_slotCount f_st f_cur f_pend f_depth f_lineLen f_listingLen f_count f_candLen a_size a_kinds a_bonds a_stack a_ringAtom a_ringOrder a_line a_listing r a_cand a_digitFrom a_digitTo a_reach := by
  refine ⟨40322, ?_⟩
  have key := zE_top (S := Nat) (n := n) (g := zgS n a_kinds a_bonds a b) (fun p q s e => by unfold zgS; rw [zcut_eq e])
    (fun t p s => s ≠ 1 → ∀ F r, F + t = 40322 → zV n p r → wY_same_66 post (nI a) (nI b) F 1 (nI t) f_maxAtoms f_maxRings f_slotCount f_st f_cur f_pend f_depth f_lineLen f_listingLen f_count f_candLen a_size a_kinds a_bonds a_stack a_ringAtom a_ringOrder a_line a_listing r a_cand a_digitFrom a_digitTo a_reach)
    (fun s => s ≠ 1 → ∀ r, post 0 (f_maxAtoms, f_maxRings, f_slotCount, f_st, f_cur, f_pend, f_depth, f_lineLen, f_listingLen, f_count, f_candLen, a_size, a_kinds, a_bonds, a_stack, a_ringAtom, a_ringOrder, a_line, a_listing, r, a_cand, a_digitFrom, a_digitTo, a_reach)) 40320 (zfac_8 hn)
    (fun t p s ht hp hex hq s1 F r hF' hv => by
      obtain ⟨F, rfl⟩ : ∃ F', F = F' + 1 := ⟨F - 1, by clear hex hT hF; omega⟩
      refine br_f (nI_ge (b := 40320) ht (by decide)) (br_f (by decide) (zy_im ha hb hn hca hp hv (fun z => br_f (by decide) (hT ⟨p, hp, z⟩ r)) (fun z => br_t rfl ⟨zin ha (by decide), ?_⟩)))
      rw [zcl (show a < 1000000 by clear hex hT hF; omega), hca]
      exact zy_np hn1 hn hp hv (fun hd => absurd hex (zDsc_no2 hd)) (fun q r' hnx hv' => nm_r (nI_1 t) (hq q hnx (zgS_0 hp s1 z) F r' (by clear hex hT hF; omega) hv')))
    (fun t p s ht hp hd hFin s1 F r hF' hv => by
      obtain ⟨F, rfl⟩ : ∃ F', F = F' + 2 := ⟨F - 2, by clear hT hF; omega⟩
      refine br_f (nI_ge (b := 40320) ht (by decide)) (br_f (by decide) (zy_im ha hb hn hca hp hv (fun z => br_f (by decide) (hT ⟨p, hp, z⟩ r)) (fun z => br_t rfl ⟨zin ha (by decide), ?_⟩)))
      rw [zcl (show a < 1000000 by clear hT hF; omega), hca]
      exact zy_np hn1 hn hp hv (fun _ => nm_r (nI_1 t) (br_c (fun _ => hFin (zgS_0 hp s1 z) r) (fun _ => br_t rfl (hFin (zgS_0 hp s1 z) r)))) (fun q r' hnx _ => absurd hnx (zDsc_no hd)))
    (fun x => x) (zP_id n) (zAsc_id n) 0
    (fun hz r => hF (fun ⟨q, q1, q2⟩ => hz (zgS_hit q1 q2)) r)
  exact key (by decide) 40322 r (by decide) (fun x hx => hr x (Nat.lt_of_lt_of_le hx hn))
end
theorem i_vc_same {k : Nat} {u : SX} {v : SY} (I : i_Rel k u v) (hk : k + 5 ≤ 2563) (v1 : Int32) (v2 : Int32) : wpX_same (fun r u' => wpY_same (fun r' v' => r' = r ∧ i_Rel (k + 5) u' v') v v1 v2) u v1 v2 := by
  refine zz_el (P := fun u v => wpX_same (fun r u' => wpY_same (fun r' v' => r' = r ∧ i_Rel (k + 5) u' v') v v1 v2) u v1 v2) ?_ I
  intro f_atomLimit f_ringLimit f_slotCount f_readState f_currentAtom f_pendingOrder f_branchDepth f_writtenLength f_writtenAtoms f_writtenCount f_bestClosed f_draftLength a_count a_kinds a_bonds a_branches a_ringAtom a_ringOrder a_line a_listing a_draft a_near a_place a_parent a_closed a_left a_pairDigit a_image a_signature a_nextSignature f_candLen b_kinds b_ringOrder b_line b_listing a_perm a_cand a_digitFrom a_digitTo a_reach h1 h2 h3 h4 h5
  have I0 : i_Rel (k + 5) (f_atomLimit, f_ringLimit, f_slotCount, f_readState, f_currentAtom, f_pendingOrder, f_branchDepth, f_writtenLength, f_writtenAtoms, f_writtenCount, f_bestClosed, f_draftLength, a_count, a_kinds, a_bonds, a_branches, a_ringAtom, a_ringOrder, a_line, a_listing, a_draft, a_near, a_place, a_parent, a_closed, a_left, a_pairDigit, a_image, a_signature, a_nextSignature) (f_atomLimit, f_ringLimit, f_slotCount, f_readState, f_currentAtom, f_pendingOrder, f_branchDepth, f_writtenLength, f_writtenAtoms, f_writtenCount, f_candLen, a_count, b_kinds, a_bonds, a_branches, a_ringAtom, b_ringOrder, b_line, b_listing, a_perm, a_cand, a_digitFrom, a_digitTo, a_reach) := zz_in h1 h2 h3 h4 h5
  have bad : (v1 < 0 ∨ (¬ v1 < 0 ∧ f_slotCount ≤ v1)) → wpX_same (fun r u' => wpY_same (fun r' v' => r' = r ∧ i_Rel (k + 5) u' v') (f_atomLimit, f_ringLimit, f_slotCount, f_readState, f_currentAtom, f_pendingOrder, f_branchDepth, f_writtenLength, f_writtenAtoms, f_writtenCount, f_candLen, a_count, b_kinds, a_bonds, a_branches, a_ringAtom, b_ringOrder, b_line, b_listing, a_perm, a_cand, a_digitFrom, a_digitTo, a_reach) v1 v2) (f_atomLimit, f_ringLimit, f_slotCount, f_readState, f_currentAtom, f_pendingOrder, f_branchDepth, f_writtenLength, f_writtenAtoms, f_writtenCount, f_bestClosed, f_draftLength, a_count, a_kinds, a_bonds, a_branches, a_ringAtom, a_ringOrder, a_line, a_listing, a_draft, a_near, a_place, a_parent, a_closed, a_left, a_pairDigit, a_image, a_signature, a_nextSignature) v1 v2 := fun b => by
    unfold wpX_same
    refine zx_slot0 b (br_t rfl ?_)
    unfold wpY_same
    exact zy_slot1 b (br_f (by decide) ⟨rfl, I0⟩)
  rcases zslot (x := v1) h1 with b | b | ⟨a, ha3, rfl, a1, a2⟩
  · exact bad (Or.inl b)
  · exact bad (Or.inr b)
  have bad2 : (v2 < 0 ∨ (¬ v2 < 0 ∧ f_slotCount ≤ v2)) → wpX_same (fun r u' => wpY_same (fun r' v' => r' = r ∧ i_Rel (k + 5) u' v') (f_atomLimit, f_ringLimit, f_slotCount, f_readState, f_currentAtom, f_pendingOrder, f_branchDepth, f_writtenLength, f_writtenAtoms, f_writtenCount, f_candLen, a_count, b_kinds, a_bonds, a_branches, a_ringAtom, b_ringOrder, b_line, b_listing, a_perm, a_cand, a_digitFrom, a_digitTo, a_reach) (nI a) v2) (f_atomLimit, f_ringLimit, f_slotCount, f_readState, f_currentAtom, f_pendingOrder, f_branchDepth, f_writtenLength, f_writtenAtoms, f_writtenCount, f_bestClosed, f_draftLength, a_count, a_kinds, a_bonds, a_branches, a_ringAtom, a_ringOrder, a_line, a_listing, a_draft, a_near, a_place, a_parent, a_closed, a_left, a_pairDigit, a_image, a_signature, a_nextSignature) (nI a) v2 := fun b => by
    unfold wpX_same
    refine zx_slot1 a1 a2 (br_f (by decide) (zx_slot0 b (br_t rfl ?_)))
    unfold wpY_same
    exact zy_slot0 a1 a2 (br_t rfl (zy_slot1 b (br_f (by decide) ⟨rfl, I0⟩)))
  rcases zslot (x := v2) h1 with b | b | ⟨b, hb3, rfl, b1, b2⟩
  · exact bad2 (Or.inl b)
  · exact bad2 (Or.inr b)
  have ha : a < 4 := by omega
  have hb : b < 4 := by omega
  obtain ⟨hca, hA⟩ := h2.2.1 a ha
  obtain ⟨hcb, hB⟩ := h2.2.1 b hb
  have ka := h2.2.2 a
  have kb := h2.2.2 b
  obtain ⟨n, en⟩ : ∃ n, zc a_count a = n := ⟨_, rfl⟩
  obtain ⟨n', en'⟩ : ∃ n, zc a_count b = n := ⟨_, rfl⟩
  rw [en] at hca hA ka
  rw [en'] at hcb hB kb
  have n8 := hA.1
  have n8' := hB.1
  have ca : (nI a).toNatClampNeg = a := zcl (by omega)
  have cb : (nI b).toNatClampNeg = b := zcl (by omega)
  have ia : vp_in (nI a) 4 := zin ha (by decide)
  have ib : vp_in (nI b) 4 := zin hb (by decide)
  unfold wpX_same
  refine zx_slot1 a1 a2 (br_f (by decide) (zx_slot1 b1 b2 (br_f (by decide) ?_)))
  rw [ca, cb, hca, hcb]
  have hY : ∀ post : Int32 → SY → Prop, ((((nI n) = 0 → (post (-11) (f_atomLimit, f_ringLimit, f_slotCount, f_readState, f_currentAtom, f_pendingOrder, f_branchDepth, f_writtenLength, f_writtenAtoms, f_writtenCount, f_candLen, a_count, b_kinds, a_bonds, a_branches, a_ringAtom, b_ringOrder, b_line, b_listing, a_perm, a_cand, a_digitFrom, a_digitTo, a_reach))) ∧ (¬ (nI n) = 0 → (vp_in (nI b) 4 ∧ ((((nI n') = 0 → (post (-11) (f_atomLimit, f_ringLimit, f_slotCount, f_readState, f_currentAtom, f_pendingOrder, f_branchDepth, f_writtenLength, f_writtenAtoms, f_writtenCount, f_candLen, a_count, b_kinds, a_bonds, a_branches, a_ringAtom, b_ringOrder, b_line, b_listing, a_perm, a_cand, a_digitFrom, a_digitTo, a_reach))) ∧ (¬ (nI n') = 0 → (vp_in (nI a) 4 ∧ (vp_in (nI b) 4 ∧ ((((nI n) = (nI n') → (wpY_firstPerm (fun u => match u with | (f_maxAtoms9, f_maxRings9, f_slotCount9, f_st9, f_cur9, f_pend9, f_depth9, f_lineLen9, f_listingLen9, f_count9, f_candLen9, a_size9, a_kinds9, a_bonds9, a_stack9, a_ringAtom9, a_ringOrder9, a_line9, a_listing9, a_perm9, a_cand9, a_digitFrom9, a_digitTo9, a_reach9) => (∃ n66 : Nat, wY_same_66 post (nI a) (nI b) n66 1 0 f_maxAtoms9 f_maxRings9 f_slotCount9 f_st9 f_cur9 f_pend9 f_depth9 f_lineLen9 f_listingLen9 f_count9 f_candLen9 a_size9 a_kinds9 a_bonds9 a_stack9 a_ringAtom9 a_ringOrder9 a_line9 a_listing9 a_perm9 a_cand9 a_digitFrom9 a_digitTo9 a_reach9)) (f_atomLimit, f_ringLimit, f_slotCount, f_readState, f_currentAtom, f_pendingOrder, f_branchDepth, f_writtenLength, f_writtenAtoms, f_writtenCount, f_candLen, a_count, b_kinds, a_bonds, a_branches, a_ringAtom, b_ringOrder, b_line, b_listing, a_perm, a_cand, a_digitFrom, a_digitTo, a_reach))) ∧ (¬ (nI n) = (nI n') → (post 0 (f_atomLimit, f_ringLimit, f_slotCount, f_readState, f_currentAtom, f_pendingOrder, f_branchDepth, f_writtenLength, f_writtenAtoms, f_writtenCount, f_candLen, a_count, b_kinds, a_bonds, a_branches, a_ringAtom, b_ringOrder, b_line, b_listing, a_perm, a_cand, a_digitFrom, a_digitTo, a_reach)))))))))))))) → wpY_same post (f_atomLimit, f_ringLimit, f_slotCount, f_readState, f_currentAtom, f_pendingOrder, f_branchDepth, f_writtenLength, f_writtenAtoms, f_writtenCount, f_candLen, a_count, b_kinds, a_bonds, a_branches, a_ringAtom, b_ringOrder, b_line, b_listing, a_perm, a_cand, a_digitFrom, a_digitTo, a_reach) (nI a) (nI b) := by
    intro post w
    unfold wpY_same
    refine zy_slot0 a1 a2 (br_t rfl (zy_slot0 b1 b2 (br_t rfl ⟨ia, ?_⟩)))
    rw [ca, cb, hca, hcb]
    exact w
  by_cases n0 : n = 0
  · have z : nI n = 0 := by rw [n0]; rfl
    exact ⟨ia, br_t z (hY _ (br_t z ⟨rfl, I0⟩))⟩
  have z : ¬ nI n = 0 := nI_ne0 (by omega) (by omega)
  by_cases n0' : n' = 0
  · have z' : nI n' = 0 := by rw [n0']; rfl
    exact ⟨ia, br_f z ⟨ib, br_t z' (hY _ (br_f z ⟨ib, br_t z' ⟨rfl, I0⟩⟩))⟩⟩
  have z' : ¬ nI n' = 0 := nI_ne0 (by omega) (by omega)
  by_cases nn : n = n'
  · subst nn
    have conv : (∃ q, zP n q ∧ (∀ x, x < n → True) ∧ zIso n a_kinds a_bonds a b q) ↔ (∃ q, zP n q ∧ zIso n b_kinds a_bonds a b q) := by
      constructor
      · rintro ⟨q, q1, q2, q3⟩
        exact ⟨q, q1, zIso_congr q1 (fun _ _ => rfl) (fun i hi => (ka i ha hi).1) (fun i hi => (kb i hb hi).1) q3⟩
      · rintro ⟨q, q1, q3⟩
        exact ⟨q, q1, fun _ _ => trivial, zIso_congr q1 (fun _ _ => rfl) (fun i hi => (ka i ha hi).1.symm) (fun i hi => (kb i hb hi).1.symm) q3⟩
    refine ⟨ia, br_f z ⟨ib, br_f z' ?_⟩⟩
    refine zx_match (Fx := fun _ _ => True) ha hb n8 (by omega) hca hcb (zBlk_none _ a b n 0) h2.1 hA hB (fun ex img s w => br_f (by decide) (hY _ (br_f z ⟨ib, br_f z' ⟨ia, ib, br_t rfl (zy_fp (fun r hr => ?_))⟩⟩))) (fun nex img s w => br_t rfl (hY _ (br_f z ⟨ib, br_f z' ⟨ia, ib, br_t rfl (zy_fp (fun r hr => ?_))⟩⟩)))
    · exact zy_sm ha hb n8 (by omega) hca (fun _ r => ⟨rfl, zz_in h1 h2 h3 h4 h5⟩) (fun nex => absurd (conv.mp ex) nex) r hr
    · exact zy_sm ha hb n8 (by omega) hca (fun ex => absurd (conv.mpr ex) nex) (fun _ r => ⟨rfl, zz_in h1 h2 h3 h4 h5⟩) r hr
  · have e : ¬ nI n = nI n' := fun z => nn ((nI_eq (by omega) (by omega)).mp z)
    exact ⟨ia, br_f z ⟨ib, br_f z' (zx_match0 ha hb n8 n8' hca hcb nn (br_t rfl (hY _ (br_f z ⟨ib, br_f z' ⟨ia, ib, br_f e ⟨rfl, I0⟩⟩⟩))))⟩⟩
end
section
/-! ===== orbit ===== -/
def zAut (n : Nat) (k o : Nat → Int32) (s i r : Nat) : Prop := ∃ q, zP n q ∧ zIso n k o s s q ∧ q i = r
section
variable {f_atomLimit f_ringLimit f_slotCount f_readState f_currentAtom f_pendingOrder f_branchDepth f_writtenLength f_writtenAtoms f_writtenCount f_bestClosed f_draftLength : Int32} {a_count a_kinds a_bonds a_branches a_ringAtom a_ringOrder a_line a_listing a_draft a_near a_place a_parent a_closed a_left a_pairDigit a_image a_signature a_nextSignature : Nat → Int32}
theorem zx_orb {post : Int32 → SX → Prop} {s n i : Nat} (hs : s < 4) (hn : n ≤ 8) (hi : i < n) (hc : a_count s = nI n) (ho : zBd a_bonds) (hM : zMol n (zbm a_bonds s))
    (h : ∀ r, r ≤ i → zAut n a_kinds a_bonds s i r → (∀ j, j < r → ¬ zAut n a_kinds a_bonds s i j) → ∀ img g w, post (nI r) (f_atomLimit, f_ringLimit, f_slotCount, f_readState, f_currentAtom, f_pendingOrder, f_branchDepth, f_writtenLength, f_writtenAtoms, f_writtenCount, f_bestClosed, f_draftLength, a_count, a_kinds, a_bonds, a_branches, a_ringAtom, a_ringOrder, a_line, a_listing, a_draft, a_near, a_place, a_parent, a_closed, a_left, a_pairDigit, img, g, w)) :
    ∀ d j, j + d = i → (∀ j', j' < j → ¬ zAut n a_kinds a_bonds s i j') → ∀ img g w, wX_orbit_25 post (nI s) (nI i) (d + 1) (nI j) f_atomLimit f_ringLimit f_slotCount f_readState f_currentAtom f_pendingOrder f_branchDepth f_writtenLength f_writtenAtoms f_writtenCount f_bestClosed f_draftLength a_count a_kinds a_bonds a_branches a_ringAtom a_ringOrder a_line a_listing a_draft a_near a_place a_parent a_closed a_left a_pairDigit img g w := by
  intro d
  induction d with
  | zero =>
    intro j hj hno img g w
    have : j = i := by omega
    subst this
    exact br_t (nI_le (Nat.le_refl _) (by omega)) (h j (Nat.le_refl _) ⟨fun x => x, zP_id n, zMap_id, rfl⟩ hno img g w)
  | succ d ih =>
    intro j hj hno img g w
    refine br_f (nI_ge (by omega) (by omega)) (zx_match (Fx := fun d y => d = i ↔ y = j) hs hs hn (by omega) hc hc (zBlk_fix _ s s n i j hn hi (by omega)) ho hM hM (fun ex img g w => br_f (by decide) ?_) (fun nex img g w => br_t rfl (nm_r (nI_1 j) (ih (j + 1) (by omega) (fun j' hj' => ?_) img g w))))
    · obtain ⟨q, q1, q2, q3⟩ := ex
      exact h j (by omega) ⟨q, q1, q3, (q2 i hi).mp rfl⟩ hno img g w
    · by_cases e : j' = j
      · rw [e]
        rintro ⟨q, q1, q2, q3⟩
        exact nex ⟨q, q1, fun x hx => ⟨fun z => by rw [z]; exact q3, fun z => q1.2 x i hx hi (by rw [z, q3])⟩, q2⟩
      · exact hno j' (by omega)
end
noncomputable def zgO (n : Nat) (k o : Nat → Int32) (s i : Nat) (p : Nat → Nat) (l : Nat) : Nat := if zb (zIso n k o s s (zcut n p)) = 1 ∧ p i < l then p i else l
theorem zcut_iso {n : Nat} {k o : Nat → Int32} {a b : Nat} {p : Nat → Nat} (hp : zP n p) : zIso n k o a b (zcut n p) ↔ zIso n k o a b p :=
  ⟨fun q => zIso_congr (zcut_P hp) (fun x hx => zcut_e hx) (fun _ _ => rfl) (fun _ _ => rfl) q, fun q => zIso_congr hp (fun x hx => (zcut_e hx).symm) (fun _ _ => rfl) (fun _ _ => rfl) q⟩
theorem zgO_t {n : Nat} {k o : Nat → Int32} {s i : Nat} {p : Nat → Nat} {l : Nat} (hp : zP n p) (h : zIso n k o s s p) (hl : p i < l) : zgO n k o s i p l = p i := if_pos ⟨zb_t ((zcut_iso hp).mpr h), hl⟩
theorem zgO_f {n : Nat} {k o : Nat → Int32} {s i : Nat} {p : Nat → Nat} {l : Nat} (hp : zP n p) (h : ¬ zIso n k o s s p ∨ l ≤ p i) : zgO n k o s i p l = l := by
  refine if_neg (fun z => ?_)
  rcases h with h | h
  · have := zb_f (p := zIso n k o s s (zcut n p)) (fun q => h ((zcut_iso hp).mp q))
    omega
  · omega
theorem zgO_le {n : Nat} {k o : Nat → Int32} {s i : Nat} {p : Nat → Nat} {l : Nat} : zgO n k o s i p l ≤ l := by
  unfold zgO
  by_cases c : zb (zIso n k o s s (zcut n p)) = 1 ∧ p i < l
  · rw [if_pos c]; omega
  · rw [if_neg c]; exact Nat.le_refl _
theorem zgO_end {n : Nat} {k o : Nat → Int32} {s i : Nat} (hi : i < n) : zAut n k o s i (zT n (zgO n k o s i) n 0 (fun x => x) i) ∧ ∀ q, zP n q → zIso n k o s s q → zT n (zgO n k o s i) n 0 (fun x => x) i ≤ q i := by
  constructor
  · refine zT_inv (fun l => zAut n k o s i l) n 0 (by omega) _ _ (zI_0 n _) (fun q l hq _ h => ?_) ⟨fun x => x, zP_id n, zMap_id, rfl⟩
    by_cases c : zIso n k o s s q ∧ q i < l
    · rw [zgO_t hq c.1 c.2]; exact ⟨q, hq, c.1, rfl⟩
    · by_cases d : zIso n k o s s q
      · rw [zgO_f hq (Or.inr (Nat.le_of_not_lt (fun z => c ⟨d, z⟩)))]; exact h
      · rw [zgO_f hq (Or.inl d)]; exact h
  · intro q hq hiso
    refine zT_hit (fun l => l ≤ q i) q hq (fun p l _ h => Nat.le_trans zgO_le h) (fun p l e => ?_) n 0 (by omega) _ _ (zI_0 n _) (fun x hx => by omega)
    have hp : zP n p := ⟨fun x hx => by rw [e x hx]; exact hq.1 x hx, fun x y hx hy h => hq.2 x y hx hy (by rw [← e x hx, ← e y hy]; exact h)⟩
    have hpi : zIso n k o s s p := zIso_congr hq (fun x hx => (e x hx).symm) (fun _ _ => rfl) (fun _ _ => rfl) hiso
    rw [← e i hi]
    by_cases c : p i < l
    · rw [zgO_t hp hpi c]; exact Nat.le_refl _
    · rw [zgO_f hp (Or.inr (by omega))]; omega
section
variable {f_maxAtoms f_maxRings f_slotCount f_st f_cur f_pend f_depth f_lineLen f_listingLen f_count f_candLen : Int32} {a_size a_kinds a_bonds a_stack a_ringAtom a_ringOrder a_line a_listing a_perm a_cand a_digitFrom a_digitTo a_reach : Nat → Int32}
theorem zy_orb {post : Int32 → SY → Prop} {s n i : Nat} (hs : s < 4) (hn : n ≤ 8) (hi : i < n) (hc : a_size s = nI n)
    (h : ∀ r, post (nI (zT n (zgO n a_kinds a_bonds s i) n 0 (fun x => x) i)) (f_maxAtoms, f_maxRings, f_slotCount, f_st, f_cur, f_pend, f_depth, f_lineLen, f_listingLen, f_count, f_candLen, a_size, a_kinds, a_bonds, a_stack, a_ringAtom, a_ringOrder, a_line, a_listing, r, a_cand, a_digitFrom, a_digitTo, a_reach)) (r : Nat → Int32) (hr : zV 8 (fun x => x) r) : ∃ F, wY_orbit_35 post (nI s) (nI i) F (nI i) 1 0 f_maxAtoms f_maxRings f_slotCount f_st f_cur f_pend f_depth f_lineLen f_listingLen f_count f_candLen a_size a_kinds a_bonds a_stack a_ringAtom a_ringOrder a_line a_listing r a_cand a_digitFrom a_digitTo a_reach := by
  refine ⟨40322, ?_⟩
  have head : ∀ t p l F r, t < 40320 → zP n p → l ≤ 8 → zV n p r → wY_orbit_73 post (wY_orbit_35 post (nI s) (nI i) F) (nI s) (nI i) (nI (zgO n a_kinds a_bonds s i p l)) (nI t) f_maxAtoms f_maxRings f_slotCount f_st f_cur f_pend f_depth f_lineLen f_listingLen f_count f_candLen a_size a_kinds a_bonds a_stack a_ringAtom a_ringOrder a_line a_listing r a_cand a_digitFrom a_digitTo a_reach → wY_orbit_35 post (nI s) (nI i) (F + 1) (nI l) 1 (nI t) f_maxAtoms f_maxRings f_slotCount f_st f_cur f_pend f_depth f_lineLen f_listingLen f_count f_candLen a_size a_kinds a_bonds a_stack a_ringAtom a_ringOrder a_line a_listing r a_cand a_digitFrom a_digitTo a_reach := by
    intro t p l F r ht hp hl hv w
    have hpi := hp.1 i hi
    refine br_f (nI_ge (b := 40320) ht (by decide)) (br_f (by decide) ⟨zin (by omega) (by decide), ?_⟩)
    rw [zcl (show i < 1000000 by omega), hv i hi]
    by_cases c : l ≤ p i
    · rw [zgO_f hp (Or.inr c)] at w
      exact br_t (nI_le c (by omega)) w
    · refine br_f (nI_ge (by omega) (by omega)) (zy_im hs hs hn hc hp hv (fun z => br_f (by decide) ⟨zin (by omega) (by decide), nm_e ?_⟩) (fun z => br_t rfl ?_))
      · rw [zgO_t hp z (by omega)] at w; exact w
      · rw [zgO_f hp (Or.inl z)] at w; exact w
  have key := zE_top (S := Nat) (n := n) (g := zgO n a_kinds a_bonds s i) (fun p q l e => by unfold zgO; rw [zcut_eq e, e i hi])
    (fun t p l => l ≤ 8 → ∀ F r, F + t = 40322 → zV n p r → wY_orbit_35 post (nI s) (nI i) F (nI l) 1 (nI t) f_maxAtoms f_maxRings f_slotCount f_st f_cur f_pend f_depth f_lineLen f_listingLen f_count f_candLen a_size a_kinds a_bonds a_stack a_ringAtom a_ringOrder a_line a_listing r a_cand a_digitFrom a_digitTo a_reach)
    (fun l => l ≤ 8 → ∀ r, post (nI l) (f_maxAtoms, f_maxRings, f_slotCount, f_st, f_cur, f_pend, f_depth, f_lineLen, f_listingLen, f_count, f_candLen, a_size, a_kinds, a_bonds, a_stack, a_ringAtom, a_ringOrder, a_line, a_listing, r, a_cand, a_digitFrom, a_digitTo, a_reach)) 40320 (zfac_8 hn)
    (fun t p l ht hp hex hq hl F r hF hv => by
      obtain ⟨F, rfl⟩ : ∃ F', F = F' + 1 := ⟨F - 1, by clear hex; omega⟩
      refine head t p l F r ht hp hl hv ⟨zin hs (by decide), ?_⟩
      rw [zcl (show s < 1000000 by clear hex; omega), hc]
      exact zy_np (by clear hex; omega) hn hp hv (fun hd => absurd hex (zDsc_no2 hd)) (fun q r' hnx hv' => nm_r (nI_1 t) (hq q hnx (Nat.le_trans zgO_le hl) F r' (by clear hex; omega) hv')))
    (fun t p l ht hp hd hFin hl F r hF hv => by
      obtain ⟨F, rfl⟩ : ∃ F', F = F' + 2 := ⟨F - 2, by omega⟩
      refine head t p l (F + 1) r ht hp hl hv ⟨zin hs (by decide), ?_⟩
      rw [zcl (show s < 1000000 by omega), hc]
      have fin := hFin (Nat.le_trans zgO_le hl) r
      exact zy_np (by omega) hn hp hv (fun _ => nm_r (nI_1 t) (br_c (fun _ => fin) (fun _ => br_t rfl fin))) (fun q r' hnx _ => absurd hnx (zDsc_no hd)))
    (fun x => x) (zP_id n) (zAsc_id n) i (fun _ r => h r)
  exact key (by omega) 40322 r (by decide) (fun x hx => hr x (by omega))
end
theorem i_vc_orbit {k : Nat} {u : SX} {v : SY} (I : i_Rel k u v) (hk : k + 5 ≤ 2563) (v1 : Int32) (v2 : Int32) : wpX_orbit (fun r u' => wpY_orbit (fun r' v' => r' = r ∧ i_Rel (k + 5) u' v') v v1 v2) u v1 v2 := by
  refine zz_el (P := fun u v => wpX_orbit (fun r u' => wpY_orbit (fun r' v' => r' = r ∧ i_Rel (k + 5) u' v') v v1 v2) u v1 v2) ?_ I
  intro f_atomLimit f_ringLimit f_slotCount f_readState f_currentAtom f_pendingOrder f_branchDepth f_writtenLength f_writtenAtoms f_writtenCount f_bestClosed f_draftLength a_count a_kinds a_bonds a_branches a_ringAtom a_ringOrder a_line a_listing a_draft a_near a_place a_parent a_closed a_left a_pairDigit a_image a_signature a_nextSignature f_candLen b_kinds b_ringOrder b_line b_listing a_perm a_cand a_digitFrom a_digitTo a_reach h1 h2 h3 h4 h5
  have I0 : i_Rel (k + 5) (f_atomLimit, f_ringLimit, f_slotCount, f_readState, f_currentAtom, f_pendingOrder, f_branchDepth, f_writtenLength, f_writtenAtoms, f_writtenCount, f_bestClosed, f_draftLength, a_count, a_kinds, a_bonds, a_branches, a_ringAtom, a_ringOrder, a_line, a_listing, a_draft, a_near, a_place, a_parent, a_closed, a_left, a_pairDigit, a_image, a_signature, a_nextSignature) (f_atomLimit, f_ringLimit, f_slotCount, f_readState, f_currentAtom, f_pendingOrder, f_branchDepth, f_writtenLength, f_writtenAtoms, f_writtenCount, f_candLen, a_count, b_kinds, a_bonds, a_branches, a_ringAtom, b_ringOrder, b_line, b_listing, a_perm, a_cand, a_digitFrom, a_digitTo, a_reach) := zz_in h1 h2 h3 h4 h5
  have bad : (v1 < 0 ∨ (¬ v1 < 0 ∧ f_slotCount ≤ v1)) → wpX_orbit (fun r u' => wpY_orbit (fun r' v' => r' = r ∧ i_Rel (k + 5) u' v') (f_atomLimit, f_ringLimit, f_slotCount, f_readState, f_currentAtom, f_pendingOrder, f_branchDepth, f_writtenLength, f_writtenAtoms, f_writtenCount, f_candLen, a_count, b_kinds, a_bonds, a_branches, a_ringAtom, b_ringOrder, b_line, b_listing, a_perm, a_cand, a_digitFrom, a_digitTo, a_reach) v1 v2) (f_atomLimit, f_ringLimit, f_slotCount, f_readState, f_currentAtom, f_pendingOrder, f_branchDepth, f_writtenLength, f_writtenAtoms, f_writtenCount, f_bestClosed, f_draftLength, a_count, a_kinds, a_bonds, a_branches, a_ringAtom, a_ringOrder, a_line, a_listing, a_draft, a_near, a_place, a_parent, a_closed, a_left, a_pairDigit, a_image, a_signature, a_nextSignature) v1 v2 := fun b => by
    unfold wpX_orbit
    refine zx_slot0 b (br_t rfl ?_)
    unfold wpY_orbit
    exact zy_slot1 b (br_f (by decide) ⟨rfl, I0⟩)
  rcases zslot (x := v1) h1 with b | b | ⟨s, hs3, rfl, b1, b2⟩
  · exact bad (Or.inl b)
  · exact bad (Or.inr b)
  have hs : s < 4 := by omega
  obtain ⟨hc, hM⟩ := h2.2.1 s hs
  have n8 := hM.1
  unfold wpX_orbit
  rcases zatom n8 v2 with na | ⟨i, hi, rfl⟩
  · refine zx_slot1 b1 b2 (br_f (by decide) (zx_at0 hs hc na (br_t rfl ?_)))
    unfold wpY_orbit
    exact zy_slot0 b1 b2 (br_t rfl (zy_at1 hs hc na (br_f (by decide) ⟨rfl, I0⟩)))
  refine zx_slot1 b1 b2 (br_f (by decide) (zx_at1 hs n8 hc hi (br_f (by decide) ⟨i + 1, ?_⟩)))
  refine zx_orb hs n8 hi hc h2.1 hM (fun r hr ar nr img g w => ?_) i 0 (by omega) (fun j hj => by omega) a_image a_signature a_nextSignature
  unfold wpY_orbit
  refine zy_slot0 b1 b2 (br_t rfl (zy_at0 hs n8 hc hi (br_t rfl (zy_fp (fun p hp => ?_)))))
  refine zy_orb hs n8 hi hc (fun p' => ⟨?_, zz_in h1 h2 h3 h4 h5⟩) p hp
  obtain ⟨e1, e2⟩ := zgO_end (k := b_kinds) (o := a_bonds) (s := s) hi
  congr 1
  have ks := fun j hj => (h2.2.2 s j hs hj).1
  obtain ⟨q, q1, q2, q3⟩ := ar
  have c1 := e2 q q1 (zIso_congr q1 (fun _ _ => rfl) ks ks q2)
  rw [q3] at c1
  rcases Nat.lt_or_ge (zT (zc a_count s) (zgO (zc a_count s) b_kinds a_bonds s i) (zc a_count s) 0 (fun x => x) i) r with l | l
  · obtain ⟨q', q1', q2', q3'⟩ := e1
    exact absurd ⟨q', q1', zIso_congr q1' (fun _ _ => rfl) (fun j hj => (ks j hj).symm) (fun j hj => (ks j hj).symm) q2', q3'⟩ (nr _ l)
  · exact Nat.le_antisymm c1 l
end
section
/-! ===== the best line: a fold over the listings ===== -/
noncomputable def zif {α : Type} (p : Prop) (a b : α) : α := @ite α p (Classical.propDecidable p) a b
theorem zif_t {α : Type} {p : Prop} {a b : α} (h : p) : zif p a b = a := if_pos h
theorem zif_f {α : Type} {p : Prop} {a b : α} (h : ¬ p) : zif p a b = b := if_neg h
noncomputable def zG (n : Nat) (ka : Nat → Nat) (B : Nat → Nat → Nat) (ok : Nat → Prop) (p : Nat → Nat) (s : Nat × List Nat × (Nat → Nat)) : Nat × List Nat × (Nat → Nat) :=
  zif (ok (zcut n p 0) ∧ zisL n B (zcut n p)) (zif (s.1 = 0 ∨ zless (zlp n ka B (zcut n p)) s.2.1) (1, zlp n ka B (zcut n p), zcut n p) (zif (zlp n ka B (zcut n p) = s.2.1) (s.1 + 1, s.2) s)) s
theorem zG_cg (n : Nat) (ka : Nat → Nat) (B : Nat → Nat → Nat) (ok : Nat → Prop) : zCg n (zG n ka B ok) := fun p q s e => by unfold zG; rw [zcut_eq e]
section
variable {n : Nat} {ka : Nat → Nat} {B : Nat → Nat → Nat} {ok : Nat → Prop} {p : Nat → Nat} {s : Nat × List Nat × (Nat → Nat)}
theorem zG_no (h : ¬ (ok (zcut n p 0) ∧ zisL n B (zcut n p))) : zG n ka B ok p s = s := zif_f h
theorem zG_new (h : ok (zcut n p 0) ∧ zisL n B (zcut n p)) (h' : s.1 = 0 ∨ zless (zlp n ka B (zcut n p)) s.2.1) : zG n ka B ok p s = (1, zlp n ka B (zcut n p), zcut n p) := (zif_t h).trans (zif_t h')
theorem zG_eq (h : ok (zcut n p 0) ∧ zisL n B (zcut n p)) (h0 : s.1 ≠ 0) (h' : zlp n ka B (zcut n p) = s.2.1) : zG n ka B ok p s = (s.1 + 1, s.2) :=
  (zif_t h).trans ((zif_f (fun z => z.elim h0 (fun z => zless_ir _ (by rw [← h'] at z; exact z)))).trans (zif_t h'))
theorem zG_gt (h : ok (zcut n p 0) ∧ zisL n B (zcut n p)) (h0 : s.1 ≠ 0) (h' : ¬ zless (zlp n ka B (zcut n p)) s.2.1) (h2 : zlp n ka B (zcut n p) ≠ s.2.1) : zG n ka B ok p s = s :=
  (zif_t h).trans ((zif_f (fun z => z.elim h0 h')).trans (zif_f h2))
/-- what the state holds -/
def zGi (n : Nat) (ka : Nat → Nat) (B : Nat → Nat → Nat) (s : Nat × List Nat × (Nat → Nat)) : Prop := s.1 ≠ 0 → (s.2.1 = zlp n ka B s.2.2 ∧ zP n s.2.2 ∧ zisL n B s.2.2)
theorem zG_i (hp : zP n p) (h : zGi n ka B s) : zGi n ka B (zG n ka B ok p s) := by
  by_cases c : ok (zcut n p 0) ∧ zisL n B (zcut n p)
  · by_cases d : s.1 = 0 ∨ zless (zlp n ka B (zcut n p)) s.2.1
    · rw [zG_new c d]; exact fun _ => ⟨rfl, zcut_P hp, c.2⟩
    · have d0 : s.1 ≠ 0 := fun z => d (Or.inl z)
      by_cases e : zlp n ka B (zcut n p) = s.2.1
      · rw [zG_eq c d0 e]; exact fun _ => h d0
      · rw [zG_gt c d0 (fun z => d (Or.inr z)) e]; exact h
  · rw [zG_no c]; exact h
theorem zG_n0 (h : s.1 ≠ 0) : (zG n ka B ok p s).1 ≠ 0 := by
  by_cases c : ok (zcut n p 0) ∧ zisL n B (zcut n p)
  · by_cases d : s.1 = 0 ∨ zless (zlp n ka B (zcut n p)) s.2.1
    · rw [zG_new c d]; exact Nat.one_ne_zero
    · by_cases e : zlp n ka B (zcut n p) = s.2.1
      · rw [zG_eq c h e]; exact Nat.succ_ne_zero _
      · rw [zG_gt c h (fun z => d (Or.inr z)) e]; exact h
  · rw [zG_no c]; exact h
theorem zG_le : (zG n ka B ok p s).1 ≤ s.1 + 1 := by
  by_cases c : ok (zcut n p 0) ∧ zisL n B (zcut n p)
  · by_cases d : s.1 = 0 ∨ zless (zlp n ka B (zcut n p)) s.2.1
    · rw [zG_new c d]; show 1 ≤ _; omega
    · have d0 : s.1 ≠ 0 := fun z => d (Or.inl z)
      by_cases e : zlp n ka B (zcut n p) = s.2.1
      · rw [zG_eq c d0 e]; exact Nat.le_refl _
      · rw [zG_gt c d0 (fun z => d (Or.inr z)) e]; omega
  · rw [zG_no c]; omega
/-- a listing that is not better changes nothing -/
theorem zG_pr (hM : zMol n B) (hn : 0 < n) (hi : zGi n ka B s) (h0 : s.1 ≠ 0) (hp : zP n p) (h : zisL n B (zcut n p) → (zcl2 n B s.2.2 < zcl2 n B (zcut n p) ∨ (zcl2 n B s.2.2 = zcl2 n B (zcut n p) ∧ ka (s.2.2 0) < ka (zcut n p 0)))) : zG n ka B ok p s = s := by
  by_cases c : ok (zcut n p 0) ∧ zisL n B (zcut n p)
  · obtain ⟨i1, i2, i3⟩ := hi h0
    have l1 := zlp_len (ka := ka) hM (zcut_P hp) hn c.2
    have l2 := zlp_len (ka := ka) hM i2 hn i3
    rw [← i1] at l2
    rcases h c.2 with d | ⟨d, e⟩
    · have q := zless_lg (l := zlp n ka B (zcut n p)) (t := s.2.1) (by omega)
      exact zG_gt c h0 q.1 q.2
    · have f1 := zlp_0 ka B (zcut n p) hn
      have f2 := zlp_0 ka B s.2.2 hn
      rw [← i1] at f2
      have q := zless_gt (l := zlp n ka B (zcut n p)) (t := s.2.1) (i := 0) (by omega) f1.1 (fun j hj => by omega) (by rw [f1.2, f2.2]; exact e)
      exact zG_gt c h0 q.1 q.2
  · exact zG_no c
end
/-! ===== parents by what is placed so far ===== -/
def zhu (B : Nat → Nat → Nat) (p : Nat → Nat) (k j : Nat) : Nat → Bool
  | 0 => false
  | b + 1 => zhu B p k j b || (!(zu p b k) && B (p j) b != 0)
theorem zhu_t {B : Nat → Nat → Nat} {p : Nat → Nat} {k j n : Nat} : zhu B p k j n = true ↔ ∃ b, b < n ∧ zu p b k = false ∧ B (p j) b ≠ 0 := by
  induction n with
  | zero => exact ⟨fun h => Bool.noConfusion h, fun ⟨c, h, _⟩ => by omega⟩
  | succ n ih =>
    show (zhu B p k j n || (!(zu p n k) && B (p j) n != 0)) = true ↔ _
    rw [Bool.or_eq_true, ih, Bool.and_eq_true, Bool.not_eq_true', bne_iff_ne]
    constructor
    · rintro (⟨c, h1, h2, h3⟩ | ⟨h1, h2⟩)
      · exact ⟨c, by omega, h2, h3⟩
      · exact ⟨n, by omega, h1, h2⟩
    · rintro ⟨c, h1, h2, h3⟩
      by_cases e : c = n
      · right; rw [← e]; exact ⟨h2, h3⟩
      · left; exact ⟨c, by omega, h2, h3⟩
def zpgU (B : Nat → Nat → Nat) (n : Nat) (p : Nat → Nat) (k : Nat) : Nat → Nat
  | 0 => 0
  | j + 1 => if zhu B p k j n = true then j + 1 else zpgU B n p k j
def zpaU (B : Nat → Nat → Nat) (n : Nat) (p : Nat → Nat) (k : Nat) : Nat := zpgU B n p k k
theorem zpgU_eq {B : Nat → Nat → Nat} {n k : Nat} {p q : Nat → Nat} (hq : zP n q) (e : ∀ x, x < k → q x = p x) (hk : k ≤ n) : ∀ j, j ≤ k → zpg (zbp B q) n k j = zpgU B n p k j := by
  intro j
  induction j with
  | zero => intro _; rfl
  | succ j ih =>
    intro hj
    show (if zhs (zbp B q) k j n = true then j + 1 else zpg (zbp B q) n k j) = (if zhu B p k j n = true then j + 1 else zpgU B n p k j)
    have h : zhs (zbp B q) k j n = true ↔ zhu B p k j n = true := by
      rw [zhs_t, zhu_t]
      constructor
      · rintro ⟨x, x1, x2, x3⟩
        refine ⟨q x, hq.1 x x2, zu_f.mpr (fun i hi ei => ?_), ?_⟩
        · have := hq.2 i x (by omega) x2 (by rw [e i hi, ei])
          omega
        · rw [← e j (by omega)]; exact x3
      · rintro ⟨b, b1, b2, b3⟩
        obtain ⟨x, x1, x2⟩ := zP_surj n q hq b b1
        refine ⟨x, ?_, x1, ?_⟩
        · rcases Nat.lt_or_ge x k with l | l
          · exact absurd (by rw [← e x l, x2]) (zu_f.mp b2 x l)
          · exact l
        · show B (q j) (q x) ≠ 0
          rw [x2, e j (by omega)]; exact b3
    rw [ih (by omega)]
    by_cases c : zhs (zbp B q) k j n = true
    · rw [if_pos c, if_pos (h.mp c)]
    · rw [if_neg c, if_neg (fun z => c (h.mpr z))]
theorem zpaU_eq {B : Nat → Nat → Nat} {n k : Nat} {p q : Nat → Nat} (hq : zP n q) (e : ∀ x, x < k → q x = p x) (hk : k ≤ n) : zpa (zbp B q) n k = zpaU B n p k := zpgU_eq hq e hk k (Nat.le_refl _)
theorem zhu_congr {B : Nat → Nat → Nat} {k j : Nat} {p q : Nat → Nat} (e : ∀ x, x < k → p x = q x) (hj : j < k) (n : Nat) : zhu B p k j n = zhu B q k j n := by
  induction n with
  | zero => rfl
  | succ n ih =>
    show (zhu B p k j n || (!(zu p n k) && B (p j) n != 0)) = (zhu B q k j n || (!(zu q n k) && B (q j) n != 0))
    rw [ih, zu_congr e, e j hj]
theorem zpaU_congr {B : Nat → Nat → Nat} {n k : Nat} {p q : Nat → Nat} (e : ∀ x, x < k → p x = q x) : zpaU B n p k = zpaU B n q k := by
  have key : ∀ j, j ≤ k → zpgU B n p k j = zpgU B n q k j := by
    intro j
    induction j with
    | zero => intro _; rfl
    | succ j ih =>
      intro hj
      show (if zhu B p k j n = true then j + 1 else zpgU B n p k j) = (if zhu B q k j n = true then j + 1 else zpgU B n q k j)
      rw [ih (by omega), zhu_congr e (by omega)]
  exact key k (Nat.le_refl _)
theorem zpgU_le {B : Nat → Nat → Nat} {n k j : Nat} {p : Nat → Nat} : zpgU B n p k j ≤ j := by
  induction j with
  | zero => exact Nat.le_refl _
  | succ j ih =>
    show (if zhu B p k j n = true then j + 1 else zpgU B n p k j) ≤ j + 1
    by_cases c : zhu B p k j n = true
    · rw [if_pos c]; exact Nat.le_refl _
    · rw [if_neg c]; omega
theorem zpgU_s {B : Nat → Nat → Nat} {n k j : Nat} {p : Nat → Nat} (h : zpgU B n p k j ≠ 0) : zhu B p k (zpgU B n p k j - 1) n = true := by
  induction j with
  | zero => exact absurd rfl h
  | succ j ih =>
    by_cases c : zhu B p k j n = true
    · have e1 : zpgU B n p k (j + 1) = j + 1 := if_pos c
      rw [e1]; exact c
    · have e1 : zpgU B n p k (j + 1) = zpgU B n p k j := if_neg c
      rw [e1] at h ⊢; exact ih h
theorem zpgU_0 {B : Nat → Nat → Nat} {n k j : Nat} {p : Nat → Nat} (h : zpgU B n p k j = 0) : ∀ i, i < j → ¬ zhu B p k i n = true := by
  induction j with
  | zero => intro i hi; omega
  | succ j ih =>
    by_cases c : zhu B p k j n = true
    · have e1 : zpgU B n p k (j + 1) = j + 1 := if_pos c
      omega
    · have e1 : zpgU B n p k (j + 1) = zpgU B n p k j := if_neg c
      rw [e1] at h
      intro i hi
      by_cases q : i = j
      · rw [q]; exact c
      · exact ih h i (by omega)
theorem zpaU_pos {B : Nat → Nat → Nat} {n k : Nat} {p : Nat → Nat} (hM : zMol n B) (hI : zI n k p) (h0 : 0 < k) (hk : k < n) : zpaU B n p k ≠ 0 := by
  intro h
  have h1 := zpgU_0 h
  obtain ⟨m1, m2, m3, m4, m5, m6⟩ := hM
  have key := zConn_at (n := n) (A := fun i j => B i j ≠ 0) (fun i j hi hj q => by show B j i ≠ 0; rw [m2 j i (by omega) (by omega)]; exact q) m5 (fun y => zu p y k = true) (p 0) (hI.1 0 h0) (zu_t.mpr ⟨0, h0, rfl⟩) (by
    intro a b ha hb hab hsa
    obtain ⟨i, hi, ei⟩ := zu_t.mp hsa
    show zu p b k = true
    cases c : zu p b k
    · exfalso
      exact h1 i hi (zhu_t.mpr ⟨b, hb, c, by rw [ei]; exact hab⟩)
    · rfl)
  have all := zfc_all k hI (by omega)
  have z : zfc p k n 0 = 0 := zs_zero (fun b hb => if_neg (fun q => by have := key b hb; rw [q.2] at this; exact Bool.noConfusion this))
  omega
def zcU (B : Nat → Nat → Nat) (n : Nat) (p : Nat → Nat) (k : Nat) : Nat := zs (fun i => if zpaU B n p (i + 1) ≠ i + 1 then 1 else 0) k
theorem zcU_eq {B : Nat → Nat → Nat} {n k : Nat} {p q : Nat → Nat} (hq : zP n q) (e : ∀ x, x < k → q x = p x) (hk : k ≤ n) : zcc (zpa (zbp B q) n) k = zcU B n p k := by
  refine zs_congr (fun i hi => ?_)
  rw [zpaU_eq (k := i + 1) hq (fun x hx => e x (by omega)) (by omega)]
theorem zcU_congr {B : Nat → Nat → Nat} {n k : Nat} {p q : Nat → Nat} (e : ∀ x, x < k → p x = q x) : zcU B n p k = zcU B n q k := by
  refine zs_congr (fun i hi => ?_)
  rw [zpaU_congr (k := i + 1) (fun x hx => e x (by omega))]
theorem zcU_le {B : Nat → Nat → Nat} {n k : Nat} {p : Nat → Nat} : zcU B n p k ≤ k := zcc_le (fun i => zpaU B n p i) k
/-- so far a listing -/
def zLp (B : Nat → Nat → Nat) (n : Nat) (p : Nat → Nat) (k : Nat) : Prop := ∀ j, 0 < j → j < k → B (p (zpaU B n p j - 1)) (p j) ≠ 0
theorem zpaU_le {B : Nat → Nat → Nat} {n k : Nat} {p : Nat → Nat} : zpaU B n p k ≤ k := zpgU_le
theorem zLp_up {B : Nat → Nat → Nat} {n k a : Nat} {p : Nat → Nat} (h : zLp B n p k) (ha : 0 < k → zpaU B n p k ≠ 0 ∧ B (p (zpaU B n p k - 1)) a ≠ 0) : zLp B n (zup p k a) (k + 1) := by
  intro j h0 hj
  have e : zpaU B n (zup p k a) j = zpaU B n p j := zpaU_congr (fun x hx => zup_n (by omega))
  have le := zpaU_le (B := B) (n := n) (k := j) (p := p)
  rw [e]
  by_cases c : j = k
  · have hk := ha (by omega)
    rw [c, zup_s]
    rw [c] at le
    rw [zup_n (by omega)]; exact hk.2
  · rw [zup_n (show zpaU B n p j - 1 ≠ k by omega), zup_n c]; exact h j h0 (by omega)
theorem zLp_all {B : Nat → Nat → Nat} {n : Nat} {p : Nat → Nat} (hM : zMol n B) (hp : zP n p) : zLp B n p n ↔ zisL n B p := by
  constructor
  · intro h k h0 hk
    have e := zpaU_eq (B := B) (k := k) hp (fun _ _ => rfl) (by omega)
    refine ⟨zpa_pos hM hp h0 hk, ?_⟩
    rw [e]; exact h k h0 hk
  · intro h k h0 hk
    have e := zpaU_eq (B := B) (k := k) hp (fun _ _ => rfl) (by omega)
    have q := (h k h0 hk).2
    rw [e] at q; exact q
/-- a listing that begins otherwise than allowed is none -/
theorem zLp_not {B : Nat → Nat → Nat} {n k : Nat} {p q : Nat → Nat} (hq : zP n q) (h : zisL n B q) (e : ∀ x, x < k + 1 → q x = p x) (hk : k < n) (h0 : 0 < k) : B (p (zpaU B n p k - 1)) (p k) ≠ 0 := by
  have e1 := zpaU_eq (B := B) (k := k) hq (fun x hx => e x (by omega)) (by omega)
  have r := h k h0 hk
  rw [e1] at r
  have le := zpaU_le (B := B) (n := n) (k := k) (p := p)
  have r2 : B (q (zpaU B n p k - 1)) (q k) ≠ 0 := r.2
  rw [e k (by omega), e _ (by omega)] at r2
  exact r2
/-- there is a listing from every root -/
theorem zL_ex {B : Nat → Nat → Nat} {n r : Nat} (hM : zMol n B) (hr : r < n) : ∃ p, zP n p ∧ p 0 = r ∧ zisL n B p := by
  have key : ∀ k, 1 ≤ k → k ≤ n → ∃ p, zI n k p ∧ p 0 = r ∧ zLp B n p k := by
    intro k
    induction k with
    | zero => intro h; omega
    | succ k ih =>
      intro _ hk
      by_cases c : k = 0
      · subst c
        exact ⟨fun _ => r, ⟨fun i _ => hr, fun i j hi hj _ => by omega⟩, rfl, fun j h0 hj => by omega⟩
      · obtain ⟨p, p1, p2, p3⟩ := ih (by omega) (by omega)
        have hne := zpaU_pos hM p1 (by omega) (by omega)
        obtain ⟨b, b1, b2, b3⟩ := zhu_t.mp (zpgU_s hne)
        exact ⟨zup p k b, zI_up p1 b1 b2, by rw [zup_n (by omega)]; exact p2, zLp_up p3 (fun _ => ⟨hne, b3⟩)⟩
  obtain ⟨p, p1, p2, p3⟩ := key n (by omega) (Nat.le_refl _)
  exact ⟨p, p1, p2, (zLp_all hM p1).mp p3⟩
theorem zG_pos {n : Nat} {ka : Nat → Nat} {B : Nat → Nat → Nat} {ok : Nat → Prop} {r : Nat} {s : Nat × List Nat × (Nat → Nat)} (hM : zMol n B) (hr : r < n) (hok : ok r) (hs : s.1 = 0) : (zT n (zG n ka B ok) n 0 (fun x => x) s).1 ≠ 0 := by
  obtain ⟨q, q1, q2, q3⟩ := zL_ex hM hr
  refine zT_hit (fun (s : Nat × List Nat × (Nat → Nat)) => s.1 ≠ 0) q q1 (fun p s _ h => zG_n0 h) (fun p s e => ?_) n 0 (by omega) _ _ (zI_0 n _) (fun x hx => by omega)
  have ec : zcut n p = zcut n q := zcut_eq e
  have hL : zisL n B (zcut n q) := by
    refine (zLp_all hM (zcut_P q1)).mp (fun j h0 hj => ?_)
    have le := zpaU_le (B := B) (n := n) (k := j) (p := q)
    rw [zpaU_congr (q := q) (fun x hx => zcut_e (by omega)), zcut_e (by omega), zcut_e hj]
    exact (zLp_all hM q1).mpr q3 j h0 hj
  have c : ok (zcut n p 0) ∧ zisL n B (zcut n p) := by
    rw [ec]; exact ⟨by rw [zcut_e (by omega), q2]; exact hok, hL⟩
  by_cases d : s.1 = 0
  · rw [zG_new c (Or.inl d)]; exact Nat.one_ne_zero
  · exact zG_n0 d
end
section
/-! ===== X: buildDraft ===== -/
def zHc (l : List Nat) (len : Int32) (a : Nat → Int32) : Prop := len = nI (min l.length 64) ∧ ∀ i, i < l.length → i < 64 → a i = nI (zat l i)
theorem zHc_nil (a : Nat → Int32) : zHc [] 0 a := ⟨rfl, fun i hi => absurd hi (Nat.not_lt_zero _)⟩
theorem zHc_full {l : List Nat} {len : Int32} {a : Nat → Int32} {c : Nat} (h : zHc l len a) (hl : 64 ≤ l.length) : zHc (l ++ [c]) len a := by
  refine ⟨?_, fun i hi h64 => ?_⟩
  · rw [h.1, List.length_append]
    congr 1
    show min l.length 64 = min (l.length + 1) 64
    omega
  · rw [zat_l (by omega)]; exact h.2 i (by omega) h64
theorem zHc_push {l : List Nat} {len : Int32} {a : Nat → Int32} {c : Nat} (h : zHc l len a) (hl : l.length < 64) : zHc (l ++ [c]) (nI (l.length + 1)) (upd a l.length (nI c)) := by
  refine ⟨?_, fun i hi h64 => ?_⟩
  · rw [List.length_append]
    congr 1
    show l.length + 1 = min (l.length + 1) 64
    omega
  · rw [List.length_append] at hi
    have hi' : i < l.length + 1 := hi
    by_cases e : i = l.length
    · rw [e, pk_us, zat_e]
    · rw [pk_un e, zat_l (by omega)]; exact h.2 i (by omega) h64
theorem zHc_len {l : List Nat} {len : Int32} {a : Nat → Int32} (h : zHc l len a) (hl : l.length < 64) : len = nI l.length := by
  rw [h.1]; congr 1; omega
def zpI (s : Nat) : Int32 := if s = 0 then -1 else nI (s - 1)
theorem zpI_0 : zpI 0 = -1 := rfl
theorem zpI_s (j : Nat) : zpI (j + 1) = nI j := rfl
theorem zpI_eq {s j : Nat} (hs : s < 1000) (hj : j < 1000) : zpI s = nI j ↔ s = j + 1 := by
  cases s with
  | zero => exact ⟨fun z => absurd z (zm1n j (by omega)), fun z => by omega⟩
  | succ s =>
    rw [zpI_s, nI_eq (by omega) (by omega)]
    omega
theorem zpI_inj {s t : Nat} (hs : s < 1000) (ht : t < 1000) : zpI s = zpI t ↔ s = t := by
  cases t with
  | zero =>
    cases s with
    | zero => exact ⟨fun _ => rfl, fun _ => rfl⟩
    | succ s =>
      rw [zpI_s, zpI_0]
      exact ⟨fun z => absurd z.symm (zm1n s (by omega)), fun z => by omega⟩
  | succ t => rw [zpI_s, zpI_eq hs (by omega)]
/-- the digits in use, as X keeps them -/
def zXd (F : Nat → Nat) (us : Int32) (pd : Nat → Int32) : Prop := (∀ d, 1 ≤ d → d ≤ 9 → (bt us d = true ↔ F d ≠ 0)) ∧ (∀ d, F d ≠ 0 → pd (F d - 1) = nI d)
/-- places and parents -/
def zPl (n : Nat) (p pa : Nat → Nat) (a_place a_parent : Nat → Int32) : Prop := ∀ k, k < n → a_place k = nI (p k) ∧ p k < 8 ∧ a_parent k = zpI (pa k) ∧ pa k ≤ 8
section
variable {f_atomLimit f_ringLimit f_slotCount f_readState f_currentAtom f_pendingOrder f_branchDepth f_writtenLength f_writtenAtoms f_writtenCount f_bestClosed f_draftLength : Int32} {a_count a_kinds a_bonds a_branches a_ringAtom a_ringOrder a_line a_listing a_draft a_near a_place a_parent a_closed a_left a_pairDigit a_image a_signature a_nextSignature : Nat → Int32}
theorem zx_app {post : SX → Prop} {l : List Nat} {c : Nat} (h : zHc l f_draftLength a_draft) (hp : ∀ len a, zHc (l ++ [c]) len a → post (f_atomLimit, f_ringLimit, f_slotCount, f_readState, f_currentAtom, f_pendingOrder, f_branchDepth, f_writtenLength, f_writtenAtoms, f_writtenCount, f_bestClosed, len, a_count, a_kinds, a_bonds, a_branches, a_ringAtom, a_ringOrder, a_line, a_listing, a, a_near, a_place, a_parent, a_closed, a_left, a_pairDigit, a_image, a_signature, a_nextSignature)) : wpX_append post (f_atomLimit, f_ringLimit, f_slotCount, f_readState, f_currentAtom, f_pendingOrder, f_branchDepth, f_writtenLength, f_writtenAtoms, f_writtenCount, f_bestClosed, f_draftLength, a_count, a_kinds, a_bonds, a_branches, a_ringAtom, a_ringOrder, a_line, a_listing, a_draft, a_near, a_place, a_parent, a_closed, a_left, a_pairDigit, a_image, a_signature, a_nextSignature) (nI c) := by
  unfold wpX_append
  dsimp only
  by_cases hl : 64 ≤ l.length
  · refine br_t ?_ (hp _ _ (zHc_full h hl))
    rw [h.1]; exact nI_le (a := 64) (by omega) (by omega)
  · have e := zHc_len h (by omega)
    refine br_f (by rw [e]; exact nI_ge (b := 64) (by omega) (by decide)) ?_
    rw [e, zcl (by omega)]
    exact ⟨zin (by omega) (by decide), nm_e (nm_r (nI_1 _) (hp _ _ (zHc_push h (by omega))))⟩
theorem zx_sym {post : SX → Prop} {l : List Nat} {b : Nat} (hb : b ≤ 3) (h : zHc l f_draftLength a_draft) (hp : ∀ len a, zHc (l ++ zsy b) len a → post (f_atomLimit, f_ringLimit, f_slotCount, f_readState, f_currentAtom, f_pendingOrder, f_branchDepth, f_writtenLength, f_writtenAtoms, f_writtenCount, f_bestClosed, len, a_count, a_kinds, a_bonds, a_branches, a_ringAtom, a_ringOrder, a_line, a_listing, a, a_near, a_place, a_parent, a_closed, a_left, a_pairDigit, a_image, a_signature, a_nextSignature)) : wpX_appendSymbol post (f_atomLimit, f_ringLimit, f_slotCount, f_readState, f_currentAtom, f_pendingOrder, f_branchDepth, f_writtenLength, f_writtenAtoms, f_writtenCount, f_bestClosed, f_draftLength, a_count, a_kinds, a_bonds, a_branches, a_ringAtom, a_ringOrder, a_line, a_listing, a_draft, a_near, a_place, a_parent, a_closed, a_left, a_pairDigit, a_image, a_signature, a_nextSignature) (nI b) := by
  unfold wpX_appendSymbol
  dsimp only
  by_cases e2 : b = 2
  · subst e2; exact br_t rfl (zx_app (c := 61) h hp)
  by_cases e3 : b = 3
  · subst e3; exact br_f (by decide) (br_t rfl (zx_app (c := 35) h hp))
  · rw [zsy_n e2 e3, List.append_nil] at hp
    exact br_f (fun z => e2 ((nI_eq (b := 2) (by omega) (by decide)).mp z)) (br_f (fun z => e3 ((nI_eq (b := 3) (by omega) (by decide)).mp z)) (hp _ _ h))
theorem zx_lat {post : Int32 → Prop} {n k : Nat} {p pa : Nat → Nat} (hn : n ≤ 8) (hk : k < n) (hP : zPl n p pa a_place a_parent) (hT : zlat pa k n = true → post 1) (hF : ¬ zlat pa k n = true → post 0) : wpX_hasLaterSibling post (f_atomLimit, f_ringLimit, f_slotCount, f_readState, f_currentAtom, f_pendingOrder, f_branchDepth, f_writtenLength, f_writtenAtoms, f_writtenCount, f_bestClosed, f_draftLength, a_count, a_kinds, a_bonds, a_branches, a_ringAtom, a_ringOrder, a_line, a_listing, a_draft, a_near, a_place, a_parent, a_closed, a_left, a_pairDigit, a_image, a_signature, a_nextSignature) (nI k) (nI n) := by
  have key : ∀ d c, c + d = n → k < c → (∀ e, k < e → e < c → ¬ pa e = pa k) → wX_hasLaterSibling_4 post (nI k) (nI n) f_atomLimit f_ringLimit f_slotCount f_readState f_currentAtom f_pendingOrder f_branchDepth f_writtenLength f_writtenAtoms f_writtenCount f_bestClosed f_draftLength a_count a_kinds a_bonds a_branches a_ringAtom a_ringOrder a_line a_listing a_draft a_near a_place a_parent a_closed a_left a_pairDigit a_image a_signature a_nextSignature (d + 1) (nI c) := by
    intro d
    induction d with
    | zero =>
      intro c hc h1 h2
      refine br_t (nI_le (by omega) (by omega)) (hF (fun z => ?_))
      obtain ⟨e, e1, e2, e3⟩ := zlat_t.mp z
      exact h2 e e1 (by omega) e3
    | succ d ih =>
      intro c hc h1 h2
      refine br_f (nI_ge (by omega) (by omega)) ⟨zin (by omega) (by decide), zin (by omega) (by decide), ?_⟩
      have pc := hP c (by omega)
      have pk := hP k hk
      rw [zcl (show c < 1000000 by omega), zcl (show k < 1000000 by omega), pc.2.2.1, pk.2.2.1]
      by_cases e : pa c = pa k
      · exact br_t (by rw [e]) (hT (zlat_t.mpr ⟨c, h1, by omega, e⟩))
      · refine br_f (fun z => e ((zpI_inj (by omega) (by omega)).mp z)) (nm_r (nI_1 c) (ih (c + 1) (by omega) (by omega) (fun x x1 x2 => ?_)))
        by_cases q : x = c
        · rw [q]; exact e
        · exact h2 x x1 (by omega)
  unfold wpX_hasLaterSibling
  dsimp only
  exact nm_r (nI_1 k) ⟨n - (k + 1) + 1, key (n - (k + 1)) (k + 1) (by omega) (by omega) (fun e e1 e2 => by omega)⟩
theorem zx_lfd {post : Int32 → Prop} {F : Nat → Nat} {us : Int32} (h : ∀ d, 1 ≤ d → d ≤ 9 → (bt us d = true ↔ F d ≠ 0)) (hp : post (nI (zfd F 0))) : wpX_leastFreeDigit post (f_atomLimit, f_ringLimit, f_slotCount, f_readState, f_currentAtom, f_pendingOrder, f_branchDepth, f_writtenLength, f_writtenAtoms, f_writtenCount, f_bestClosed, f_draftLength, a_count, a_kinds, a_bonds, a_branches, a_ringAtom, a_ringOrder, a_line, a_listing, a_draft, a_near, a_place, a_parent, a_closed, a_left, a_pairDigit, a_image, a_signature, a_nextSignature) us := by
  have key : ∀ m d, d + m = 9 → 1 ≤ d → post (nI (zfr F 0 m d)) → wX_leastFreeDigit_2 post us f_atomLimit f_ringLimit f_slotCount f_readState f_currentAtom f_pendingOrder f_branchDepth f_writtenLength f_writtenAtoms f_writtenCount f_bestClosed f_draftLength a_count a_kinds a_bonds a_branches a_ringAtom a_ringOrder a_line a_listing a_draft a_near a_place a_parent a_closed a_left a_pairDigit a_image a_signature a_nextSignature (m + 1) (nI d) := by
    intro m
    induction m with
    | zero =>
      intro d hd h1 hq
      have : d = 9 := by omega
      subst this
      exact br_t (by decide) hq
    | succ m ih =>
      intro d hd h1 hq
      refine br_f (nI_ge (b := 9) (by omega) (by decide)) ?_
      have e : zfr F 0 (m + 1) d = if F d = 0 then d else zfr F 0 m (d + 1) := rfl
      rw [e] at hq
      by_cases c : F d = 0
      · rw [if_pos c] at hq
        refine br_t ((zbtst (by omega)).mpr ?_) hq
        cases q : bt us d
        · rfl
        · exact absurd c ((h d h1 (by omega)).mp q)
      · rw [if_neg c] at hq
        refine br_f (fun z => ?_) (nm_r (nI_1 d) (ih (d + 1) (by omega) (by omega) hq))
        have b1 := (zbtst (by omega)).mp z
        have b2 := (h d h1 (by omega)).mpr c
        rw [b1] at b2; exact Bool.noConfusion b2
  unfold wpX_leastFreeDigit
  dsimp only
  exact ⟨9, key 8 1 (by omega) (by omega) hp⟩
theorem zx_cls {post : Int32 → SX → Prop} {m n k : Nat} {p pa : Nat → Nat} {s : List Nat × (Nat → Nat)} (hb : zBd a_bonds) (hm : m < 3) (hn : n ≤ 8) (hk : k < n) (hP : zPl n p pa a_place a_parent)
    (hI : ∀ j, j ≤ k → zPI n (zbp (zbm a_bonds m) p) pa k j 0 (zF (zclh (zbp (zbm a_bonds m) p) pa k) j s).2)
    (hp : ∀ us len a, zXd (zF (zclh (zbp (zbm a_bonds m) p) pa k) k s).2 us a_pairDigit → zHc (zF (zclh (zbp (zbm a_bonds m) p) pa k) k s).1 len a → post us (f_atomLimit, f_ringLimit, f_slotCount, f_readState, f_currentAtom, f_pendingOrder, f_branchDepth, f_writtenLength, f_writtenAtoms, f_writtenCount, f_bestClosed, len, a_count, a_kinds, a_bonds, a_branches, a_ringAtom, a_ringOrder, a_line, a_listing, a, a_near, a_place, a_parent, a_closed, a_left, a_pairDigit, a_image, a_signature, a_nextSignature)) :
    ∀ d j, j + d = k → ∀ us len a, zXd (zF (zclh (zbp (zbm a_bonds m) p) pa k) j s).2 us a_pairDigit → zHc (zF (zclh (zbp (zbm a_bonds m) p) pa k) j s).1 len a → wX_appendClosings_6 post (nI (m * 64)) (nI k) (d + 1) us (nI j) f_atomLimit f_ringLimit f_slotCount f_readState f_currentAtom f_pendingOrder f_branchDepth f_writtenLength f_writtenAtoms f_writtenCount f_bestClosed len a_count a_kinds a_bonds a_branches a_ringAtom a_ringOrder a_line a_listing a a_near a_place a_parent a_closed a_left a_pairDigit a_image a_signature a_nextSignature := by
  intro d
  induction d with
  | zero =>
    intro j hj us len a h1 h2
    have : j = k := by omega
    subst this
    exact br_t (nI_le (Nat.le_refl _) (by omega)) (hp us len a h1 h2)
  | succ d ih =>
    intro j hj us len a h1 h2
    have pk := hP k hk
    have pj := hP j (by omega)
    have es : zF (zclh (zbp (zbm a_bonds m) p) pa k) (j + 1) s = zclh (zbp (zbm a_bonds m) p) pa k j (zF (zclh (zbp (zbm a_bonds m) p) pa k) j s) := rfl
    have ih' := ih (j + 1) (by omega)
    rw [es] at ih'
    have hIj := hI j (by omega)
    generalize zF (zclh (zbp (zbm a_bonds m) p) pa k) j s = sj at h1 h2 ih' hIj
    refine br_f (nI_ge (by omega) (by omega)) ⟨zin (by omega) (by decide), ?_⟩
    rw [zcl (show k < 1000000 by omega), zcl (show j < 1000000 by omega), pk.2.2.1, pk.1, pj.1]
    unfold zclh at ih'
    by_cases c1 : pa k = j + 1
    · have nr : ¬ zrb (zbp (zbm a_bonds m) p) pa j k = true := fun z => (zrb_t.mp z).2 c1
      rw [if_neg nr] at ih'
      exact br_t ((zpI_eq (by omega) (by omega)).mpr c1).symm (nm_r (nI_1 j) (ih' us len a h1 h2))
    · obtain ⟨x1, x2⟩ := zrx hm pj.2.1 pk.2.1
      refine br_f (fun z => c1 ((zpI_eq (by omega) (by omega)).mp z.symm)) ⟨zin (by omega) (by decide), zin (by omega) (by decide), x1, ?_⟩
      rw [x2]
      by_cases c2 : a_bonds (m * 64 + p j * 8 + p k) = 0
      · have nr : ¬ zrb (zbp (zbm a_bonds m) p) pa j k = true := fun z => (zrb_t.mp z).1 ((zBd_z hb _).mp c2)
        rw [if_neg nr] at ih'
        exact br_t c2 (nm_r (nI_1 j) (ih' us len a h1 h2))
      · have r : zrb (zbp (zbm a_bonds m) p) pa j k = true := zrb_t.mpr ⟨fun z => c2 ((zBd_z hb _).mpr z), c1⟩
        rw [if_pos r] at ih'
        have e8 : nI j * 8 + nI k = nI (j * 8 + k) := zkx j k
        refine br_f c2 ?_
        rw [e8, zcl (show j * 8 + k < 1000000 by omega)]
        obtain ⟨d1, d2, d3, d4⟩ := zfd_spec (zPI_ex hIj hk (by omega) r)
        have ed : a_pairDigit (j * 8 + k) = nI (zfd sj.2 (1 + 8 * j + k)) := by
          have q := h1.2 (zfd sj.2 (1 + 8 * j + k)) (by omega)
          rw [d3] at q
          have e : 1 + 8 * j + k - 1 = j * 8 + k := by omega
          rw [e] at q; exact q
        rw [ed]
        have e48 : (48 : Int32) + nI (zfd sj.2 (1 + 8 * j + k)) = nI (48 + zfd sj.2 (1 + 8 * j + k)) := nI_add 48 _
        refine ⟨zin (by omega) (by decide), nm_e ?_⟩
        rw [e48]
        refine zx_app h2 (fun len' a' h' => nm_e (nm_r (nI_1 j) (ih' _ len' a' ?_ h')))
        refine ⟨fun e e1 e2 => ?_, fun e he => ?_⟩
        · show bt _ e = true ↔ zup sj.2 (zfd sj.2 (1 + 8 * j + k)) 0 e ≠ 0
          rw [b_and, zbnot (by omega), zbsh _ (by omega) e (by omega)]
          by_cases q : e = zfd sj.2 (1 + 8 * j + k)
          · rw [q, zup_s, decide_eq_true rfl, Bool.not_true, Bool.and_false]
            exact ⟨fun z => Bool.noConfusion z, fun z => absurd rfl z⟩
          · rw [zup_n q, decide_eq_false q, Bool.not_false, Bool.and_true]
            exact h1.1 e e1 e2
        · have he' : zup sj.2 (zfd sj.2 (1 + 8 * j + k)) 0 e ≠ 0 := he
          show a_pairDigit (zup sj.2 (zfd sj.2 (1 + 8 * j + k)) 0 e - 1) = nI e
          by_cases q : e = zfd sj.2 (1 + 8 * j + k)
          · rw [q, zup_s] at he'; exact absurd rfl he'
          · rw [zup_n q] at he' ⊢; exact h1.2 e he'
theorem zx_ops {post : Int32 → SX → Prop} {m n k : Nat} {p pa : Nat → Nat} {s : List Nat × (Nat → Nat)} (hb : zBd a_bonds) (hm : m < 3) (hn : n ≤ 8) (hk : k < n) (hP : zPl n p pa a_place a_parent) (h9 : zod n (zbp (zbm a_bonds m) p) pa n 0 ≤ 9)
    (hI : ∀ o, o ≤ n → zPI n (zbp (zbm a_bonds m) p) pa k k o (zF (zoph (zbp (zbm a_bonds m) p) pa k) o s).2)
    (hp : ∀ us len a pd, zXd (zF (zoph (zbp (zbm a_bonds m) p) pa k) n s).2 us pd → zHc (zF (zoph (zbp (zbm a_bonds m) p) pa k) n s).1 len a → post us (f_atomLimit, f_ringLimit, f_slotCount, f_readState, f_currentAtom, f_pendingOrder, f_branchDepth, f_writtenLength, f_writtenAtoms, f_writtenCount, f_bestClosed, len, a_count, a_kinds, a_bonds, a_branches, a_ringAtom, a_ringOrder, a_line, a_listing, a, a_near, a_place, a_parent, a_closed, a_left, pd, a_image, a_signature, a_nextSignature)) :
    ∀ d o, o + d = n → k < o → ∀ us len a pd, zXd (zF (zoph (zbp (zbm a_bonds m) p) pa k) o s).2 us pd → zHc (zF (zoph (zbp (zbm a_bonds m) p) pa k) o s).1 len a → wX_appendOpenings_9 post (nI (m * 64)) (nI k) (nI n) (d + 1) us (nI o) f_atomLimit f_ringLimit f_slotCount f_readState f_currentAtom f_pendingOrder f_branchDepth f_writtenLength f_writtenAtoms f_writtenCount f_bestClosed len a_count a_kinds a_bonds a_branches a_ringAtom a_ringOrder a_line a_listing a a_near a_place a_parent a_closed a_left pd a_image a_signature a_nextSignature := by
  intro d
  induction d with
  | zero =>
    intro o ho hko us len a pd h1 h2
    have : o = n := by omega
    subst this
    exact br_t (nI_le (Nat.le_refl _) (by omega)) (hp us len a pd h1 h2)
  | succ d ih =>
    intro o ho hko us len a pd h1 h2
    have pk := hP k hk
    have po := hP o (by omega)
    have es : zF (zoph (zbp (zbm a_bonds m) p) pa k) (o + 1) s = zoph (zbp (zbm a_bonds m) p) pa k o (zF (zoph (zbp (zbm a_bonds m) p) pa k) o s) := rfl
    have ih' := ih (o + 1) (by omega) (by omega)
    rw [es] at ih'
    have hIo := hI o (by omega)
    generalize zF (zoph (zbp (zbm a_bonds m) p) pa k) o s = sj at h1 h2 ih' hIo
    obtain ⟨x1, x2⟩ := zrx hm pk.2.1 po.2.1
    refine br_f (nI_ge (by omega) (by omega)) ⟨zin (by omega) (by decide), zin (by omega) (by decide), ?_⟩
    rw [zcl (show k < 1000000 by omega), zcl (show o < 1000000 by omega), pk.1, po.1, po.2.2.1, x2]
    refine ⟨x1, nm_e ?_⟩
    unfold zoph at ih'
    by_cases c2 : a_bonds (m * 64 + p k * 8 + p o) = 0
    · have nr : ¬ (k < o ∧ zrb (zbp (zbm a_bonds m) p) pa k o = true) := fun z => (zrb_t.mp z.2).1 ((zBd_z hb _).mp c2)
      rw [if_neg nr] at ih'
      exact br_t c2 (nm_r (nI_1 o) (ih' us len a pd h1 h2))
    · refine br_f c2 ⟨zin (by omega) (by decide), ?_⟩
      by_cases c1 : pa o = k + 1
      · have nr : ¬ (k < o ∧ zrb (zbp (zbm a_bonds m) p) pa k o = true) := fun z => (zrb_t.mp z.2).2 c1
        rw [if_neg nr] at ih'
        exact br_t ((zpI_eq (by omega) (by omega)).mpr c1) (nm_r (nI_1 o) (ih' us len a pd h1 h2))
      · have r : zrb (zbp (zbm a_bonds m) p) pa k o = true := zrb_t.mpr ⟨fun z => c2 ((zBd_z hb _).mpr z), c1⟩
        rw [if_pos ⟨hko, r⟩] at ih'
        have e8 : nI k * 8 + nI o = nI (k * 8 + o) := zkx k o
        obtain ⟨d1, d2, d3, d4⟩ := zfd_spec (zPI_fr h9 hk (by omega) hko r hIo)
        refine br_f (fun z => c1 ((zpI_eq (by omega) (by omega)).mp z)) (zx_lfd h1.1 ?_)
        rw [e8, zcl (show k * 8 + o < 1000000 by omega)]
        have e48 : (48 : Int32) + nI (zfd sj.2 0) = nI (48 + zfd sj.2 0) := nI_add 48 _
        refine ⟨zin (by omega) (by decide), nm_e (nm_e ?_)⟩
        rw [(hb (m * 64 + p k * 8 + p o)).1]
        refine zx_sym (hb _).2 h2 (fun len1 a1 g1 => ?_)
        dsimp only
        rw [e48]
        refine zx_app g1 (fun len2 a2 g2 => nm_r (nI_1 o) (ih' _ len2 a2 _ ?_ g2))
        have hbnd := hIo.1
        refine ⟨fun e e1 e2 => ?_, fun e he => ?_⟩
        · show bt _ e = true ↔ zup sj.2 (zfd sj.2 0) (1 + 8 * k + o) e ≠ 0
          rw [b_or, zbsh _ (by omega) e (by omega)]
          by_cases q : e = zfd sj.2 0
          · rw [q, zup_s, decide_eq_true rfl, Bool.or_true]
            exact ⟨fun _ => by omega, fun _ => rfl⟩
          · rw [zup_n q, decide_eq_false q, Bool.or_false]
            exact h1.1 e e1 e2
        · have he' : zup sj.2 (zfd sj.2 0) (1 + 8 * k + o) e ≠ 0 := he
          show upd pd (k * 8 + o) (nI (zfd sj.2 0)) (zup sj.2 (zfd sj.2 0) (1 + 8 * k + o) e - 1) = nI e
          by_cases q : e = zfd sj.2 0
          · rw [q, zup_s]
            have e : 1 + 8 * k + o - 1 = k * 8 + o := by omega
            rw [e, pk_us]
          · rw [zup_n q] at he' ⊢
            have := hbnd e
            rw [pk_un (by omega)]
            exact h1.2 e he'
end
end
section
section
variable {f_atomLimit f_ringLimit f_slotCount f_readState f_currentAtom f_pendingOrder f_branchDepth f_writtenLength f_writtenAtoms f_writtenCount f_bestClosed f_draftLength : Int32} {a_count a_kinds a_bonds a_branches a_ringAtom a_ringOrder a_line a_listing a_draft a_near a_place a_parent a_closed a_left a_pairDigit a_image a_signature a_nextSignature : Nat → Int32}
theorem zx_b84 {post : SX → Prop} {J : Int32 → Int32 → Int32 → Int32 → Int32 → Int32 → Int32 → Int32 → Int32 → Int32 → Int32 → Int32 → Int32 → Int32 → (Nat → Int32) → (Nat → Int32) → (Nat → Int32) → (Nat → Int32) → (Nat → Int32) → (Nat → Int32) → (Nat → Int32) → (Nat → Int32) → (Nat → Int32) → (Nat → Int32) → (Nat → Int32) → (Nat → Int32) → (Nat → Int32) → (Nat → Int32) → (Nat → Int32) → (Nat → Int32) → (Nat → Int32) → (Nat → Int32) → Prop}
    {us : Int32} {m n k : Nat} {p pa ka : Nat → Nat} {l : List Nat} {F : Nat → Nat} (hb : zBd a_bonds) (hm : m < 3) (hn : n ≤ 8) (hk : k < n) (hP : zPl n p pa a_place a_parent) (h9 : zod n (zbp (zbm a_bonds m) p) pa n 0 ≤ 9) (hK : a_kinds (m * 8 + p k) = nI (ka (p k)))
    (hH : zHc l f_draftLength a_draft) (hD : zXd F us a_pairDigit) (hI : zPI n (zbp (zbm a_bonds m) p) pa k 0 0 F)
    (hJ : ∀ us len a pd, zXd (zend pa n k (zF (zoph (zbp (zbm a_bonds m) p) pa k) n (zF (zclh (zbp (zbm a_bonds m) p) pa k) k (l ++ [ka (p k)], F)))).2 us pd → zHc (zend pa n k (zF (zoph (zbp (zbm a_bonds m) p) pa k) n (zF (zclh (zbp (zbm a_bonds m) p) pa k) k (l ++ [ka (p k)], F)))).1 len a → J us (nI (k + 1)) f_atomLimit f_ringLimit f_slotCount f_readState f_currentAtom f_pendingOrder f_branchDepth f_writtenLength f_writtenAtoms f_writtenCount f_bestClosed len a_count a_kinds a_bonds a_branches a_ringAtom a_ringOrder a_line a_listing a a_near a_place a_parent a_closed a_left pd a_image a_signature a_nextSignature) :
    wX_buildDraft_84 post J (nI m) (nI n) (nI (m * 64)) us (nI k) f_atomLimit f_ringLimit f_slotCount f_readState f_currentAtom f_pendingOrder f_branchDepth f_writtenLength f_writtenAtoms f_writtenCount f_bestClosed f_draftLength a_count a_kinds a_bonds a_branches a_ringAtom a_ringOrder a_line a_listing a_draft a_near a_place a_parent a_closed a_left a_pairDigit a_image a_signature a_nextSignature := by
  have pk := hP k hk
  unfold wX_buildDraft_84
  rw [zcl (show k < 1000000 by omega), pk.1, zkx_c (by omega) pk.2.1, hK]
  refine ⟨zin (by omega) (by decide), zkx_in (by omega) pk.2.1, zx_app hH (fun len1 a1 g1 => ?_)⟩
  have c1 := zPI_cls (s := (l ++ [ka (p k)], F)) hn hk hI
  have c2 := zPI_ops h9 hn hk (c1 k (Nat.le_refl k))
  unfold wpX_appendClosings
  dsimp only
  refine ⟨k + 1, zx_cls (s := (l ++ [ka (p k)], F)) hb hm hn hk hP c1 (fun us2 len2 a2 d2 g2 => ?_) k 0 (by omega) us len1 a1 hD g1⟩
  unfold wpX_appendOpenings
  dsimp only
  have skip : zF (zoph (zbp (zbm a_bonds m) p) pa k) (k + 1) (zF (zclh (zbp (zbm a_bonds m) p) pa k) k (l ++ [ka (p k)], F)) = zF (zclh (zbp (zbm a_bonds m) p) pa k) k (l ++ [ka (p k)], F) :=
    zF_skip (a := 0) (Nat.zero_le _) (fun c _ hc s => by unfold zoph; rw [if_neg (fun z => by omega)]) _
  refine nm_r (nI_1 k) ⟨n - (k + 1) + 1, zx_ops hb hm hn hk hP h9 c2 (fun us3 len3 a3 pd3 d3 g3 => ?_) (n - (k + 1)) (k + 1) (by omega) (by omega) us2 len2 a2 a_pairDigit (by rw [skip]; exact d2) (by rw [skip]; exact g2)⟩
  dsimp only
  have e1 : nI n - 1 = nI (n - 1) := by
    have := nI_pred (n - 1)
    have q : n - 1 + 1 = n := by omega
    rw [q] at this; exact this
  rw [e1]
  unfold zend at hJ
  by_cases c : n - 1 ≤ k
  · rw [if_neg (by omega)] at hJ
    exact br_t (nI_le c (by omega)) (nm_r (nI_1 k) (hJ us3 len3 a3 pd3 d3 g3))
  · have pk1 := hP (k + 1) (by omega)
    refine br_f (nI_ge (by omega) (by omega)) ?_
    rw [nI_1, zcl (show k + 1 < 1000000 by omega), pk1.2.2.1]
    refine ⟨zin (by omega) (by decide), ?_⟩
    by_cases e : pa (k + 1) = k + 1
    · rw [if_neg (fun z => z.2 e)] at hJ
      exact br_t ((zpI_eq (by omega) (by omega)).mpr e) (nm_e (hJ us3 len3 a3 pd3 d3 g3))
    · rw [if_pos ⟨by omega, e⟩] at hJ
      exact br_f (fun z => e ((zpI_eq (by omega) (by omega)).mp z)) (zx_app (c := 41) g3 (fun len4 a4 g4 => nm_e (hJ us3 len4 a4 pd3 d3 g4)))
theorem zx_b23 {post : SX → Prop} {m n : Nat} {p pa ka : Nat → Nat} (hb : zBd a_bonds) (hm : m < 3) (hn : n ≤ 8) (hP : zPl n p pa a_place a_parent) (hT : zTree n (zbp (zbm a_bonds m) p) pa) (h9 : zod n (zbp (zbm a_bonds m) p) pa n 0 ≤ 9) (hK : ∀ k, k < n → a_kinds (m * 8 + p k) = nI (ka (p k)))
    (hp : ∀ len a pd, zHc (zline n (fun k => ka (p k)) (zbp (zbm a_bonds m) p) pa) len a → post (f_atomLimit, f_ringLimit, f_slotCount, f_readState, f_currentAtom, f_pendingOrder, f_branchDepth, f_writtenLength, f_writtenAtoms, f_writtenCount, f_bestClosed, len, a_count, a_kinds, a_bonds, a_branches, a_ringAtom, a_ringOrder, a_line, a_listing, a, a_near, a_place, a_parent, a_closed, a_left, pd, a_image, a_signature, a_nextSignature)) :
    ∀ d k, k + d = n → ∀ us len a pd, zXd (zlf n (fun k => ka (p k)) (zbp (zbm a_bonds m) p) pa k).2 us pd → zHc (zlf n (fun k => ka (p k)) (zbp (zbm a_bonds m) p) pa k).1 len a → wX_buildDraft_23 post (nI m) (nI n) (nI (m * 64)) (d + 1) us (nI k) f_atomLimit f_ringLimit f_slotCount f_readState f_currentAtom f_pendingOrder f_branchDepth f_writtenLength f_writtenAtoms f_writtenCount f_bestClosed len a_count a_kinds a_bonds a_branches a_ringAtom a_ringOrder a_line a_listing a a_near a_place a_parent a_closed a_left pd a_image a_signature a_nextSignature := by
  intro d
  induction d with
  | zero =>
    intro k hk us len a pd h1 h2
    have : k = n := by omega
    subst this
    exact br_t (nI_le (Nat.le_refl _) (by omega)) (hp len a pd h2)
  | succ d ih =>
    intro k hk us len a pd h1 h2
    have hI := zPI_lf (ka := fun k => ka (p k)) h9 hn k (by omega)
    have es : zlf n (fun k => ka (p k)) (zbp (zbm a_bonds m) p) pa (k + 1) = zpl n (fun k => ka (p k)) (zbp (zbm a_bonds m) p) pa k (zlf n (fun k => ka (p k)) (zbp (zbm a_bonds m) p) pa k) := rfl
    have ih' := ih (k + 1) (by omega)
    rw [es] at ih'
    unfold zpl at ih'
    generalize zlf n (fun k => ka (p k)) (zbp (zbm a_bonds m) p) pa k = s at h1 h2 hI ih'
    refine br_f (nI_ge (by omega) (by omega)) ?_
    by_cases k0 : k = 0
    · have ez : zhd (zbp (zbm a_bonds m) p) pa n k s.1 = s.1 := if_pos k0
      rw [ez] at ih'
      exact br_t (by rw [k0]; decide) (zx_b84 hb hm hn (by omega) hP h9 (hK k (by omega)) h2 h1 hI ih')
    · have t := hT.2.1 k (by omega) (by omega)
      have pk := hP k (by omega)
      obtain ⟨j, ej⟩ : ∃ j, pa k = j + 1 := ⟨pa k - 1, by omega⟩
      have pj := hP j (by omega)
      have ez : zhd (zbp (zbm a_bonds m) p) pa n k s.1 = (if zlat pa k n = true then s.1 ++ [40] else s.1) ++ zsy (zbp (zbm a_bonds m) p j k) := by
        unfold zhd
        rw [if_neg k0, ej]
        rfl
      rw [ez] at ih'
      have go : ∀ l len a, zHc l len a → (l = if zlat pa k n = true then s.1 ++ [40] else s.1) → wX_buildDraft_50 post (wX_buildDraft_23 post (nI m) (nI n) (nI (m * 64)) (d + 1)) (nI m) (nI n) (nI (m * 64)) us (nI k) f_atomLimit f_ringLimit f_slotCount f_readState f_currentAtom f_pendingOrder f_branchDepth f_writtenLength f_writtenAtoms f_writtenCount f_bestClosed len a_count a_kinds a_bonds a_branches a_ringAtom a_ringOrder a_line a_listing a a_near a_place a_parent a_closed a_left pd a_image a_signature a_nextSignature := by
        intro l len a hl el
        obtain ⟨x1, x2⟩ := zrx hm pj.2.1 pk.2.1
        unfold wX_buildDraft_50
        rw [zcl (show k < 1000000 by omega), pk.2.2.1, ej, zpI_s, zcl (show j < 1000000 by omega), pk.1, pj.1, x2, (hb (m * 64 + p j * 8 + p k)).1]
        refine ⟨zin (by omega) (by decide), zin (by omega) (by decide), zin (by omega) (by decide), x1, zx_sym (hb _).2 hl (fun len1 a1 g1 => ?_)⟩
        have g1' : zHc ((if zlat pa k n = true then s.1 ++ [40] else s.1) ++ zsy (zbp (zbm a_bonds m) p j k)) len1 a1 := by rw [← el]; exact g1
        exact zx_b84 hb hm hn (by omega) hP h9 (hK k (by omega)) g1' h1 hI ih'
      refine br_f (nI_nle (by omega) (by omega)) (zx_lat hn (by omega) hP (fun q => ?_) (fun q => ?_))
      · exact br_f (by decide) (zx_app (c := 40) h2 (fun len1 a1 g1 => go _ len1 a1 g1 (by rw [if_pos q])))
      · exact br_t rfl (go s.1 len a h2 (by rw [if_neg q]))
theorem zx_bd {post : SX → Prop} {m n : Nat} {p pa ka : Nat → Nat} (hb : zBd a_bonds) (hm : m < 3) (hn : n ≤ 8) (hc : a_count m = nI n) (hP : zPl n p pa a_place a_parent) (hT : zTree n (zbp (zbm a_bonds m) p) pa) (h9 : zod n (zbp (zbm a_bonds m) p) pa n 0 ≤ 9) (hK : ∀ k, k < n → a_kinds (m * 8 + p k) = nI (ka (p k)))
    (hp : ∀ len a pd, zHc (zline n (fun k => ka (p k)) (zbp (zbm a_bonds m) p) pa) len a → post (f_atomLimit, f_ringLimit, f_slotCount, f_readState, f_currentAtom, f_pendingOrder, f_branchDepth, f_writtenLength, f_writtenAtoms, f_writtenCount, f_bestClosed, len, a_count, a_kinds, a_bonds, a_branches, a_ringAtom, a_ringOrder, a_line, a_listing, a, a_near, a_place, a_parent, a_closed, a_left, pd, a_image, a_signature, a_nextSignature)) : wpX_buildDraft post (f_atomLimit, f_ringLimit, f_slotCount, f_readState, f_currentAtom, f_pendingOrder, f_branchDepth, f_writtenLength, f_writtenAtoms, f_writtenCount, f_bestClosed, f_draftLength, a_count, a_kinds, a_bonds, a_branches, a_ringAtom, a_ringOrder, a_line, a_listing, a_draft, a_near, a_place, a_parent, a_closed, a_left, a_pairDigit, a_image, a_signature, a_nextSignature) (nI m) := by
  unfold wpX_buildDraft
  dsimp only
  rw [zcl (show m < 1000000 by omega), hc]
  exact ⟨zin (by omega) (by decide), nm_e (nm_r (zi64 m) ⟨n + 1, zx_b23 hb hm hn hP hT h9 hK hp n 0 (by omega) 0 0 a_draft a_pairDigit ⟨fun d _ _ => ⟨fun z => by rw [b_0] at z; exact Bool.noConfusion z, fun z => absurd rfl z⟩, fun d z => absurd rfl z⟩ (zHc_nil _)⟩)⟩
/-! ===== compare ===== -/
theorem zx_cmp {post : Int32 → Prop} {l t : List Nat} (hl : l.length ≤ 64) (ht : t.length ≤ 64) (sl : zsm l) (st : zsm t) (e1 : f_draftLength = nI l.length) (e2 : f_writtenLength = nI t.length) (a1 : ∀ i, i < l.length → a_draft i = nI (zat l i)) (a2 : ∀ i, i < t.length → a_line i = nI (zat t i))
    (hp : ∀ r, (r = 0 ↔ l = t) → (r < 0 ↔ zless l t) → post r) : wpX_compareDraft post (f_atomLimit, f_ringLimit, f_slotCount, f_readState, f_currentAtom, f_pendingOrder, f_branchDepth, f_writtenLength, f_writtenAtoms, f_writtenCount, f_bestClosed, f_draftLength, a_count, a_kinds, a_bonds, a_branches, a_ringAtom, a_ringOrder, a_line, a_listing, a_draft, a_near, a_place, a_parent, a_closed, a_left, a_pairDigit, a_image, a_signature, a_nextSignature) := by
  have key : l.length = t.length → ∀ d i, i + d = l.length → (∀ j, j < i → zat l j = zat t j) → wX_compareDraft_23 post f_atomLimit f_ringLimit f_slotCount f_readState f_currentAtom f_pendingOrder f_branchDepth f_writtenLength f_writtenAtoms f_writtenCount f_bestClosed f_draftLength a_count a_kinds a_bonds a_branches a_ringAtom a_ringOrder a_line a_listing a_draft a_near a_place a_parent a_closed a_left a_pairDigit a_image a_signature a_nextSignature (d + 1) (nI i) := by
    intro hlt d
    induction d with
    | zero =>
      intro i hi h
      have e : l = t := zat_ext hlt (fun j hj => h j (by omega))
      refine br_t (by rw [e1]; exact nI_le (by omega) (by omega)) (hp 0 ⟨fun _ => e, fun _ => rfl⟩ ⟨fun z => absurd z (by decide), fun z => absurd z (by rw [e]; exact zless_ir t)⟩)
    | succ d ih =>
      intro i hi h
      refine br_f (by rw [e1]; exact nI_ge (by omega) (by omega)) ⟨zin (by omega) (by decide), zin (by omega) (by decide), ?_⟩
      rw [zcl (show i < 1000000 by omega), a1 i (by omega), a2 i (by omega)]
      have b1 := zsm_at sl (i := i)
      have b2 := zsm_at st (i := i)
      by_cases c : zat l i = zat t i
      · refine br_t (by rw [c]) (nm_r (nI_1 i) (ih (i + 1) (by omega) (fun j hj => ?_)))
        by_cases q : j = i
        · rw [q]; exact c
        · exact h j (by omega)
      · refine br_f (fun z => c ((nI_eq (by omega) (by omega)).mp z)) ⟨zin (by omega) (by decide), zin (by omega) (by decide), hp _ ?_ ?_⟩
        · refine ⟨fun z => ?_, fun z => absurd (by rw [z]) c⟩
          have q := congrArg Int32.toInt z
          rw [pk_sub_toInt (by omega) (by omega)] at q
          have q0 : (0 : Int32).toInt = 0 := by decide
          omega
        · rw [Int32.lt_iff_toInt_lt, pk_sub_toInt (by omega) (by omega)]
          have q0 : (0 : Int32).toInt = 0 := by decide
          rw [q0]
          constructor
          · intro z
            exact Or.inr ⟨hlt, i, by omega, h, by omega⟩
          · intro z
            rcases Nat.lt_or_ge (zat l i) (zat t i) with q | q
            · omega
            · exact absurd z (zless_gt hlt (by omega) h (by omega)).1
  unfold wpX_compareDraft
  dsimp only
  by_cases c : l.length = t.length
  · exact br_t (by rw [e1, e2, c]) ⟨l.length + 1, key c l.length 0 (by omega) (fun j hj => by omega)⟩
  · refine br_f (by rw [e1, e2]; exact fun z => c ((nI_eq (by omega) (by omega)).mp z)) (hp _ ?_ ?_)
    · refine ⟨fun z => ?_, fun z => absurd (by rw [z]) c⟩
      rw [e1, e2] at z
      have q := congrArg Int32.toInt z
      rw [pk_sub_toInt (by omega) (by omega)] at q
      have q0 : (0 : Int32).toInt = 0 := by decide
      omega
    · rw [e1, e2, Int32.lt_iff_toInt_lt, pk_sub_toInt (by omega) (by omega)]
      have q0 : (0 : Int32).toInt = 0 := by decide
      rw [q0]
      constructor
      · intro z; exact Or.inl (by omega)
      · rintro (z | z)
        · omega
        · exact absurd z.1 c
end
end
section
/-! ===== Y: spell ===== -/
theorem zpI_pred (k : Nat) : nI k - 1 = zpI k := by
  cases k with
  | zero => decide
  | succ k => rw [nI_pred, zpI_s]
theorem zpI_m1 (j : Nat) : nI j + (-1) = zpI j := by
  cases j with
  | zero => decide
  | succ j => rw [pk_m1, zpI_s]
/-- the digits in use, as Y keeps them -/
def zYd (F : Nat → Nat) (df dt : Nat → Int32) : Prop := ∀ d, 1 ≤ d → d ≤ 9 → (F d = 0 ∧ df d = -1) ∨ (F d ≠ 0 ∧ df d = nI ((F d - 1) / 8) ∧ dt d = nI ((F d - 1) % 8))
section
variable {f_maxAtoms f_maxRings f_slotCount f_st f_cur f_pend f_depth f_lineLen f_listingLen f_count f_candLen : Int32} {a_size a_kinds a_bonds a_stack a_ringAtom a_ringOrder a_line a_listing a_perm a_cand a_digitFrom a_digitTo a_reach : Nat → Int32}
theorem zy_app {post : SY → Prop} {l : List Nat} {c : Nat} (h : zHc l f_candLen a_cand) (hp : ∀ len a, zHc (l ++ [c]) len a → post (f_maxAtoms, f_maxRings, f_slotCount, f_st, f_cur, f_pend, f_depth, f_lineLen, f_listingLen, f_count, len, a_size, a_kinds, a_bonds, a_stack, a_ringAtom, a_ringOrder, a_line, a_listing, a_perm, a, a_digitFrom, a_digitTo, a_reach)) : wpY_append post (f_maxAtoms, f_maxRings, f_slotCount, f_st, f_cur, f_pend, f_depth, f_lineLen, f_listingLen, f_count, f_candLen, a_size, a_kinds, a_bonds, a_stack, a_ringAtom, a_ringOrder, a_line, a_listing, a_perm, a_cand, a_digitFrom, a_digitTo, a_reach) (nI c) := by
  unfold wpY_append
  dsimp only
  by_cases hl : 64 ≤ l.length
  · refine br_t ?_ (hp _ _ (zHc_full h hl))
    rw [h.1]; exact nI_le (a := 64) (by omega) (by omega)
  · have e := zHc_len h (by omega)
    refine br_f (by rw [e]; exact nI_ge (b := 64) (by omega) (by decide)) ?_
    rw [e, zcl (by omega)]
    exact ⟨zin (by omega) (by decide), nm_e (nm_r (nI_1 _) (hp _ _ (zHc_push h (by omega))))⟩
theorem zy_sym {post : SY → Prop} {l : List Nat} {b : Nat} (hb : b ≤ 3) (h : zHc l f_candLen a_cand) (hp : ∀ len a, zHc (l ++ zsy b) len a → post (f_maxAtoms, f_maxRings, f_slotCount, f_st, f_cur, f_pend, f_depth, f_lineLen, f_listingLen, f_count, len, a_size, a_kinds, a_bonds, a_stack, a_ringAtom, a_ringOrder, a_line, a_listing, a_perm, a, a_digitFrom, a_digitTo, a_reach)) : wpY_appendOrder post (f_maxAtoms, f_maxRings, f_slotCount, f_st, f_cur, f_pend, f_depth, f_lineLen, f_listingLen, f_count, f_candLen, a_size, a_kinds, a_bonds, a_stack, a_ringAtom, a_ringOrder, a_line, a_listing, a_perm, a_cand, a_digitFrom, a_digitTo, a_reach) (nI b) := by
  unfold wpY_appendOrder
  dsimp only
  by_cases e2 : b = 2
  · subst e2; exact br_t rfl (zy_app (c := 61) h (fun len a g => br_f (by decide) (hp len a g)))
  by_cases e3 : b = 3
  · subst e3; exact br_f (by decide) (br_t rfl (zy_app (c := 35) h hp))
  · rw [zsy_n e2 e3, List.append_nil] at hp
    exact br_f (fun z => e2 ((nI_eq (b := 2) (by omega) (by decide)).mp z)) (br_f (fun z => e3 ((nI_eq (b := 3) (by omega) (by decide)).mp z)) (hp _ _ h))
theorem zy_par11 {post : Int32 → Prop} {J : Int32 → Prop} {m n k j : Nat} {p : Nat → Nat} (hb : zBd a_bonds) (hm : m < 4) (hn : n ≤ 8) (hc : a_size m = nI n) (hp : zP n p) (hv : zV n p a_perm) (hj : j < n)
    (hJ : ¬ zhs (zbp (zbm a_bonds m) p) k j n = true → J (zpI j)) (hT : zhs (zbp (zbm a_bonds m) p) k j n = true → post (nI j)) :
    ∀ d x, x + d = n → k ≤ x → (∀ y, k ≤ y → y < x → zbp (zbm a_bonds m) p j y = 0) → wY_par_11 post J (nI m) (nI k) (nI j) f_maxAtoms f_maxRings f_slotCount f_st f_cur f_pend f_depth f_lineLen f_listingLen f_count f_candLen a_size a_kinds a_bonds a_stack a_ringAtom a_ringOrder a_line a_listing a_perm a_cand a_digitFrom a_digitTo a_reach (d + 1) (nI x) := by
  intro d
  induction d with
  | zero =>
    intro x hx h1 h2
    have : x = n := by omega
    subst this
    refine ⟨zin hm (by decide), ?_⟩
    rw [zcl (show m < 1000000 by omega), hc]
    refine br_t (nI_le (Nat.le_refl _) (by omega)) (nm_r (zpI_m1 j) (hJ (fun z => ?_)))
    rw [zhs_f.mpr h2] at z; exact Bool.noConfusion z
  | succ d ih =>
    intro x hx h1 h2
    have b1 := hp.1 j hj
    have b2 := hp.1 x (by omega)
    refine ⟨zin hm (by decide), ?_⟩
    rw [zcl (show m < 1000000 by omega), hc]
    refine br_f (nI_ge (by omega) (by omega)) ⟨zin (by omega) (by decide), zin (by omega) (by decide), ?_⟩
    rw [zcl (show j < 1000000 by omega), zcl (show x < 1000000 by omega), hv j hj, hv x (by omega)]
    refine zy_get hm (by omega) (by omega) ?_
    by_cases c : a_bonds (m * 64 + p j * 8 + p x) = 0
    · refine br_t ((zBd_le hb _).mpr c) (nm_r (nI_1 x) (ih (x + 1) (by omega) (by omega) (fun y y1 y2 => ?_)))
      by_cases e : y = x
      · rw [e]; exact (zBd_z hb _).mp c
      · exact h2 y y1 (by omega)
    · exact br_f (fun z => c ((zBd_le hb _).mp z)) (hT (zhs_t.mpr ⟨x, h1, by omega, fun z => c ((zBd_z hb _).mpr z)⟩))
theorem zy_par {post : Int32 → Prop} {m n k : Nat} {p : Nat → Nat} (hb : zBd a_bonds) (hm : m < 4) (hn : n ≤ 8) (hc : a_size m = nI n) (hp : zP n p) (hv : zV n p a_perm) (hk : k < n) (h : post (zpI (zpa (zbp (zbm a_bonds m) p) n k))) : wpY_par post (f_maxAtoms, f_maxRings, f_slotCount, f_st, f_cur, f_pend, f_depth, f_lineLen, f_listingLen, f_count, f_candLen, a_size, a_kinds, a_bonds, a_stack, a_ringAtom, a_ringOrder, a_line, a_listing, a_perm, a_cand, a_digitFrom, a_digitTo, a_reach) (nI m) (nI k) := by
  have key : ∀ j, j ≤ k → post (zpI (zpg (zbp (zbm a_bonds m) p) n k j)) → wY_par_4 post (nI m) (nI k) f_maxAtoms f_maxRings f_slotCount f_st f_cur f_pend f_depth f_lineLen f_listingLen f_count f_candLen a_size a_kinds a_bonds a_stack a_ringAtom a_ringOrder a_line a_listing a_perm a_cand a_digitFrom a_digitTo a_reach (j + 1) (zpI j) := by
    intro j
    induction j with
    | zero => intro _ q; exact br_t (by decide) q
    | succ j ih =>
      intro hj q
      rw [zpI_s]
      have e : zpg (zbp (zbm a_bonds m) p) n k (j + 1) = if zhs (zbp (zbm a_bonds m) p) k j n = true then j + 1 else zpg (zbp (zbm a_bonds m) p) n k j := rfl
      rw [e] at q
      refine br_f (nI_pos (by omega)) ⟨n - k + 1, zy_par11 hb hm hn hc hp hv (by omega) (fun z => ih (by omega) (by rw [if_neg z] at q; exact q)) (fun z => by rw [if_pos z, zpI_s] at q; exact q) (n - k) k (by omega) (Nat.le_refl _) (fun y y1 y2 => by omega)⟩
  unfold wpY_par
  dsimp only
  exact nm_r (zpI_pred k) ⟨k + 1, key k (Nat.le_refl _) h⟩
theorem zy_isL {post : Int32 → Prop} {m n : Nat} {p : Nat → Nat} (hb : zBd a_bonds) (hm : m < 4) (hn : n ≤ 8) (hn1 : 1 ≤ n) (hc : a_size m = nI n) (hp : zP n p) (hv : zV n p a_perm)
    (hT : zisL n (zbm a_bonds m) p → post 1) (hF : ¬ zisL n (zbm a_bonds m) p → post 0) : wpY_isListing post (f_maxAtoms, f_maxRings, f_slotCount, f_st, f_cur, f_pend, f_depth, f_lineLen, f_listingLen, f_count, f_candLen, a_size, a_kinds, a_bonds, a_stack, a_ringAtom, a_ringOrder, a_line, a_listing, a_perm, a_cand, a_digitFrom, a_digitTo, a_reach) (nI m) := by
  have key : ∀ d k, k + d = n → 1 ≤ k → (∀ x, 0 < x → x < k → zpa (zbp (zbm a_bonds m) p) n x ≠ 0 ∧ zbp (zbm a_bonds m) p (zpa (zbp (zbm a_bonds m) p) n x - 1) x ≠ 0) → wY_isListing_2 post (nI m) f_maxAtoms f_maxRings f_slotCount f_st f_cur f_pend f_depth f_lineLen f_listingLen f_count f_candLen a_size a_kinds a_bonds a_stack a_ringAtom a_ringOrder a_line a_listing a_perm a_cand a_digitFrom a_digitTo a_reach (d + 1) (nI k) := by
    intro d
    induction d with
    | zero =>
      intro k hk h1 h2
      have : k = n := by omega
      subst this
      refine ⟨zin hm (by decide), ?_⟩
      rw [zcl (show m < 1000000 by omega), hc]
      exact br_t (nI_le (Nat.le_refl _) (by omega)) (hT h2)
    | succ d ih =>
      intro k hk h1 h2
      refine ⟨zin hm (by decide), ?_⟩
      rw [zcl (show m < 1000000 by omega), hc]
      refine br_f (nI_ge (by omega) (by omega)) (zy_par hb hm hn hc hp hv (by omega) ?_)
      cases c : zpa (zbp (zbm a_bonds m) p) n k with
      | zero => exact br_t (by decide) (hF (fun z => (z k (by omega) (by omega)).1 c))
      | succ j =>
        have le : zpa (zbp (zbm a_bonds m) p) n k ≤ k := zpg_le
        have b1 := hp.1 j (by omega)
        have b2 := hp.1 k (by omega)
        rw [zpI_s]
        refine br_f (nI_pos (by omega)) ⟨zin (by omega) (by decide), zin (by omega) (by decide), ?_⟩
        rw [zcl (show j < 1000000 by omega), zcl (show k < 1000000 by omega), hv j (by omega), hv k (by omega)]
        refine zy_get hm (by omega) (by omega) ?_
        by_cases e : a_bonds (m * 64 + p j * 8 + p k) = 0
        · refine br_t e (hF (fun z => ?_))
          have q := (z k (by omega) (by omega)).2
          rw [c] at q
          exact q ((zBd_z hb _).mp e)
        · refine br_f e (nm_r (nI_1 k) (ih (k + 1) (by omega) (by omega) (fun x x1 x2 => ?_)))
          by_cases q : x = k
          · rw [q, c]
            exact ⟨Nat.succ_ne_zero _, fun z => e ((zBd_z hb _).mpr z)⟩
          · exact h2 x x1 (by omega)
  unfold wpY_isListing
  dsimp only
  exact ⟨n - 1 + 1, key (n - 1) 1 (by omega) (by omega) (fun x x1 x2 => by omega)⟩
theorem zy_rp {post : Int32 → Prop} {m n j k : Nat} {p : Nat → Nat} (hb : zBd a_bonds) (hm : m < 4) (hn : n ≤ 8) (hc : a_size m = nI n) (hp : zP n p) (hv : zV n p a_perm) (hj : j < n) (hk : k < n)
    (hT : zrb (zbp (zbm a_bonds m) p) (zpa (zbp (zbm a_bonds m) p) n) j k = true → post 1) (hF : ¬ zrb (zbp (zbm a_bonds m) p) (zpa (zbp (zbm a_bonds m) p) n) j k = true → post 0) : wpY_ringPair post (f_maxAtoms, f_maxRings, f_slotCount, f_st, f_cur, f_pend, f_depth, f_lineLen, f_listingLen, f_count, f_candLen, a_size, a_kinds, a_bonds, a_stack, a_ringAtom, a_ringOrder, a_line, a_listing, a_perm, a_cand, a_digitFrom, a_digitTo, a_reach) (nI m) (nI j) (nI k) := by
  have b1 := hp.1 j hj
  have b2 := hp.1 k hk
  unfold wpY_ringPair
  dsimp only
  rw [zcl (show j < 1000000 by omega), zcl (show k < 1000000 by omega), hv j hj, hv k hk]
  refine ⟨zin (by omega) (by decide), zin (by omega) (by decide), zy_get hm (by omega) (by omega) ?_⟩
  by_cases e : a_bonds (m * 64 + p j * 8 + p k) = 0
  · exact br_t ((zBd_le hb _).mpr e) (hF (fun z => (zrb_t.mp z).1 ((zBd_z hb _).mp e)))
  · have le : zpa (zbp (zbm a_bonds m) p) n k ≤ k := zpg_le
    refine br_f (fun z => e ((zBd_le hb _).mp z)) (zy_par hb hm hn hc hp hv hk ?_)
    by_cases q : zpa (zbp (zbm a_bonds m) p) n k = j + 1
    · exact br_t ((zpI_eq (by omega) (by omega)).mpr q) (hF (fun z => (zrb_t.mp z).2 q))
    · exact br_f (fun z => q ((zpI_eq (by omega) (by omega)).mp z)) (hT (zrb_t.mpr ⟨fun z => e ((zBd_z hb _).mpr z), q⟩))
theorem zy_cd {post : SY → Prop} {j k : Nat} {l : List Nat} {F : Nat → Nat} (hj : j < 8) (hk : k < 8) (hbd : ∀ d, F d ≤ 100) (hD : zYd F a_digitFrom a_digitTo) (hH : zHc l f_candLen a_cand) (hex : ∃ e, 1 ≤ e ∧ e ≤ 9 ∧ F e = 1 + 8 * j + k)
    (hp : ∀ len a, zHc (l ++ [48 + zfd F (1 + 8 * j + k)]) len a → post (f_maxAtoms, f_maxRings, f_slotCount, f_st, f_cur, f_pend, f_depth, f_lineLen, f_listingLen, f_count, len, a_size, a_kinds, a_bonds, a_stack, a_ringAtom, a_ringOrder, a_line, a_listing, a_perm, a, upd a_digitFrom (zfd F (1 + 8 * j + k)) (-1), a_digitTo, a_reach)) : wpY_closeDigit post (f_maxAtoms, f_maxRings, f_slotCount, f_st, f_cur, f_pend, f_depth, f_lineLen, f_listingLen, f_count, f_candLen, a_size, a_kinds, a_bonds, a_stack, a_ringAtom, a_ringOrder, a_line, a_listing, a_perm, a_cand, a_digitFrom, a_digitTo, a_reach) (nI j) (nI k) := by
  obtain ⟨d1, d2, d3, d4⟩ := zfd_spec hex
  generalize zfd F (1 + 8 * j + k) = D at d1 d2 d3 d4 hp
  have key : ∀ m d, d + m = D → 1 ≤ d → wY_closeDigit_2 post (nI j) (nI k) f_maxAtoms f_maxRings f_slotCount f_st f_cur f_pend f_depth f_lineLen f_listingLen f_count f_candLen a_size a_kinds a_bonds a_stack a_ringAtom a_ringOrder a_line a_listing a_perm a_cand a_digitFrom a_digitTo a_reach (m + 1) (nI d) := by
    intro m
    induction m with
    | zero =>
      intro d hd h1
      have : d = D := by omega
      subst this
      have n9 : ¬ (9 : Int32) < nI d := nI_nlt (a := 9) (by omega) (by decide)
      have e48 : (48 : Int32) + nI d = nI (48 + d) := nI_add 48 d
      rcases hD d d1 d2 with q | q
      · omega
      · have e1 : (F d - 1) / 8 = j := by omega
        have e2 : (F d - 1) % 8 = k := by omega
        refine br_f n9 ?_
        rw [zcl (show d < 1000000 by omega), q.2.1, q.2.2, e1, e2, e48]
        refine ⟨zin (by omega) (by decide), br_t rfl ⟨zin (by omega) (by decide), br_t rfl (zy_app hH (fun len a g => ⟨zin (by omega) (by decide), nm_e (hp len a g)⟩))⟩⟩
    | succ m ih =>
      intro d hd h1
      have n9 : ¬ (9 : Int32) < nI d := nI_nlt (a := 9) (by omega) (by decide)
      have ne := d4 d h1 (by omega)
      have b := hbd d
      refine br_f n9 ?_
      rw [zcl (show d < 1000000 by omega)]
      refine ⟨zin (by omega) (by decide), ?_⟩
      rcases hD d h1 (by omega) with q | q
      · rw [q.2]
        exact br_f (zm1n j (by omega)) (nm_r (nI_1 d) (ih (d + 1) (by omega) (by omega)))
      · rw [q.2.1, q.2.2]
        by_cases c : (F d - 1) / 8 = j
        · have c2 : (F d - 1) % 8 ≠ k := by omega
          exact br_t (by rw [c]) ⟨zin (by omega) (by decide), br_f (fun z => c2 ((nI_eq (by omega) (by omega)).mp z)) (nm_r (nI_1 d) (ih (d + 1) (by omega) (by omega)))⟩
        · exact br_f (fun z => c ((nI_eq (by omega) (by omega)).mp z)) (nm_r (nI_1 d) (ih (d + 1) (by omega) (by omega)))
  unfold wpY_closeDigit
  dsimp only
  exact ⟨D - 1 + 1, key (D - 1) 1 (by omega) (by omega)⟩
theorem zy_od {post : SY → Prop} {m n k x : Nat} {p : Nat → Nat} {l : List Nat} {F : Nat → Nat} (hb : zBd a_bonds) (hm : m < 4) (hn : n ≤ 8) (hpp : zP n p) (hv : zV n p a_perm) (hk : k < n) (hx : x < n) (hbd : ∀ d, F d ≤ 100) (hD : zYd F a_digitFrom a_digitTo) (hH : zHc l f_candLen a_cand) (hex : ∃ e, 1 ≤ e ∧ e ≤ 9 ∧ F e = 0)
    (hp : ∀ len a, zHc (l ++ zsy (zbp (zbm a_bonds m) p k x) ++ [48 + zfd F 0]) len a → post (f_maxAtoms, f_maxRings, f_slotCount, f_st, f_cur, f_pend, f_depth, f_lineLen, f_listingLen, f_count, len, a_size, a_kinds, a_bonds, a_stack, a_ringAtom, a_ringOrder, a_line, a_listing, a_perm, a, upd a_digitFrom (zfd F 0) (nI k), upd a_digitTo (zfd F 0) (nI x), a_reach)) : wpY_openDigit post (f_maxAtoms, f_maxRings, f_slotCount, f_st, f_cur, f_pend, f_depth, f_lineLen, f_listingLen, f_count, f_candLen, a_size, a_kinds, a_bonds, a_stack, a_ringAtom, a_ringOrder, a_line, a_listing, a_perm, a_cand, a_digitFrom, a_digitTo, a_reach) (nI m) (nI k) (nI x) := by
  obtain ⟨d1, d2, d3, d4⟩ := zfd_spec hex
  generalize zfd F 0 = D at d1 d2 d3 d4 hp
  have b1 := hpp.1 k hk
  have b2 := hpp.1 x hx
  have key : ∀ m' d, d + m' = D → 1 ≤ d → wY_openDigit_3 post (nI m) (nI k) (nI x) f_maxAtoms f_maxRings f_slotCount f_st f_cur f_pend f_depth f_lineLen f_listingLen f_count f_candLen a_size a_kinds a_bonds a_stack a_ringAtom a_ringOrder a_line a_listing a_perm a_cand a_digitFrom a_digitTo a_reach (m' + 1) (nI d) := by
    intro m'
    induction m' with
    | zero =>
      intro d hd h1
      have : d = D := by omega
      subst this
      have n9 : ¬ (9 : Int32) < nI d := nI_nlt (a := 9) (by omega) (by decide)
      have e48 : (48 : Int32) + nI d = nI (48 + d) := nI_add 48 d
      rcases hD d d1 d2 with q | q
      · refine br_f n9 ?_
        rw [zcl (show d < 1000000 by omega), q.2, zcl (show k < 1000000 by omega), zcl (show x < 1000000 by omega), hv k hk, hv x hx]
        refine ⟨zin (by omega) (by decide), br_f (by decide) ⟨zin (by omega) (by decide), nm_e ⟨zin (by omega) (by decide), nm_e ⟨zin (by omega) (by decide), zin (by omega) (by decide), zy_get hm (by omega) (by omega) ?_⟩⟩⟩⟩
        rw [(hb (m * 64 + p k * 8 + p x)).1]
        refine zy_sym (hb _).2 hH (fun len a g => ?_)
        dsimp only
        rw [e48]
        exact zy_app g hp
      · exact absurd d3 q.1
    | succ m' ih =>
      intro d hd h1
      have n9 : ¬ (9 : Int32) < nI d := nI_nlt (a := 9) (by omega) (by decide)
      have ne := d4 d h1 (by omega)
      have b := hbd d
      refine br_f n9 ?_
      rw [zcl (show d < 1000000 by omega)]
      refine ⟨zin (by omega) (by decide), ?_⟩
      rcases hD d h1 (by omega) with q | q
      · exact absurd q.1 ne
      · rw [q.2.1]
        exact br_t (nI_pos' (by omega)) (nm_r (nI_1 d) (ih (d + 1) (by omega) (by omega)))
  unfold wpY_openDigit
  dsimp only
  exact ⟨D - 1 + 1, key (D - 1) 1 (by omega) (by omega)⟩
end
theorem zYd_cs {F : Nat → Nat} {df dt : Nat → Int32} {D : Nat} (h : zYd F df dt) : zYd (zup F D 0) (upd df D (-1)) dt := by
  intro d h1 h2
  by_cases c : d = D
  · rw [c, zup_s, pk_us]; exact Or.inl ⟨rfl, rfl⟩
  · rw [zup_n c, pk_un c]; exact h d h1 h2
theorem zYd_op {F : Nat → Nat} {df dt : Nat → Int32} {D k x : Nat} (hx : x < 8) (h : zYd F df dt) : zYd (zup F D (1 + 8 * k + x)) (upd df D (nI k)) (upd dt D (nI x)) := by
  intro d h1 h2
  by_cases c : d = D
  · rw [c, zup_s, pk_us, pk_us]
    refine Or.inr ⟨by omega, ?_, ?_⟩
    · congr 1; omega
    · congr 1; omega
  · rw [zup_n c, pk_un c, pk_un c]; exact h d h1 h2
end
section
section
variable {f_maxAtoms f_maxRings f_slotCount f_st f_cur f_pend f_depth f_lineLen f_listingLen f_count f_candLen : Int32} {a_size a_kinds a_bonds a_stack a_ringAtom a_ringOrder a_line a_listing a_perm a_cand a_digitFrom a_digitTo a_reach : Nat → Int32}
theorem zy_s183 {post : SY → Prop} {J : Int32 → Int32 → Int32 → Int32 → Int32 → Int32 → Int32 → Int32 → Int32 → Int32 → Int32 → Int32 → (Nat → Int32) → (Nat → Int32) → (Nat → Int32) → (Nat → Int32) → (Nat → Int32) → (Nat → Int32) → (Nat → Int32) → (Nat → Int32) → (Nat → Int32) → (Nat → Int32) → (Nat → Int32) → (Nat → Int32) → (Nat → Int32) → Prop}
    {m n k : Nat} {p : Nat → Nat} {s : List Nat × (Nat → Nat)} (hb : zBd a_bonds) (hm : m < 4) (hn : n ≤ 8) (hc : a_size m = nI n) (hp : zP n p) (hv : zV n p a_perm) (hk : k < n) (h9 : zod n (zbp (zbm a_bonds m) p) (zpa (zbp (zbm a_bonds m) p) n) n 0 ≤ 9)
    (hI : ∀ o, o ≤ n → zPI n (zbp (zbm a_bonds m) p) (zpa (zbp (zbm a_bonds m) p) n) k k o (zF (zoph (zbp (zbm a_bonds m) p) (zpa (zbp (zbm a_bonds m) p) n) k) o s).2)
    (hJ : ∀ len a df dt, zYd (zend (zpa (zbp (zbm a_bonds m) p) n) n k (zF (zoph (zbp (zbm a_bonds m) p) (zpa (zbp (zbm a_bonds m) p) n) k) n s)).2 df dt → zHc (zend (zpa (zbp (zbm a_bonds m) p) n) n k (zF (zoph (zbp (zbm a_bonds m) p) (zpa (zbp (zbm a_bonds m) p) n) k) n s)).1 len a → J (nI (k + 1)) f_maxAtoms f_maxRings f_slotCount f_st f_cur f_pend f_depth f_lineLen f_listingLen f_count len a_size a_kinds a_bonds a_stack a_ringAtom a_ringOrder a_line a_listing a_perm a df dt a_reach) :
    ∀ d o, o + d = n → k < o → ∀ len a df dt, zYd (zF (zoph (zbp (zbm a_bonds m) p) (zpa (zbp (zbm a_bonds m) p) n) k) o s).2 df dt → zHc (zF (zoph (zbp (zbm a_bonds m) p) (zpa (zbp (zbm a_bonds m) p) n) k) o s).1 len a → wY_spell_183 post J (nI m) (nI n) (nI k) (d + 1) (nI o) f_maxAtoms f_maxRings f_slotCount f_st f_cur f_pend f_depth f_lineLen f_listingLen f_count len a_size a_kinds a_bonds a_stack a_ringAtom a_ringOrder a_line a_listing a_perm a df dt a_reach := by
  intro d
  induction d with
  | zero =>
    intro o ho hko len a df dt h1 h2
    have : o = n := by omega
    subst this
    refine br_t (nI_le (Nat.le_refl _) (by omega)) ?_
    have e1 : nI o - 1 = nI (o - 1) := by
      have := nI_pred (o - 1)
      have q : o - 1 + 1 = o := by omega
      rw [q] at this; exact this
    rw [e1]
    unfold zend at hJ
    by_cases c : o - 1 ≤ k
    · rw [if_neg (by omega)] at hJ
      exact br_t (nI_le c (by omega)) (nm_r (nI_1 k) (hJ len a df dt h1 h2))
    · refine br_f (nI_ge (by omega) (by omega)) ?_
      rw [nI_1]
      have le : zpa (zbp (zbm a_bonds m) p) o (k + 1) ≤ k + 1 := zpg_le
      refine zy_par hb hm hn hc hp hv (by omega) ?_
      by_cases e : zpa (zbp (zbm a_bonds m) p) o (k + 1) = k + 1
      · rw [if_neg (fun z => z.2 e)] at hJ
        exact br_t ((zpI_eq (by omega) (by omega)).mpr e) (nm_e (hJ len a df dt h1 h2))
      · rw [if_pos ⟨by omega, e⟩] at hJ
        exact br_f (fun z => e ((zpI_eq (by omega) (by omega)).mp z)) (zy_app (c := 41) h2 (fun len' a' g => nm_e (hJ len' a' df dt h1 g)))
  | succ d ih =>
    intro o ho hko len a df dt h1 h2
    have es : zF (zoph (zbp (zbm a_bonds m) p) (zpa (zbp (zbm a_bonds m) p) n) k) (o + 1) s = zoph (zbp (zbm a_bonds m) p) (zpa (zbp (zbm a_bonds m) p) n) k o (zF (zoph (zbp (zbm a_bonds m) p) (zpa (zbp (zbm a_bonds m) p) n) k) o s) := rfl
    have ih' := ih (o + 1) (by omega) (by omega)
    rw [es] at ih'
    have hIo := hI o (by omega)
    generalize zF (zoph (zbp (zbm a_bonds m) p) (zpa (zbp (zbm a_bonds m) p) n) k) o s = sj at h1 h2 ih' hIo
    unfold zoph at ih'
    refine br_f (nI_ge (by omega) (by omega)) (zy_rp hb hm hn hc hp hv hk (by omega) (fun r => br_f (by decide) ?_) (fun r => br_t rfl (nm_r (nI_1 o) ?_)))
    · rw [if_pos ⟨hko, r⟩] at ih'
      exact zy_od hb hm hn hp hv hk (by omega) (fun d => by have := hIo.1 d; omega) h1 h2 (zPI_fr h9 hk (by omega) hko r hIo) (fun len' a' g => nm_r (nI_1 o) (ih' len' a' _ _ (zYd_op (by omega) h1) g))
    · rw [if_neg (fun z => r z.2)] at ih'
      exact ih' len a df dt h1 h2
theorem zy_s148 {post : SY → Prop} {J : Int32 → Int32 → Int32 → Int32 → Int32 → Int32 → Int32 → Int32 → Int32 → Int32 → Int32 → Int32 → (Nat → Int32) → (Nat → Int32) → (Nat → Int32) → (Nat → Int32) → (Nat → Int32) → (Nat → Int32) → (Nat → Int32) → (Nat → Int32) → (Nat → Int32) → (Nat → Int32) → (Nat → Int32) → (Nat → Int32) → (Nat → Int32) → Prop}
    {m n k : Nat} {p : Nat → Nat} {s : List Nat × (Nat → Nat)} (hb : zBd a_bonds) (hm : m < 4) (hn : n ≤ 8) (hc : a_size m = nI n) (hp : zP n p) (hv : zV n p a_perm) (hk : k < n) (h9 : zod n (zbp (zbm a_bonds m) p) (zpa (zbp (zbm a_bonds m) p) n) n 0 ≤ 9)
    (hI : zPI n (zbp (zbm a_bonds m) p) (zpa (zbp (zbm a_bonds m) p) n) k 0 0 s.2)
    (hJ : ∀ len a df dt, zYd (zend (zpa (zbp (zbm a_bonds m) p) n) n k (zF (zoph (zbp (zbm a_bonds m) p) (zpa (zbp (zbm a_bonds m) p) n) k) n (zF (zclh (zbp (zbm a_bonds m) p) (zpa (zbp (zbm a_bonds m) p) n) k) k s))).2 df dt → zHc (zend (zpa (zbp (zbm a_bonds m) p) n) n k (zF (zoph (zbp (zbm a_bonds m) p) (zpa (zbp (zbm a_bonds m) p) n) k) n (zF (zclh (zbp (zbm a_bonds m) p) (zpa (zbp (zbm a_bonds m) p) n) k) k s))).1 len a → J (nI (k + 1)) f_maxAtoms f_maxRings f_slotCount f_st f_cur f_pend f_depth f_lineLen f_listingLen f_count len a_size a_kinds a_bonds a_stack a_ringAtom a_ringOrder a_line a_listing a_perm a df dt a_reach) :
    ∀ d j, j + d = k → ∀ len a df dt, zYd (zF (zclh (zbp (zbm a_bonds m) p) (zpa (zbp (zbm a_bonds m) p) n) k) j s).2 df dt → zHc (zF (zclh (zbp (zbm a_bonds m) p) (zpa (zbp (zbm a_bonds m) p) n) k) j s).1 len a → wY_spell_148 post J (nI m) (nI n) (nI k) (d + 1) (nI j) f_maxAtoms f_maxRings f_slotCount f_st f_cur f_pend f_depth f_lineLen f_listingLen f_count len a_size a_kinds a_bonds a_stack a_ringAtom a_ringOrder a_line a_listing a_perm a df dt a_reach := by
  have c1 := zPI_cls (s := s) hn hk hI
  have c2 := zPI_ops h9 hn hk (c1 k (Nat.le_refl k))
  intro d
  induction d with
  | zero =>
    intro j hj len a df dt h1 h2
    have : j = k := by omega
    subst this
    have skip : zF (zoph (zbp (zbm a_bonds m) p) (zpa (zbp (zbm a_bonds m) p) n) j) (j + 1) (zF (zclh (zbp (zbm a_bonds m) p) (zpa (zbp (zbm a_bonds m) p) n) j) j s) = zF (zclh (zbp (zbm a_bonds m) p) (zpa (zbp (zbm a_bonds m) p) n) j) j s :=
      zF_skip (a := 0) (Nat.zero_le _) (fun c _ hc s => by unfold zoph; rw [if_neg (fun z => by omega)]) _
    refine br_t (nI_le (Nat.le_refl _) (by omega)) (nm_r (nI_1 j) ⟨n - (j + 1) + 1, zy_s183 hb hm hn hc hp hv hk h9 c2 hJ (n - (j + 1)) (j + 1) (by omega) (by omega) len a df dt (by rw [skip]; exact h1) (by rw [skip]; exact h2)⟩)
  | succ d ih =>
    intro j hj len a df dt h1 h2
    have es : zF (zclh (zbp (zbm a_bonds m) p) (zpa (zbp (zbm a_bonds m) p) n) k) (j + 1) s = zclh (zbp (zbm a_bonds m) p) (zpa (zbp (zbm a_bonds m) p) n) k j (zF (zclh (zbp (zbm a_bonds m) p) (zpa (zbp (zbm a_bonds m) p) n) k) j s) := rfl
    have ih' := ih (j + 1) (by omega)
    rw [es] at ih'
    have hIj := c1 j (by omega)
    generalize zF (zclh (zbp (zbm a_bonds m) p) (zpa (zbp (zbm a_bonds m) p) n) k) j s = sj at h1 h2 ih' hIj
    unfold zclh at ih'
    refine br_f (nI_ge (by omega) (by omega)) (zy_rp hb hm hn hc hp hv (by omega) hk (fun r => br_f (by decide) ?_) (fun r => br_t rfl (nm_r (nI_1 j) ?_)))
    · rw [if_pos r] at ih'
      exact zy_cd (by omega) (by omega) (fun d => by have := hIj.1 d; omega) h1 h2 (zPI_ex hIj hk (by omega) r) (fun len' a' g => nm_r (nI_1 j) (ih' len' a' _ _ (zYd_cs h1) g))
    · rw [if_neg r] at ih'
      exact ih' len a df dt h1 h2
theorem zy_s35 {post : SY → Prop} {m n : Nat} {p ka : Nat → Nat} (hb : zBd a_bonds) (hm : m < 4) (hn : n ≤ 8) (hc : a_size m = nI n) (hp : zP n p) (hv : zV n p a_perm) (hT : zTree n (zbp (zbm a_bonds m) p) (zpa (zbp (zbm a_bonds m) p) n)) (h9 : zod n (zbp (zbm a_bonds m) p) (zpa (zbp (zbm a_bonds m) p) n) n 0 ≤ 9) (hK : ∀ k, k < n → a_kinds (m * 8 + p k) = nI (ka (p k)))
    (hq : ∀ len a df dt, zHc (zline n (fun k => ka (p k)) (zbp (zbm a_bonds m) p) (zpa (zbp (zbm a_bonds m) p) n)) len a → post (f_maxAtoms, f_maxRings, f_slotCount, f_st, f_cur, f_pend, f_depth, f_lineLen, f_listingLen, f_count, len, a_size, a_kinds, a_bonds, a_stack, a_ringAtom, a_ringOrder, a_line, a_listing, a_perm, a, df, dt, a_reach)) :
    ∀ d k, k + d = n → ∀ len a df dt, zYd (zlf n (fun k => ka (p k)) (zbp (zbm a_bonds m) p) (zpa (zbp (zbm a_bonds m) p) n) k).2 df dt → zHc (zlf n (fun k => ka (p k)) (zbp (zbm a_bonds m) p) (zpa (zbp (zbm a_bonds m) p) n) k).1 len a → wY_spell_35 post (nI m) (nI n) (d + 1) (nI k) f_maxAtoms f_maxRings f_slotCount f_st f_cur f_pend f_depth f_lineLen f_listingLen f_count len a_size a_kinds a_bonds a_stack a_ringAtom a_ringOrder a_line a_listing a_perm a df dt a_reach := by
  intro d
  induction d with
  | zero =>
    intro k hk len a df dt h1 h2
    have : k = n := by omega
    subst this
    exact br_t (nI_le (Nat.le_refl _) (by omega)) (hq len a df dt h2)
  | succ d ih =>
    intro k hk len a df dt h1 h2
    have hI := zPI_lf (ka := fun k => ka (p k)) h9 hn k (by omega)
    have es : zlf n (fun k => ka (p k)) (zbp (zbm a_bonds m) p) (zpa (zbp (zbm a_bonds m) p) n) (k + 1) = zpl n (fun k => ka (p k)) (zbp (zbm a_bonds m) p) (zpa (zbp (zbm a_bonds m) p) n) k (zlf n (fun k => ka (p k)) (zbp (zbm a_bonds m) p) (zpa (zbp (zbm a_bonds m) p) n) k) := rfl
    have ih' := ih (k + 1) (by omega)
    rw [es] at ih'
    unfold zpl at ih'
    generalize zlf n (fun k => ka (p k)) (zbp (zbm a_bonds m) p) (zpa (zbp (zbm a_bonds m) p) n) k = s at h1 h2 hI ih'
    have bk := hp.1 k (by omega)
    have s125 : ∀ l len a, zHc l len a → l = zhd (zbp (zbm a_bonds m) p) (zpa (zbp (zbm a_bonds m) p) n) n k s.1 → wY_spell_125 post (wY_spell_35 post (nI m) (nI n) (d + 1)) (nI m) (nI n) (nI k) f_maxAtoms f_maxRings f_slotCount f_st f_cur f_pend f_depth f_lineLen f_listingLen f_count len a_size a_kinds a_bonds a_stack a_ringAtom a_ringOrder a_line a_listing a_perm a df dt a_reach := by
      intro l len a hl el
      unfold wY_spell_125
      rw [zcl (show k < 1000000 by omega), hv k (by omega), zkx_c (by omega) (by omega), hK k (by omega)]
      refine ⟨zin (by omega) (by decide), zkx_in (by omega) (by omega), zy_app hl (fun len1 a1 g1 => ⟨k + 1, ?_⟩)⟩
      rw [el] at g1
      exact zy_s148 (s := (zhd (zbp (zbm a_bonds m) p) (zpa (zbp (zbm a_bonds m) p) n) n k s.1 ++ [ka (p k)], s.2)) hb hm hn hc hp hv (by omega) h9 hI ih' k 0 (by omega) len1 a1 df dt h1 g1
    refine br_f (nI_ge (by omega) (by omega)) (zy_par hb hm hn hc hp hv (by omega) ?_)
    have le : zpa (zbp (zbm a_bonds m) p) n k ≤ k := zpg_le
    by_cases k0 : k = 0
    · have e0 : zpa (zbp (zbm a_bonds m) p) n k = 0 := by omega
      rw [e0]
      exact br_t (by decide) (s125 s.1 len a h2 (if_pos k0).symm)
    · have t := hT.2.1 k (by omega) (by omega)
      obtain ⟨j, ej⟩ : ∃ j, zpa (zbp (zbm a_bonds m) p) n k = j + 1 := ⟨zpa (zbp (zbm a_bonds m) p) n k - 1, by omega⟩
      have bj := hp.1 j (by omega)
      have ez : zhd (zbp (zbm a_bonds m) p) (zpa (zbp (zbm a_bonds m) p) n) n k s.1 = (if zlat (zpa (zbp (zbm a_bonds m) p) n) k n = true then s.1 ++ [40] else s.1) ++ zsy (zbp (zbm a_bonds m) p j k) := by
        unfold zhd
        rw [if_neg k0, ej]
        rfl
      have s99 : ∀ l len a, zHc l len a → l = (if zlat (zpa (zbp (zbm a_bonds m) p) n) k n = true then s.1 ++ [40] else s.1) → wY_spell_99 post (wY_spell_35 post (nI m) (nI n) (d + 1)) (nI m) (nI n) (nI k) (nI j) f_maxAtoms f_maxRings f_slotCount f_st f_cur f_pend f_depth f_lineLen f_listingLen f_count len a_size a_kinds a_bonds a_stack a_ringAtom a_ringOrder a_line a_listing a_perm a df dt a_reach := by
        intro l len a hl el
        unfold wY_spell_99
        rw [zcl (show k < 1000000 by omega), zcl (show j < 1000000 by omega), hv k (by omega), hv j (by omega)]
        refine ⟨zin (by omega) (by decide), zin (by omega) (by decide), zy_get hm (by omega) (by omega) ?_⟩
        rw [(hb (m * 64 + p j * 8 + p k)).1]
        refine zy_sym (hb _).2 hl (fun len1 a1 g1 => s125 _ len1 a1 g1 ?_)
        rw [ez, el]
        rfl
      have s61 : ∀ e c, c + e = n → k < c → ∀ x5, x5 = (if zlat (zpa (zbp (zbm a_bonds m) p) n) k c = true then 1 else 0) → wY_spell_61 post (wY_spell_35 post (nI m) (nI n) (d + 1)) (nI m) (nI n) (nI k) (nI j) f_maxAtoms f_maxRings f_slotCount f_st f_cur f_pend f_depth f_lineLen f_listingLen f_count len a_size a_kinds a_bonds a_stack a_ringAtom a_ringOrder a_line a_listing a_perm a df dt a_reach (e + 1) x5 (nI c) := by
        intro e
        induction e with
        | zero =>
          intro c hce hkc x5 h5
          have : c = n := by omega
          rw [this] at h5
          refine br_t (nI_le (by omega) (by omega)) ?_
          by_cases q : zlat (zpa (zbp (zbm a_bonds m) p) n) k n = true
          · rw [if_pos q] at h5
            rw [h5]
            exact br_f (by decide) (zy_app (c := 40) h2 (fun len1 a1 g1 => s99 _ len1 a1 g1 (by rw [if_pos q])))
          · rw [if_neg q] at h5
            rw [h5]
            exact br_t rfl (s99 s.1 len a h2 (by rw [if_neg q]))
        | succ e ihe =>
          intro c hce hkc x5 h5
          have lec : zpa (zbp (zbm a_bonds m) p) n c ≤ c := zpg_le
          have ec : zlat (zpa (zbp (zbm a_bonds m) p) n) k (c + 1) = (zlat (zpa (zbp (zbm a_bonds m) p) n) k c || (decide (k < c) && zpa (zbp (zbm a_bonds m) p) n c == zpa (zbp (zbm a_bonds m) p) n k)) := rfl
          refine br_f (nI_ge (by omega) (by omega)) (zy_par hb hm hn hc hp hv (by omega) ?_)
          by_cases q : zpa (zbp (zbm a_bonds m) p) n c = j + 1
          · refine br_t ((zpI_eq (by omega) (by omega)).mpr q) (nm_r (nI_1 c) (ihe (c + 1) (by omega) (by omega) 1 ?_))
            rw [if_pos]
            rw [ec, q, ej, decide_eq_true hkc]
            simp
          · refine br_f (fun z => q ((zpI_eq (by omega) (by omega)).mp z)) (nm_r (nI_1 c) (ihe (c + 1) (by omega) (by omega) x5 ?_))
            have : zlat (zpa (zbp (zbm a_bonds m) p) n) k (c + 1) = zlat (zpa (zbp (zbm a_bonds m) p) n) k c := by
              rw [ec, ej]
              have : (zpa (zbp (zbm a_bonds m) p) n c == j + 1) = false := by simp [q]
              rw [this, Bool.and_false, Bool.or_false]
            rw [this]; exact h5
      rw [ej, zpI_s]
      refine br_f (nI_pos (by omega)) (nm_r (nI_1 k) ⟨n - (k + 1) + 1, s61 (n - (k + 1)) (k + 1) (by omega) (by omega) 0 ?_⟩)
      rw [if_neg]
      intro z
      obtain ⟨c, c1, c2, c3⟩ := zlat_t.mp z
      omega
theorem zy_sp {post : SY → Prop} {m n : Nat} {p ka : Nat → Nat} (hb : zBd a_bonds) (hm : m < 4) (hn : n ≤ 8) (hc : a_size m = nI n) (hp : zP n p) (hv : zV n p a_perm) (hT : zTree n (zbp (zbm a_bonds m) p) (zpa (zbp (zbm a_bonds m) p) n)) (h9 : zod n (zbp (zbm a_bonds m) p) (zpa (zbp (zbm a_bonds m) p) n) n 0 ≤ 9) (hK : ∀ k, k < n → a_kinds (m * 8 + p k) = nI (ka (p k)))
    (hq : ∀ len a df dt, zHc (zline n (fun k => ka (p k)) (zbp (zbm a_bonds m) p) (zpa (zbp (zbm a_bonds m) p) n)) len a → post (f_maxAtoms, f_maxRings, f_slotCount, f_st, f_cur, f_pend, f_depth, f_lineLen, f_listingLen, f_count, len, a_size, a_kinds, a_bonds, a_stack, a_ringAtom, a_ringOrder, a_line, a_listing, a_perm, a, df, dt, a_reach)) : wpY_spell post (f_maxAtoms, f_maxRings, f_slotCount, f_st, f_cur, f_pend, f_depth, f_lineLen, f_listingLen, f_count, f_candLen, a_size, a_kinds, a_bonds, a_stack, a_ringAtom, a_ringOrder, a_line, a_listing, a_perm, a_cand, a_digitFrom, a_digitTo, a_reach) (nI m) := by
  have key : ∀ d x df, x + d = 10 → (∀ e, e < x → df e = -1) → wY_spell_14 post (nI m) (nI n) f_maxAtoms f_maxRings f_slotCount f_st f_cur f_pend f_depth f_lineLen f_listingLen f_count 0 (d + 1) (nI x) a_size a_kinds a_bonds a_stack a_ringAtom a_ringOrder a_line a_listing a_perm a_cand df a_digitTo a_reach := by
    intro d
    induction d with
    | zero =>
      intro x df hx h
      have : x = 10 := by omega
      subst this
      exact br_t (by decide) ⟨n + 1, zy_s35 hb hm hn hc hp hv hT h9 hK hq n 0 (by omega) 0 a_cand df a_digitTo (fun e e1 e2 => Or.inl ⟨rfl, h e (by omega)⟩) (zHc_nil _)⟩
    | succ d ih =>
      intro x df hx h
      refine br_f (nI_ge (b := 10) (by omega) (by decide)) ⟨zin (by omega) (by decide), ?_⟩
      rw [zcl (show x < 1000000 by omega)]
      refine nm_e (nm_r (nI_1 x) (ih (x + 1) _ (by omega) (fun e he => ?_)))
      by_cases q : e = x
      · rw [q, pk_us]
      · rw [pk_un q]; exact h e (by omega)
  unfold wpY_spell
  dsimp only
  rw [zcl (show m < 1000000 by omega), hc]
  exact ⟨zin (by omega) (by decide), nm_e ⟨11, key 10 0 a_digitFrom (by omega) (fun e he => by omega)⟩⟩
theorem zy_cmpA {post : Int32 → Prop} {lc : Nat} (hl : lc ≤ 64) (e1 : f_candLen = nI lc) (hp : ∀ r, post r) : wpY_compare post (f_maxAtoms, f_maxRings, f_slotCount, f_st, f_cur, f_pend, f_depth, f_lineLen, f_listingLen, f_count, f_candLen, a_size, a_kinds, a_bonds, a_stack, a_ringAtom, a_ringOrder, a_line, a_listing, a_perm, a_cand, a_digitFrom, a_digitTo, a_reach) := by
  have key : ∀ d i, i + d = lc → wY_compare_23 post f_maxAtoms f_maxRings f_slotCount f_st f_cur f_pend f_depth f_lineLen f_listingLen f_count f_candLen a_size a_kinds a_bonds a_stack a_ringAtom a_ringOrder a_line a_listing a_perm a_cand a_digitFrom a_digitTo a_reach (d + 1) (nI i) := by
    intro d
    induction d with
    | zero => intro i hi; exact br_t (by rw [e1]; exact nI_le (by omega) (by omega)) (hp _)
    | succ d ih =>
      intro i hi
      exact br_f (by rw [e1]; exact nI_ge (by omega) (by omega)) ⟨zin (by omega) (by decide), zin (by omega) (by decide), br_c (fun _ => nm_r (nI_1 i) (ih (i + 1) (by omega))) (fun _ => ⟨zin (by omega) (by decide), zin (by omega) (by decide), hp _⟩)⟩
  exact br_c (fun _ => ⟨lc + 1, key lc 0 (by omega)⟩) (fun _ => hp _)
theorem zy_cmp {post : Int32 → Prop} {l t : List Nat} (hl : l.length ≤ 64) (ht : t.length ≤ 64) (sl : zsm l) (st : zsm t) (e1 : f_candLen = nI l.length) (e2 : f_lineLen = nI t.length) (a1 : ∀ i, i < l.length → a_cand i = nI (zat l i)) (a2 : ∀ i, i < t.length → a_line i = nI (zat t i))
    (hp : ∀ r, (r = 0 ↔ l = t) → (r < 0 ↔ zless l t) → post r) : wpY_compare post (f_maxAtoms, f_maxRings, f_slotCount, f_st, f_cur, f_pend, f_depth, f_lineLen, f_listingLen, f_count, f_candLen, a_size, a_kinds, a_bonds, a_stack, a_ringAtom, a_ringOrder, a_line, a_listing, a_perm, a_cand, a_digitFrom, a_digitTo, a_reach) := by
  have key : l.length = t.length → ∀ d i, i + d = l.length → (∀ j, j < i → zat l j = zat t j) → wY_compare_23 post f_maxAtoms f_maxRings f_slotCount f_st f_cur f_pend f_depth f_lineLen f_listingLen f_count f_candLen a_size a_kinds a_bonds a_stack a_ringAtom a_ringOrder a_line a_listing a_perm a_cand a_digitFrom a_digitTo a_reach (d + 1) (nI i) := by
    intro hlt d
    induction d with
    | zero =>
      intro i hi h
      have e : l = t := zat_ext hlt (fun j hj => h j (by omega))
      refine br_t (by rw [e1]; exact nI_le (by omega) (by omega)) (hp 0 ⟨fun _ => e, fun _ => rfl⟩ ⟨fun z => absurd z (by decide), fun z => absurd z (by rw [e]; exact zless_ir t)⟩)
    | succ d ih =>
      intro i hi h
      refine br_f (by rw [e1]; exact nI_ge (by omega) (by omega)) ⟨zin (by omega) (by decide), zin (by omega) (by decide), ?_⟩
      rw [zcl (show i < 1000000 by omega), a1 i (by omega), a2 i (by omega)]
      have b1 := zsm_at sl (i := i)
      have b2 := zsm_at st (i := i)
      by_cases c : zat l i = zat t i
      · refine br_t (by rw [c]) (nm_r (nI_1 i) (ih (i + 1) (by omega) (fun j hj => ?_)))
        by_cases q : j = i
        · rw [q]; exact c
        · exact h j (by omega)
      · refine br_f (fun z => c ((nI_eq (by omega) (by omega)).mp z)) ⟨zin (by omega) (by decide), zin (by omega) (by decide), hp _ ?_ ?_⟩
        · refine ⟨fun z => ?_, fun z => absurd (by rw [z]) c⟩
          have q := congrArg Int32.toInt z
          rw [pk_sub_toInt (by omega) (by omega)] at q
          have q0 : (0 : Int32).toInt = 0 := by decide
          omega
        · rw [Int32.lt_iff_toInt_lt, pk_sub_toInt (by omega) (by omega)]
          have q0 : (0 : Int32).toInt = 0 := by decide
          rw [q0]
          constructor
          · intro z
            exact Or.inr ⟨hlt, i, by omega, h, by omega⟩
          · intro z
            rcases Nat.lt_or_ge (zat l i) (zat t i) with q | q
            · omega
            · exact absurd z (zless_gt hlt (by omega) h (by omega)).1
  unfold wpY_compare
  dsimp only
  by_cases c : l.length = t.length
  · exact br_t (by rw [e1, e2, c]) ⟨l.length + 1, key c l.length 0 (by omega) (fun j hj => by omega)⟩
  · refine br_f (by rw [e1, e2]; exact fun z => c ((nI_eq (by omega) (by omega)).mp z)) (hp _ ?_ ?_)
    · refine ⟨fun z => ?_, fun z => absurd (by rw [z]) c⟩
      rw [e1, e2] at z
      have q := congrArg Int32.toInt z
      rw [pk_sub_toInt (by omega) (by omega)] at q
      have q0 : (0 : Int32).toInt = 0 := by decide
      omega
    · rw [e1, e2, Int32.lt_iff_toInt_lt, pk_sub_toInt (by omega) (by omega)]
      have q0 : (0 : Int32).toInt = 0 := by decide
      rw [q0]
      constructor
      · intro z; exact Or.inl (by omega)
      · rintro (z | z)
        · omega
        · exact absurd z.1 c
end
end
section
/-! ===== Y: write ===== -/
def zYS (n : Nat) (s : Nat × List Nat × (Nat → Nat)) (lineLen listingLen count : Int32) (line listing : Nat → Int32) : Prop :=
  count = nI s.1 ∧ (s.1 ≠ 0 → lineLen = nI s.2.1.length ∧ (∀ i, i < s.2.1.length → line i = nI (zat s.2.1 i)) ∧ listingLen = nI n ∧ ∀ i, i < n → listing i = nI (s.2.2 i))
/-- which roots are allowed -/
def zRoot (n : Nat) (ok : Nat → Prop) (x : Int32) : Prop := (x = -1 ∧ ∀ r, ok r) ∨ (∃ rt, x = nI rt ∧ rt < n ∧ ∀ r, ok r ↔ r = rt)
section
variable {f_maxAtoms f_maxRings f_slotCount f_st f_cur f_pend f_depth f_lineLen f_listingLen f_count f_candLen : Int32} {a_size a_kinds a_bonds a_stack a_ringAtom a_ringOrder a_line a_listing a_perm a_cand a_digitFrom a_digitTo a_reach : Nat → Int32}
theorem zy_w161 {post : Int32 → SY → Prop} {J : Int32 → Int32 → Int32 → Int32 → Int32 → Int32 → Int32 → Int32 → Int32 → Int32 → Int32 → Int32 → Int32 → (Nat → Int32) → (Nat → Int32) → (Nat → Int32) → (Nat → Int32) → (Nat → Int32) → (Nat → Int32) → (Nat → Int32) → (Nat → Int32) → (Nat → Int32) → (Nat → Int32) → (Nat → Int32) → (Nat → Int32) → (Nat → Int32) → Prop}
    {x1 x2 x3 x5 : Int32} (h : ∀ ls, (∀ y, y < 8 → ls y = a_perm y) → wY_write_211 post J x1 x2 x3 x5 f_maxAtoms f_maxRings f_slotCount f_st f_cur f_pend f_depth f_lineLen f_listingLen 1 f_candLen a_size a_kinds a_bonds a_stack a_ringAtom a_ringOrder a_line ls a_perm a_cand a_digitFrom a_digitTo a_reach) :
    ∀ d x, x + d = 8 → ∀ ls, (∀ y, y < x → ls y = a_perm y) → wY_write_161 post J x1 x2 x3 x5 f_maxAtoms f_maxRings f_slotCount f_st f_cur f_pend f_depth f_lineLen f_listingLen f_count f_candLen (d + 1) (nI x) a_size a_kinds a_bonds a_stack a_ringAtom a_ringOrder a_line ls a_perm a_cand a_digitFrom a_digitTo a_reach := by
  intro d
  induction d with
  | zero =>
    intro x hx ls hl
    have : x = 8 := by omega
    subst this
    exact br_t (by decide) (h ls hl)
  | succ d ih =>
    intro x hx ls hl
    refine br_f (nI_ge (b := 8) (by omega) (by decide)) ⟨zin (by omega) (by decide), zin (by omega) (by decide), ?_⟩
    rw [zcl (show x < 1000000 by omega)]
    refine nm_e (nm_r (nI_1 x) (ih (x + 1) (by omega) _ (fun y hy => ?_)))
    by_cases q : y = x
    · rw [q, pk_us]
    · rw [pk_un q]; exact hl y (by omega)
theorem zy_w126 {post : Int32 → SY → Prop} {J : Int32 → Int32 → Int32 → Int32 → Int32 → Int32 → Int32 → Int32 → Int32 → Int32 → Int32 → Int32 → Int32 → (Nat → Int32) → (Nat → Int32) → (Nat → Int32) → (Nat → Int32) → (Nat → Int32) → (Nat → Int32) → (Nat → Int32) → (Nat → Int32) → (Nat → Int32) → (Nat → Int32) → (Nat → Int32) → (Nat → Int32) → (Nat → Int32) → Prop}
    {x1 x2 x3 x5 : Int32} (h : ∀ ln ls, (∀ y, y < 64 → ln y = a_cand y) → (∀ y, y < 8 → ls y = a_perm y) → wY_write_211 post J x1 x2 x3 x5 f_maxAtoms f_maxRings f_slotCount f_st f_cur f_pend f_depth f_lineLen x3 1 f_candLen a_size a_kinds a_bonds a_stack a_ringAtom a_ringOrder ln ls a_perm a_cand a_digitFrom a_digitTo a_reach) :
    ∀ d x, x + d = 64 → ∀ ln, (∀ y, y < x → ln y = a_cand y) → wY_write_126 post J x1 x2 x3 x5 f_maxAtoms f_maxRings f_slotCount f_st f_cur f_pend f_depth f_lineLen f_listingLen f_count f_candLen (d + 1) (nI x) a_size a_kinds a_bonds a_stack a_ringAtom a_ringOrder ln a_listing a_perm a_cand a_digitFrom a_digitTo a_reach := by
  intro d
  induction d with
  | zero =>
    intro x hx ln hl
    have : x = 64 := by omega
    subst this
    exact br_t (by decide) ⟨9, zy_w161 (fun ls hs => h ln ls hl hs) 8 0 (by omega) a_listing (fun y hy => by omega)⟩
  | succ d ih =>
    intro x hx ln hl
    refine br_f (nI_ge (b := 64) (by omega) (by decide)) ⟨zin (by omega) (by decide), zin (by omega) (by decide), ?_⟩
    rw [zcl (show x < 1000000 by omega)]
    refine nm_e (nm_r (nI_1 x) (ih (x + 1) (by omega) _ (fun y hy => ?_)))
    by_cases q : y = x
    · rw [q, pk_us]
    · rw [pk_un q]; exact hl y (by omega)
/-- one arrangement -/
theorem zy_w84 {post : Int32 → SY → Prop} {J : Int32 → Int32 → Int32 → Int32 → Int32 → Int32 → Int32 → Int32 → Int32 → Int32 → Int32 → Int32 → Int32 → (Nat → Int32) → (Nat → Int32) → (Nat → Int32) → (Nat → Int32) → (Nat → Int32) → (Nat → Int32) → (Nat → Int32) → (Nat → Int32) → (Nat → Int32) → (Nat → Int32) → (Nat → Int32) → (Nat → Int32) → (Nat → Int32) → Prop}
    {x2 x5 : Int32} {m n : Nat} {p ka : Nat → Nat} {ok : Nat → Prop} {s : Nat × List Nat × (Nat → Nat)} (hb : zBd a_bonds) (hm : m < 4) (hn1 : 1 ≤ n) (hc : a_size m = nI n) (hM : zMol n (zbm a_bonds m)) (hp : zP n p) (hv : zV n p a_perm) (hK : ∀ i, i < n → a_kinds (m * 8 + i) = nI (ka i) ∧ ka i < 128)
    (hok : ok (zcut n p 0)) (hi : zGi n ka (zbm a_bonds m) s) (hs1 : s.1 < 1000000) (hY : zYS n s f_lineLen f_listingLen f_count a_line a_listing)
    (h : ∀ ll la ct cl ln ls cd df dt, zYS n (zG n ka (zbm a_bonds m) ok p s) ll la ct ln ls → wY_write_211 post J (nI m) x2 (nI n) x5 f_maxAtoms f_maxRings f_slotCount f_st f_cur f_pend f_depth ll la ct cl a_size a_kinds a_bonds a_stack a_ringAtom a_ringOrder ln ls a_perm cd df dt a_reach) :
    wY_write_84 post J (nI m) x2 (nI n) x5 f_maxAtoms f_maxRings f_slotCount f_st f_cur f_pend f_depth f_lineLen f_listingLen f_count f_candLen a_size a_kinds a_bonds a_stack a_ringAtom a_ringOrder a_line a_listing a_perm a_cand a_digitFrom a_digitTo a_reach := by
  have hn := hM.1
  have hp' := zcut_P hp
  have hv' := zcut_V hv
  have hPok : ∀ k, k < n → zcut n p k < n := hp'.1
  refine zy_isL hb hm hn hn1 hc hp' hv' (fun hL => br_f (by decide) ?_) (fun hL => br_t rfl ?_)
  · have h56 := zlp_56 (ka := ka) hM hp' (by omega) hL
    have hsm : zsm (zlp n ka (zbm a_bonds m) (zcut n p)) := zlp_sm (fun k hk => (hK _ (hPok k hk)).2)
    refine zy_sp hb hm hn hc hp' hv' (zisL_tree hL) (zod_9 hM hp' (by omega) hL) (fun k hk => (hK _ (hPok k hk)).1) (fun cl cd df dt hH => ?_)
    have hH' : zHc (zlp n ka (zbm a_bonds m) (zcut n p)) cl cd := hH
    have ecl := zHc_len hH' (by omega)
    have hcd : ∀ i, i < (zlp n ka (zbm a_bonds m) (zcut n p)).length → cd i = nI (zat (zlp n ka (zbm a_bonds m) (zcut n p)) i) := fun i hi => hH'.2 i hi (by omega)
    have new : (s.1 = 0 ∨ zless (zlp n ka (zbm a_bonds m) (zcut n p)) s.2.1) → ∃ n126, wY_write_126 post J (nI m) x2 (nI n) x5 f_maxAtoms f_maxRings f_slotCount f_st f_cur f_pend f_depth cl f_listingLen f_count cl n126 0 a_size a_kinds a_bonds a_stack a_ringAtom a_ringOrder a_line a_listing a_perm cd df dt a_reach := by
      intro hnew
      refine ⟨65, zy_w126 (fun ln ls g1 g2 => ?_) 64 0 (by omega) a_line (fun y hy => by omega)⟩
      refine h cl (nI n) 1 cl ln ls cd df dt ?_
      rw [zG_new ⟨hok, hL⟩ hnew]
      refine ⟨rfl, fun _ => ⟨ecl, fun i hi => ?_, rfl, fun i hi => ?_⟩⟩
      · have hi' : i < (zlp n ka (zbm a_bonds m) (zcut n p)).length := hi
        rw [g1 i (by omega)]; exact hcd i hi
      · rw [g2 i (by omega)]; exact hv' i hi
    by_cases c0 : s.1 = 0
    · refine zy_cmpA (lc := (zlp n ka (zbm a_bonds m) (zcut n p)).length) (by omega) ecl (fun r => br_t ?_ (new (Or.inl c0)))
      rw [hY.1, c0]; rfl
    · obtain ⟨y1, y2, y3, y4⟩ := hY.2 c0
      obtain ⟨i1, i2, i3⟩ := hi c0
      have l56 := zlp_56 (ka := ka) hM i2 (by omega) i3
      rw [← i1] at l56
      have lsm : zsm s.2.1 := by rw [i1]; exact zlp_sm (fun k hk => (hK _ (i2.1 k hk)).2)
      have cn : ¬ f_count = 0 := by rw [hY.1]; exact nI_ne0 (by omega) (by omega)
      refine zy_cmp (l := zlp n ka (zbm a_bonds m) (zcut n p)) (t := s.2.1) (by omega) (by omega) hsm lsm ecl y1 hcd y2 (fun r r0 rl => br_f cn ?_)
      by_cases c1 : zless (zlp n ka (zbm a_bonds m) (zcut n p)) s.2.1
      · exact br_f (fun z => Int32.not_lt.mpr z (rl.mpr c1)) (new (Or.inr c1))
      · refine br_t (Int32.not_lt.mp (fun z => c1 (rl.mp z))) ?_
        by_cases c2 : zlp n ka (zbm a_bonds m) (zcut n p) = s.2.1
        · refine br_t (r0.mpr c2) (nm_r (e' := nI (s.1 + 1)) (by rw [hY.1, nI_1]) (h f_lineLen f_listingLen _ cl a_line a_listing cd df dt ?_))
          rw [zG_eq ⟨hok, hL⟩ c0 c2]
          exact ⟨rfl, fun _ => ⟨y1, y2, y3, y4⟩⟩
        · refine br_f (fun z => c2 (r0.mp z)) (h f_lineLen f_listingLen f_count cl a_line a_listing cd df dt ?_)
          rw [zG_gt ⟨hok, hL⟩ c0 c1 c2]
          exact hY
  · refine h f_lineLen f_listingLen f_count f_candLen a_line a_listing a_cand a_digitFrom a_digitTo ?_
    rw [zG_no (fun z => hL z.2)]
    exact hY
theorem zy_wloop {post : Int32 → SY → Prop} {x2 : Int32} {m n : Nat} {ka : Nat → Nat} {ok : Nat → Prop} (hb : zBd a_bonds) (hm : m < 4) (hn1 : 1 ≤ n) (hc : a_size m = nI n) (hM : zMol n (zbm a_bonds m)) (hK : ∀ i, i < n → a_kinds (m * 8 + i) = nI (ka i) ∧ ka i < 128) (hR : zRoot n ok x2)
    (h : ∀ ll la ct cl ln ls pm cd df dt, zYS n (zT n (zG n ka (zbm a_bonds m) ok) n 0 (fun x => x) (0, [], fun x => x)) ll la ct ln ls → post ll (f_maxAtoms, f_maxRings, f_slotCount, f_st, f_cur, f_pend, f_depth, ll, la, ct, cl, a_size, a_kinds, a_bonds, a_stack, a_ringAtom, a_ringOrder, ln, ls, pm, cd, df, dt, a_reach))
    (h0 : f_count = 0) (r : Nat → Int32) (hr : zV 8 (fun x => x) r) : ∃ F, wY_write_57 post (nI m) x2 (nI n) F 1 0 f_maxAtoms f_maxRings f_slotCount f_st f_cur f_pend f_depth f_lineLen f_listingLen f_count f_candLen a_size a_kinds a_bonds a_stack a_ringAtom a_ringOrder a_line a_listing r a_cand a_digitFrom a_digitTo a_reach := by
  refine ⟨40322, ?_⟩
  have hn := hM.1
  have head : ∀ t p s F ll la ct cl ln ls pm cd df dt, t < 40320 → zP n p → zGi n ka (zbm a_bonds m) s → s.1 ≤ t → zV n p pm → zYS n s ll la ct ln ls →
      (∀ ll la ct cl ln ls cd df dt, zYS n (zG n ka (zbm a_bonds m) ok p s) ll la ct ln ls → wY_write_211 post (wY_write_57 post (nI m) x2 (nI n) F) (nI m) x2 (nI n) (nI t) f_maxAtoms f_maxRings f_slotCount f_st f_cur f_pend f_depth ll la ct cl a_size a_kinds a_bonds a_stack a_ringAtom a_ringOrder ln ls pm cd df dt a_reach) →
      wY_write_57 post (nI m) x2 (nI n) (F + 1) 1 (nI t) f_maxAtoms f_maxRings f_slotCount f_st f_cur f_pend f_depth ll la ct cl a_size a_kinds a_bonds a_stack a_ringAtom a_ringOrder ln ls pm cd df dt a_reach := by
    intro t p s F ll la ct cl ln ls pm cd df dt ht hp hi hs hv hY hq
    refine br_f (nI_ge (b := 40320) ht (by decide)) (br_f (by decide) ?_)
    have go : ok (zcut n p 0) → wY_write_84 post (wY_write_57 post (nI m) x2 (nI n) F) (nI m) x2 (nI n) (nI t) f_maxAtoms f_maxRings f_slotCount f_st f_cur f_pend f_depth ll la ct cl a_size a_kinds a_bonds a_stack a_ringAtom a_ringOrder ln ls pm cd df dt a_reach := fun hok => zy_w84 hb hm hn1 hc hM hp hv hK hok hi (by omega) hY hq
    rcases hR with ⟨e, ho⟩ | ⟨rt, e, hrt, ho⟩
    · exact br_t e (go (ho _))
    · have p0 := hp.1 0 (by omega)
      refine br_f (by rw [e]; exact fun z => zm1n rt (by omega) z.symm) ?_
      rw [hv 0 (by omega), e]
      rw [e] at go hq
      by_cases c : p 0 = rt
      · exact br_t (by rw [c]) (go ((ho _).mpr (by rw [zcut_e (by omega), c])))
      · refine br_f (fun z => c ((nI_eq (by omega) (by omega)).mp z)) (hq ll la ct cl ln ls cd df dt ?_)
        rw [zG_no (fun z => c (by have := (ho _).mp z.1; rw [zcut_e (by omega)] at this; exact this))]
        exact hY
  have key := zE_top (n := n) (g := zG n ka (zbm a_bonds m) ok) (zG_cg n ka (zbm a_bonds m) ok)
    (fun t p s => zGi n ka (zbm a_bonds m) s → s.1 ≤ t → ∀ F ll la ct cl ln ls pm cd df dt, F + t = 40322 → zV n p pm → zYS n s ll la ct ln ls → wY_write_57 post (nI m) x2 (nI n) F 1 (nI t) f_maxAtoms f_maxRings f_slotCount f_st f_cur f_pend f_depth ll la ct cl a_size a_kinds a_bonds a_stack a_ringAtom a_ringOrder ln ls pm cd df dt a_reach)
    (fun s => zGi n ka (zbm a_bonds m) s → ∀ ll la ct cl ln ls pm cd df dt, zYS n s ll la ct ln ls → post ll (f_maxAtoms, f_maxRings, f_slotCount, f_st, f_cur, f_pend, f_depth, ll, la, ct, cl, a_size, a_kinds, a_bonds, a_stack, a_ringAtom, a_ringOrder, ln, ls, pm, cd, df, dt, a_reach)) 40320 (zfac_8 hn)
    (fun t p s ht hp hex hq hi hs F ll la ct cl ln ls pm cd df dt hF hv hY => by
      obtain ⟨F, rfl⟩ : ∃ F', F = F' + 1 := ⟨F - 1, by clear hex; omega⟩
      refine head t p s F ll la ct cl ln ls pm cd df dt ht hp hi hs hv hY (fun ll la ct cl ln ls cd df dt hY' => ?_)
      have hle := zG_le (n := n) (ka := ka) (B := zbm a_bonds m) (ok := ok) (p := p) (s := s)
      exact zy_np hn1 hn hp hv (fun hd => absurd hex (zDsc_no2 hd)) (fun q pm' hnx hv' => nm_r (nI_1 t) (hq q hnx (zG_i hp hi) (by clear hex; omega) F ll la ct cl ln ls pm' cd df dt (by clear hex; omega) hv' hY')))
    (fun t p s ht hp hd hFin hi hs F ll la ct cl ln ls pm cd df dt hF hv hY => by
      obtain ⟨F, rfl⟩ : ∃ F', F = F' + 2 := ⟨F - 2, by omega⟩
      refine head t p s (F + 1) ll la ct cl ln ls pm cd df dt ht hp hi hs hv hY (fun ll la ct cl ln ls cd df dt hY' => ?_)
      have fin := hFin (zG_i hp hi) ll la ct cl ln ls pm cd df dt hY'
      exact zy_np hn1 hn hp hv (fun _ => nm_r (nI_1 t) (br_c (fun _ => fin) (fun _ => br_t rfl fin))) (fun q pm' hnx _ => absurd hnx (zDsc_no hd)))
    (fun x => x) (zP_id n) (zAsc_id n) (0, [], fun x => x) (fun _ => h)
  exact key (fun z => absurd rfl z) (Nat.le_refl _) 40322 f_lineLen f_listingLen f_count f_candLen a_line a_listing r a_cand a_digitFrom a_digitTo (by decide) (fun x hx => hr x (by omega)) ⟨h0, fun z => absurd rfl z⟩
end
end
section
/-! ===== X: considerListing ===== -/
def zXS (n : Nat) (B : Nat → Nat → Nat) (s : Nat × List Nat × (Nat → Nat)) (wl wc bc : Int32) (line listing : Nat → Int32) : Prop :=
  wc = nI s.1 ∧ (s.1 ≠ 0 → wl = nI s.2.1.length ∧ (∀ i, i < s.2.1.length → line i = nI (zat s.2.1 i)) ∧ (∀ i, i < n → listing i = nI (s.2.2 i)) ∧ bc = nI (zcl2 n B s.2.2))
section
variable {f_atomLimit f_ringLimit f_slotCount f_readState f_currentAtom f_pendingOrder f_branchDepth f_writtenLength f_writtenAtoms f_writtenCount f_bestClosed f_draftLength : Int32} {a_count a_kinds a_bonds a_branches a_ringAtom a_ringOrder a_line a_listing a_draft a_near a_place a_parent a_closed a_left a_pairDigit a_image a_signature a_nextSignature : Nat → Int32}
theorem zx_c107 {post : SX → Prop} {n : Nat} (hn : n ≤ 8) (h : ∀ ls, (∀ y, y < n → ls y = a_place y) → post (f_atomLimit, f_ringLimit, f_slotCount, f_readState, f_currentAtom, f_pendingOrder, f_branchDepth, f_writtenLength, f_writtenAtoms, f_writtenCount, f_bestClosed, f_draftLength, a_count, a_kinds, a_bonds, a_branches, a_ringAtom, a_ringOrder, a_line, ls, a_draft, a_near, a_place, a_parent, a_closed, a_left, a_pairDigit, a_image, a_signature, a_nextSignature)) :
    ∀ d x, x + d = n → ∀ ls, (∀ y, y < x → ls y = a_place y) → wX_considerListing_107 post (nI n) f_atomLimit f_ringLimit f_slotCount f_readState f_currentAtom f_pendingOrder f_branchDepth f_writtenLength f_writtenAtoms f_writtenCount f_bestClosed f_draftLength (d + 1) (nI x) a_count a_kinds a_bonds a_branches a_ringAtom a_ringOrder a_line ls a_draft a_near a_place a_parent a_closed a_left a_pairDigit a_image a_signature a_nextSignature := by
  intro d
  induction d with
  | zero =>
    intro x hx ls hl
    have : x = n := by omega
    subst this
    exact br_t (nI_le (Nat.le_refl _) (by omega)) (h ls hl)
  | succ d ih =>
    intro x hx ls hl
    refine br_f (nI_ge (by omega) (by omega)) ⟨zin (by omega) (by decide), zin (by omega) (by decide), ?_⟩
    rw [zcl (show x < 1000000 by omega)]
    refine nm_e (nm_r (nI_1 x) (ih (x + 1) (by omega) _ (fun y hy => ?_)))
    by_cases q : y = x
    · rw [q, pk_us]
    · rw [pk_un q]; exact hl y (by omega)
theorem zx_c75 {post : SX → Prop} {n l : Nat} (hn : n ≤ 8) (hl : l ≤ 64) (el : f_draftLength = nI l) (h : ∀ ln ls, (∀ y, y < l → ln y = a_draft y) → (∀ y, y < n → ls y = a_place y) → post (f_atomLimit, f_ringLimit, f_slotCount, f_readState, f_currentAtom, f_pendingOrder, f_branchDepth, f_writtenLength, f_writtenAtoms, f_writtenCount, f_bestClosed, f_draftLength, a_count, a_kinds, a_bonds, a_branches, a_ringAtom, a_ringOrder, ln, ls, a_draft, a_near, a_place, a_parent, a_closed, a_left, a_pairDigit, a_image, a_signature, a_nextSignature)) :
    ∀ d x, x + d = l → ∀ ln, (∀ y, y < x → ln y = a_draft y) → wX_considerListing_75 post (nI n) f_atomLimit f_ringLimit f_slotCount f_readState f_currentAtom f_pendingOrder f_branchDepth f_writtenLength f_writtenAtoms f_writtenCount f_bestClosed f_draftLength (d + 1) (nI x) a_count a_kinds a_bonds a_branches a_ringAtom a_ringOrder ln a_listing a_draft a_near a_place a_parent a_closed a_left a_pairDigit a_image a_signature a_nextSignature := by
  intro d
  induction d with
  | zero =>
    intro x hx ln hx2
    have : x = l := by omega
    subst this
    exact br_t (by rw [el]; exact nI_le (Nat.le_refl _) (by omega)) ⟨n + 1, zx_c107 hn (fun ls hs => h ln ls hx2 hs) n 0 (by omega) a_listing (fun y hy => by omega)⟩
  | succ d ih =>
    intro x hx ln hx2
    refine br_f (by rw [el]; exact nI_ge (by omega) (by omega)) ⟨zin (by omega) (by decide), zin (by omega) (by decide), ?_⟩
    rw [zcl (show x < 1000000 by omega)]
    refine nm_e (nm_r (nI_1 x) (ih (x + 1) (by omega) _ (fun y hy => ?_)))
    by_cases q : y = x
    · rw [q, pk_us]
    · rw [pk_un q]; exact hx2 y (by omega)
theorem zx_cons {post : SX → Prop} {m n : Nat} {p ka : Nat → Nat} {ok : Nat → Prop} {s : Nat × List Nat × (Nat → Nat)} (hb : zBd a_bonds) (hm : m < 3) (hn1 : 1 ≤ n) (hc : a_count m = nI n) (hM : zMol n (zbm a_bonds m)) (hp : zP n p) (hK : ∀ i, i < n → a_kinds (m * 8 + i) = nI (ka i) ∧ ka i < 128)
    (hpl : ∀ k, k < n → a_place k = nI (p k)) (hpa : ∀ k, k < n → a_parent k = zpI (zpa (zbp (zbm a_bonds m) (zcut n p)) n k)) (hcl : a_closed (n - 1) = nI (zcl2 n (zbm a_bonds m) (zcut n p))) (hok : ok (zcut n p 0)) (hL : zisL n (zbm a_bonds m) (zcut n p))
    (hi : zGi n ka (zbm a_bonds m) s) (hs1 : s.1 < 1000000) (hX : zXS n (zbm a_bonds m) s f_writtenLength f_writtenCount f_bestClosed a_line a_listing)
    (h : ∀ wl wc bc dl ln ls dr pd, zXS n (zbm a_bonds m) (zG n ka (zbm a_bonds m) ok p s) wl wc bc ln ls → post (f_atomLimit, f_ringLimit, f_slotCount, f_readState, f_currentAtom, f_pendingOrder, f_branchDepth, wl, f_writtenAtoms, wc, bc, dl, a_count, a_kinds, a_bonds, a_branches, a_ringAtom, a_ringOrder, ln, ls, dr, a_near, a_place, a_parent, a_closed, a_left, pd, a_image, a_signature, a_nextSignature)) :
    wpX_considerListing post (f_atomLimit, f_ringLimit, f_slotCount, f_readState, f_currentAtom, f_pendingOrder, f_branchDepth, f_writtenLength, f_writtenAtoms, f_writtenCount, f_bestClosed, f_draftLength, a_count, a_kinds, a_bonds, a_branches, a_ringAtom, a_ringOrder, a_line, a_listing, a_draft, a_near, a_place, a_parent, a_closed, a_left, a_pairDigit, a_image, a_signature, a_nextSignature) (nI m) := by
  have hn := hM.1
  have hp' := zcut_P hp
  have hPok : ∀ k, k < n → zcut n p k < n := hp'.1
  have hPl : zPl n (zcut n p) (zpa (zbp (zbm a_bonds m) (zcut n p)) n) a_place a_parent := fun k hk => by
    have le : zpa (zbp (zbm a_bonds m) (zcut n p)) n k ≤ k := zpg_le
    have := hPok k hk
    exact ⟨by rw [zcut_e hk]; exact hpl k hk, by omega, hpa k hk, by omega⟩
  have h56 := zlp_56 (ka := ka) hM hp' (by omega) hL
  have hsm : zsm (zlp n ka (zbm a_bonds m) (zcut n p)) := zlp_sm (fun k hk => (hK _ (hPok k hk)).2)
  unfold wpX_considerListing
  dsimp only
  rw [zcl (show m < 1000000 by omega), hc]
  refine ⟨zin (by omega) (by decide), nm_e (zx_bd hb hm hn hc hPl (zisL_tree hL) (zod_9 hM hp' (by omega) hL) (fun k hk => (hK _ (hPok k hk)).1) (fun dl dr pd hH => ?_))⟩
  have hH' : zHc (zlp n ka (zbm a_bonds m) (zcut n p)) dl dr := hH
  have edl := zHc_len hH' (by omega)
  have hdr : ∀ i, i < (zlp n ka (zbm a_bonds m) (zcut n p)).length → dr i = nI (zat (zlp n ka (zbm a_bonds m) (zcut n p)) i) := fun i hi => hH'.2 i hi (by omega)
  have e1 : nI n - 1 = nI (n - 1) := by
    have := nI_pred (n - 1)
    have q : n - 1 + 1 = n := by omega
    rw [q] at this; exact this
  have new : (s.1 = 0 ∨ zless (zlp n ka (zbm a_bonds m) (zcut n p)) s.2.1) → ∀ x3, ¬ x3 = 0 → ¬ 0 ≤ x3 → wX_considerListing_26 post (nI n) x3 f_atomLimit f_ringLimit f_slotCount f_readState f_currentAtom f_pendingOrder f_branchDepth f_writtenLength f_writtenAtoms f_writtenCount f_bestClosed dl a_count a_kinds a_bonds a_branches a_ringAtom a_ringOrder a_line a_listing dr a_near a_place a_parent a_closed a_left pd a_image a_signature a_nextSignature := by
    intro hnew x3 c1 c2
    refine br_f c1 (br_f c2 ?_)
    rw [e1, zcl (show n - 1 < 1000000 by omega)]
    refine ⟨zin (by omega) (by decide), nm_e ⟨(zlp n ka (zbm a_bonds m) (zcut n p)).length + 1, zx_c75 hn (by omega) edl (fun ln ls g1 g2 => ?_) (zlp n ka (zbm a_bonds m) (zcut n p)).length 0 (by omega) a_line (fun y hy => by omega)⟩⟩
    refine h dl 1 _ dl ln ls dr pd ?_
    rw [zG_new ⟨hok, hL⟩ hnew]
    refine ⟨rfl, fun _ => ⟨edl, fun i hi => ?_, fun i hi => ?_, hcl⟩⟩
    · rw [g1 i hi]; exact hdr i hi
    · rw [g2 i hi, hpl i hi]
      show nI (p i) = nI (zcut n p i)
      rw [zcut_e hi]
  dsimp only
  by_cases c0 : s.1 = 0
  · refine br_t (by rw [hX.1, c0]; decide) (new (Or.inl c0) (-1) (by decide) (by decide))
  · obtain ⟨y1, y2, y3, y4⟩ := hX.2 c0
    obtain ⟨i1, i2, i3⟩ := hi c0
    have l56 := zlp_56 (ka := ka) hM i2 (by omega) i3
    rw [← i1] at l56
    have lsm : zsm s.2.1 := by rw [i1]; exact zlp_sm (fun k hk => (hK _ (i2.1 k hk)).2)
    refine br_f (by rw [hX.1]; exact nI_nle (by omega) (by omega)) (zx_cmp (l := zlp n ka (zbm a_bonds m) (zcut n p)) (t := s.2.1) (by omega) (by omega) hsm lsm edl y1 hdr y2 (fun r r0 rl => ?_))
    by_cases c1 : zless (zlp n ka (zbm a_bonds m) (zcut n p)) s.2.1
    · have rn := rl.mpr c1
      exact new (Or.inr c1) r (fun z => by rw [z] at rn; exact absurd rn (by decide)) (fun z => Int32.not_lt.mpr z rn)
    · by_cases c2 : zlp n ka (zbm a_bonds m) (zcut n p) = s.2.1
      · refine br_t (r0.mpr c2) (nm_r (e' := nI (s.1 + 1)) (by rw [hX.1, nI_1]) (h f_writtenLength _ f_bestClosed dl a_line a_listing dr pd ?_))
        rw [zG_eq ⟨hok, hL⟩ c0 c2]
        exact ⟨rfl, fun _ => ⟨y1, y2, y3, y4⟩⟩
      · refine br_f (fun z => c2 (r0.mp z)) (br_t (Int32.not_lt.mp (fun z => c1 (rl.mp z))) (h f_writtenLength f_writtenCount f_bestClosed dl a_line a_listing dr pd ?_))
        rw [zG_gt ⟨hok, hL⟩ c0 c1 c2]
        exact hX
end
end
section
/-! ===== X: lowestBit, hopeless, enterPlace ===== -/
/-- the mask holds S, below 8 -/
def zMS (x : Int32) (S : Nat → Prop) : Prop := ∀ b, b < 32 → (bt x b = true ↔ (b < 8 ∧ S b))
theorem zMS_0 {x : Int32} {S : Nat → Prop} (h : zMS x S) (hS : ∀ b, b < 8 → ¬ S b) : x = 0 := by
  refine zb_z (fun i hi => ?_)
  cases c : bt x i
  · rfl
  · obtain ⟨q1, q2⟩ := (h i hi).mp c
    exact absurd q2 (hS i q1)
theorem zMS_n {x : Int32} {S : Nat → Prop} (h : zMS x S) {b : Nat} (hb : b < 8) (hS : S b) : ¬ x = 0 := zb_nz ((h b (by omega)).mpr ⟨hb, hS⟩)
theorem zMS_N {x : Int32} {S : Nat → Prop} (h : zMS x S) : ∃ w, w < 256 ∧ x = nI w := by
  have e : x &&& 255 = x := by
    refine b_ext (fun i hi => ?_)
    rw [b_and, b_255]
    cases c : bt x i
    · rfl
    · rw [decide_eq_true ((h i hi).mp c).1]; rfl
  obtain ⟨w, w1, w2⟩ := pk_andE x (m := 255) 8 (by decide)
  exact ⟨w, w1, by rw [← e]; exact w2⟩
theorem zclr : ∀ w, w < 256 → ∀ b, b < 8 → bt (nI w &&& (nI w - 1)) b = (bt (nI w) b && (List.range b).any (fun c => bt (nI w) c)) := by decide +kernel
theorem zMS_clr {x : Int32} {S : Nat → Prop} (h : zMS x S) {a : Nat} (ha : a < 8) (hS : S a) (hl : ∀ b, b < a → ¬ S b) : zMS (x &&& (x - 1)) (fun b => a < b ∧ S b) := by
  intro b hb
  by_cases b8 : b < 8
  · obtain ⟨w, w1, w2⟩ := zMS_N h
    have q := zclr w w1 b b8
    rw [← w2] at q
    rw [q, Bool.and_eq_true, h b hb, List.any_eq_true]
    constructor
    · rintro ⟨⟨_, q2⟩, c, c1, c2⟩
      have c3 : c < b := List.mem_range.mp c1
      obtain ⟨_, c4⟩ := (h c (by omega)).mp c2
      refine ⟨b8, ?_, q2⟩
      rcases Nat.lt_or_ge c a with z | z
      · exact absurd c4 (hl c z)
      · omega
    · rintro ⟨_, q2, q3⟩
      exact ⟨⟨b8, q3⟩, a, List.mem_range.mpr q2, (h a (by omega)).mpr ⟨ha, hS⟩⟩
  · rw [b_and, Bool.and_eq_true, h b hb]
    exact ⟨fun z => absurd z.1.1 b8, fun z => absurd z.1 b8⟩
section
variable {f_atomLimit f_ringLimit f_slotCount f_readState f_currentAtom f_pendingOrder f_branchDepth f_writtenLength f_writtenAtoms f_writtenCount f_bestClosed f_draftLength : Int32} {a_count a_kinds a_bonds a_branches a_ringAtom a_ringOrder a_line a_listing a_draft a_near a_place a_parent a_closed a_left a_pairDigit a_image a_signature a_nextSignature : Nat → Int32}
theorem zx_low {post : Int32 → Prop} {x : Int32} {S : Nat → Prop} (h : zMS x S) (hex : ∃ a, a < 8 ∧ S a) (hp : ∀ a, a < 8 → S a → (∀ b, b < a → ¬ S b) → post (nI a)) : wpX_lowestBit post (f_atomLimit, f_ringLimit, f_slotCount, f_readState, f_currentAtom, f_pendingOrder, f_branchDepth, f_writtenLength, f_writtenAtoms, f_writtenCount, f_bestClosed, f_draftLength, a_count, a_kinds, a_bonds, a_branches, a_ringAtom, a_ringOrder, a_line, a_listing, a_draft, a_near, a_place, a_parent, a_closed, a_left, a_pairDigit, a_image, a_signature, a_nextSignature) x := by
  have key : ∀ d i, i + d = 7 → (∀ b, b < i → ¬ S b) → wX_lowestBit_2 post x f_atomLimit f_ringLimit f_slotCount f_readState f_currentAtom f_pendingOrder f_branchDepth f_writtenLength f_writtenAtoms f_writtenCount f_bestClosed f_draftLength a_count a_kinds a_bonds a_branches a_ringAtom a_ringOrder a_line a_listing a_draft a_near a_place a_parent a_closed a_left a_pairDigit a_image a_signature a_nextSignature (d + 1) (nI i) := by
    intro d
    induction d with
    | zero =>
      intro i hi hn
      have : i = 7 := by omega
      subst this
      refine br_t (by decide) (hp 7 (by decide) ?_ hn)
      obtain ⟨a, a1, a2⟩ := hex
      rcases Nat.lt_or_ge a 7 with z | z
      · exact absurd a2 (hn a z)
      · have : a = 7 := by omega
        rw [← this]; exact a2
    | succ d ih =>
      intro i hi hn
      refine br_f (nI_ge (b := 7) (by omega) (by decide)) ?_
      cases c : bt x i
      · refine br_t ((zbtst (by omega)).mpr c) (nm_r (nI_1 i) (ih (i + 1) (by omega) (fun b hb => ?_)))
        by_cases q : b = i
        · rw [q]
          intro z
          have := (h i (by omega)).mpr ⟨by omega, z⟩
          rw [c] at this; exact Bool.noConfusion this
        · exact hn b (by omega)
      · refine br_f (fun z => ?_) (hp i (by omega) ((h i (by omega)).mp c).2 hn)
        have := (zbtst (by omega)).mp z
        rw [c] at this; exact Bool.noConfusion this
  unfold wpX_lowestBit
  dsimp only
  exact ⟨8, key 7 0 (by omega) (fun b hb => by omega)⟩
theorem zx_hop {post : Int32 → Prop} {n cc k0 : Nat} {ka : Nat → Nat} {B : Nat → Nat → Nat} {s : Nat × List Nat × (Nat → Nat)} (hn : n ≤ 8) (hn1 : 1 ≤ n) (hi : zGi n ka B s) (hs1 : s.1 < 1000000) (hka : ∀ i, i < n → ka i < 128) (hcc : cc < 1000) (hk0 : k0 < 128) (hX : zXS n B s f_writtenLength f_writtenCount f_bestClosed a_line a_listing)
    (hF : post 0) (hT : s.1 ≠ 0 → (zcl2 n B s.2.2 < cc ∨ (zcl2 n B s.2.2 = cc ∧ ka (s.2.2 0) < k0)) → post 1) : wpX_hopeless post (f_atomLimit, f_ringLimit, f_slotCount, f_readState, f_currentAtom, f_pendingOrder, f_branchDepth, f_writtenLength, f_writtenAtoms, f_writtenCount, f_bestClosed, f_draftLength, a_count, a_kinds, a_bonds, a_branches, a_ringAtom, a_ringOrder, a_line, a_listing, a_draft, a_near, a_place, a_parent, a_closed, a_left, a_pairDigit, a_image, a_signature, a_nextSignature) (nI cc) (nI k0) := by
  unfold wpX_hopeless
  dsimp only
  by_cases c0 : s.1 = 0
  · exact br_t (by rw [hX.1, c0]; rfl) hF
  · obtain ⟨y1, y2, y3, y4⟩ := hX.2 c0
    obtain ⟨i1, i2, i3⟩ := hi c0
    have z0 := zlp_0 ka B s.2.2 (show 0 < n by omega)
    rw [← i1] at z0
    have zl : a_line 0 = nI (ka (s.2.2 0)) := by rw [y2 0 z0.1, z0.2]
    have le : zcl2 n B s.2.2 ≤ n - 1 := zcc_le _ _
    have kb := hka (s.2.2 0) (i2.1 0 (by omega))
    refine br_f (by rw [hX.1]; exact nI_ne0 (by omega) (by omega)) ?_
    rw [y4, zl]
    by_cases c1 : cc ≤ zcl2 n B s.2.2
    · refine br_t (nI_le c1 (by omega)) ?_
      by_cases c2 : cc = zcl2 n B s.2.2
      · refine br_t (by rw [c2]) ?_
        by_cases c3 : k0 ≤ ka (s.2.2 0)
        · exact br_t (nI_le c3 (by omega)) hF
        · exact br_f (nI_ge (by omega) (by omega)) (hT c0 (Or.inr ⟨c2.symm, by omega⟩))
      · exact br_f (fun z => c2 ((nI_eq (by omega) (by omega)).mp z)) hF
    · exact br_f (nI_ge (by omega) (by omega)) (hT c0 (Or.inl (by omega)))
theorem zx_ent {post : SX → Prop} {vis : Int32} {m n k : Nat} {p ka : Nat → Nat} {s : Nat × List Nat × (Nat → Nat)} (hb : zBd a_bonds) (hm : m < 3) (hM : zMol n (zbm a_bonds m)) (hk0 : 0 < k) (hk : k < n) (hK : ∀ i, i < n → a_kinds (m * 8 + i) = nI (ka i) ∧ ka i < 128) (hI : zI n k p)
    (hpl : ∀ j, j < k → a_place j = nI (p j)) (hnr : ∀ a, a < n → a_near a = zmk (fun j => a_bonds (m * 64 + a * 8 + j)) 8) (hcl : a_closed (k - 1) = nI (zcU (zbm a_bonds m) n p (k - 1))) (hv : zUs n p k vis)
    (hi : zGi n ka (zbm a_bonds m) s) (hs1 : s.1 < 1000000) (hX : zXS n (zbm a_bonds m) s f_writtenLength f_writtenCount f_bestClosed a_line a_listing)
    (hO : ∀ pr cl msk, (∀ j, j ≠ k → pr j = a_parent j) → pr k = zpI (zpaU (zbm a_bonds m) n p k) → (∀ j, j ≠ k → cl j = a_closed j) → cl k = nI (zcU (zbm a_bonds m) n p k) → zMS msk (fun b => b < n ∧ zu p b k = false ∧ zbm a_bonds m (p (zpaU (zbm a_bonds m) n p k - 1)) b ≠ 0) → post (f_atomLimit, f_ringLimit, f_slotCount, f_readState, f_currentAtom, f_pendingOrder, f_branchDepth, f_writtenLength, f_writtenAtoms, f_writtenCount, f_bestClosed, f_draftLength, a_count, a_kinds, a_bonds, a_branches, a_ringAtom, a_ringOrder, a_line, a_listing, a_draft, a_near, a_place, pr, cl, upd a_left k msk, a_pairDigit, a_image, a_signature, a_nextSignature))
    (hH : s.1 ≠ 0 → (zcl2 n (zbm a_bonds m) s.2.2 < zcU (zbm a_bonds m) n p k ∨ (zcl2 n (zbm a_bonds m) s.2.2 = zcU (zbm a_bonds m) n p k ∧ ka (s.2.2 0) < ka (p 0))) → ∀ pr cl, (∀ j, j ≠ k → pr j = a_parent j) → pr k = zpI (zpaU (zbm a_bonds m) n p k) → (∀ j, j ≠ k → cl j = a_closed j) → cl k = nI (zcU (zbm a_bonds m) n p k) → post (f_atomLimit, f_ringLimit, f_slotCount, f_readState, f_currentAtom, f_pendingOrder, f_branchDepth, f_writtenLength, f_writtenAtoms, f_writtenCount, f_bestClosed, f_draftLength, a_count, a_kinds, a_bonds, a_branches, a_ringAtom, a_ringOrder, a_line, a_listing, a_draft, a_near, a_place, pr, cl, upd a_left k 0, a_pairDigit, a_image, a_signature, a_nextSignature)) :
    wpX_enterPlace post (f_atomLimit, f_ringLimit, f_slotCount, f_readState, f_currentAtom, f_pendingOrder, f_branchDepth, f_writtenLength, f_writtenAtoms, f_writtenCount, f_bestClosed, f_draftLength, a_count, a_kinds, a_bonds, a_branches, a_ringAtom, a_ringOrder, a_line, a_listing, a_draft, a_near, a_place, a_parent, a_closed, a_left, a_pairDigit, a_image, a_signature, a_nextSignature) (nI m) (nI k) vis := by
  have hn := hM.1
  have bits : ∀ j, j < k → zMS ((a_near (p j)) &&& (vis ^^^ (-1))) (fun b => b < n ∧ zu p b k = false ∧ zbm a_bonds m (p j) b ≠ 0) := by
    intro j hj b hb32
    have pj := hI.1 j hj
    rw [hnr (p j) pj, b_and, zbnot hb32, zmk_b 8 (by omega) b hb32, Bool.and_eq_true, Bool.and_eq_true, decide_eq_true_iff, decide_eq_true_iff, Bool.not_eq_true']
    have zz := zBd_z hb (m * 64 + p j * 8 + b)
    constructor
    · rintro ⟨⟨q1, q2⟩, q3⟩
      have nz : zbm a_bonds m (p j) b ≠ 0 := fun z => q2 (zz.mpr z)
      have bn : b < n := by
        rcases Nat.lt_or_ge b n with z | z
        · exact z
        · exact absurd (hM.2.2.2.1 (p j) b (by omega) q1 z) nz
      exact ⟨q1, bn, by rw [← hv b bn]; exact q3, nz⟩
    · rintro ⟨q1, q2, q3, q4⟩
      exact ⟨⟨q1, fun z => q4 (zz.mp z)⟩, by rw [hv b q2]; exact q3⟩
  have hpos := zpaU_pos hM hI hk0 hk
  have hple : zpaU (zbm a_bonds m) n p k ≤ k := zpaU_le
  have p0 := hI.1 0 hk0
  obtain ⟨J, eJ⟩ : ∃ J, zpaU (zbm a_bonds m) n p k = J + 1 := ⟨zpaU (zbm a_bonds m) n p k - 1, by omega⟩
  have pJ := hI.1 J (by omega)
  have ek : nI k - 1 = nI (k - 1) := by
    have := nI_pred (k - 1)
    have q : k - 1 + 1 = k := by omega
    rw [q] at this; exact this
  have w87 : ∀ pr cl, (∀ j, j ≠ k → pr j = a_parent j) → pr k = zpI (zpaU (zbm a_bonds m) n p k) → (∀ j, j ≠ k → cl j = a_closed j) → cl k = nI (zcU (zbm a_bonds m) n p k) → wX_enterPlace_87 post (nI m) (nI k) vis (nI J) f_atomLimit f_ringLimit f_slotCount f_readState f_currentAtom f_pendingOrder f_branchDepth f_writtenLength f_writtenAtoms f_writtenCount f_bestClosed f_draftLength a_count a_kinds a_bonds a_branches a_ringAtom a_ringOrder a_line a_listing a_draft a_near a_place pr cl a_left a_pairDigit a_image a_signature a_nextSignature := by
    intro pr cl g1 g2 g3 g4
    have cle : zcU (zbm a_bonds m) n p k ≤ k := zcU_le
    unfold wX_enterPlace_87
    rw [zcl (show k < 1000000 by omega), g4, hpl 0 hk0, zkx_c (by omega) (by omega), (hK (p 0) p0).1]
    refine ⟨zin (by omega) (by decide), zkx_in (by omega) (by omega), zx_hop hn (by omega) hi hs1 (fun i hi => (hK i hi).2) (by omega) (hK (p 0) p0).2 hX (br_t rfl ?_) (fun c0 hh => br_f (by decide) ⟨zin (by omega) (by decide), nm_e (hH c0 hh pr cl g1 g2 g3 g4)⟩)⟩
    rw [zcl (show J < 1000000 by omega), hpl J (by omega), zcl (show p J < 1000000 by omega)]
    refine ⟨zin (by omega) (by decide), zin (by omega) (by decide), zin (by omega) (by decide), nm_e (hO pr cl _ g1 g2 g3 g4 ?_)⟩
    have := bits J (by omega)
    have e : zpaU (zbm a_bonds m) n p k - 1 = J := by omega
    rw [e]; exact this
  have w47 : wX_enterPlace_47 post (nI m) (nI k) vis (nI J) f_atomLimit f_ringLimit f_slotCount f_readState f_currentAtom f_pendingOrder f_branchDepth f_writtenLength f_writtenAtoms f_writtenCount f_bestClosed f_draftLength a_count a_kinds a_bonds a_branches a_ringAtom a_ringOrder a_line a_listing a_draft a_near a_place a_parent a_closed a_left a_pairDigit a_image a_signature a_nextSignature := by
    have es : zcU (zbm a_bonds m) n p k = zcU (zbm a_bonds m) n p (k - 1) + (if zpaU (zbm a_bonds m) n p k ≠ k then 1 else 0) := by
      have q : k - 1 + 1 = k := by omega
      have := zs_s (fun i => if zpaU (zbm a_bonds m) n p (i + 1) ≠ i + 1 then 1 else 0) (k - 1)
      rw [q] at this; exact this
    unfold wX_enterPlace_47
    rw [ek, zcl (show k < 1000000 by omega), zcl (show k - 1 < 1000000 by omega)]
    refine ⟨zin (by omega) (by decide), nm_e ⟨zin (by omega) (by decide), zin (by omega) (by decide), nm_e ?_⟩⟩
    by_cases c : J = k - 1
    · rw [if_neg (by omega), Nat.add_zero] at es
      exact br_t (by rw [c]) (w87 _ _ (fun j hj => pk_un hj) (by rw [pk_us, eJ, zpI_s]) (fun j hj => pk_un hj) (by rw [pk_us, hcl, es]))
    · rw [if_pos (by omega)] at es
      refine br_f (fun z => c ((nI_eq (by omega) (by omega)).mp z)) ⟨zin (by omega) (by decide), zin (by omega) (by decide), nm_e (w87 _ _ (fun j hj => pk_un hj) (by rw [pk_us, eJ, zpI_s]) (fun j hj => by rw [pk_un hj, pk_un hj]) (by rw [pk_us, pk_us, hcl, es, nI_1]))⟩
  have loop : ∀ j, j < k → (∀ i, j < i → i < k → ¬ zhu (zbm a_bonds m) p k i n = true) → wX_enterPlace_8 post (nI m) (nI k) vis f_atomLimit f_ringLimit f_slotCount f_readState f_currentAtom f_pendingOrder f_branchDepth f_writtenLength f_writtenAtoms f_writtenCount f_bestClosed f_draftLength a_count a_kinds a_bonds a_branches a_ringAtom a_ringOrder a_line a_listing a_draft a_near a_place a_parent a_closed a_left a_pairDigit a_image a_signature a_nextSignature (j + 2) 0 (nI j) := by
    intro j
    have pick : ∀ i, i < k → (∀ e, i < e → e < k → ¬ zhu (zbm a_bonds m) p k e n = true) → (zhu (zbm a_bonds m) p k i n = true ∨ i = 0) → J = i := by
      intro i ik hno hor
      have hle2 : J ≤ i := by
        rcases Nat.lt_or_ge i J with z | z
        · have hs : zhu (zbm a_bonds m) p k (zpaU (zbm a_bonds m) n p k - 1) n = true := zpgU_s hpos
          have e : zpaU (zbm a_bonds m) n p k - 1 = J := by omega
          rw [e] at hs
          exact absurd hs (hno J z (by omega))
        · exact z
      rcases hor with q | q
      · have key2 : ∀ x, i < x → x ≤ k → zpgU (zbm a_bonds m) n p k x ≥ i + 1 := by
          intro x
          induction x with
          | zero => intro z; omega
          | succ x ihx =>
            intro z1 z2
            show (if zhu (zbm a_bonds m) p k x n = true then x + 1 else zpgU (zbm a_bonds m) n p k x) ≥ i + 1
            by_cases zc : zhu (zbm a_bonds m) p k x n = true
            · rw [if_pos zc]; omega
            · rw [if_neg zc]
              have : x ≠ i := fun zz => zc (by rw [zz]; exact q)
              exact ihx (by omega) (by omega)
        have := key2 k ik (Nat.le_refl _)
        have e : zpgU (zbm a_bonds m) n p k k = J + 1 := eJ
        omega
      · omega
    induction j with
    | zero =>
      intro hj hno
      have : J = 0 := pick 0 hj hno (Or.inr rfl)
      rw [this] at w47
      exact br_t (by decide) w47
    | succ j ih =>
      intro hj hno
      have pj := hI.1 (j + 1) hj
      refine br_f (nI_nle (by omega) (by omega)) (br_t rfl ?_)
      rw [zcl (show j + 1 < 1000000 by omega), hpl (j + 1) hj, zcl (show p (j + 1) < 1000000 by omega)]
      refine ⟨zin (by omega) (by decide), zin (by omega) (by decide), ?_⟩
      have bj := bits (j + 1) hj
      by_cases c : zhu (zbm a_bonds m) p k (j + 1) n = true
      · obtain ⟨b, b1, b2, b3⟩ := zhu_t.mp c
        refine br_f (zMS_n bj (b := b) (by omega) ⟨b1, b2, b3⟩) (nm_r (pk_m1 j) ?_)
        have eq : J = j + 1 := pick (j + 1) hj hno (Or.inl c)
        rw [eq] at w47
        exact br_c (fun _ => w47) (fun _ => br_f (nI_ne0 (by omega) (by omega)) w47)
      · refine br_t (zMS_0 bj (fun b hb8 z => c (zhu_t.mpr ⟨b, z.1, z.2.1, z.2.2⟩))) (nm_r (pk_m1 j) (ih (by omega) (fun i i1 i2 => ?_)))
        by_cases q : i = j + 1
        · rw [q]; exact c
        · exact hno i (by omega) i2
  unfold wpX_enterPlace
  dsimp only
  exact nm_r ek ⟨k - 1 + 2, loop (k - 1) (by omega) (fun i i1 i2 => by omega)⟩
end
end
section
/-! ===== X: walk ===== -/
theorem zisL_cut {n : Nat} {B : Nat → Nat → Nat} {p : Nat → Nat} (hM : zMol n B) (hp : zP n p) (h : zisL n B p) : zisL n B (zcut n p) := by
  refine (zLp_all hM (zcut_P hp)).mp (fun j h0 hj => ?_)
  have le := zpaU_le (B := B) (n := n) (k := j) (p := p)
  rw [zpaU_congr (q := p) (fun x hx => zcut_e (by omega)), zcut_e (by omega), zcut_e hj]
  exact (zLp_all hM hp).mpr h j h0 hj
/-- a choice that begins no listing changes nothing -/
theorem zTh_skip {n m k b : Nat} {ka p : Nat → Nat} {B : Nat → Nat → Nat} {ok : Nat → Prop} (hk : k + m + 1 = n) (hI : zI n k p) (hb : b < n) (h : zu p b k = true ∨ (0 < k ∧ B (p (zpaU B n p k - 1)) b = 0) ∨ (k = 0 ∧ ¬ ok b)) (s : Nat × List Nat × (Nat → Nat)) : zTh n (zG n ka B ok) m k p b s = s := by
  cases c : zu p b k
  · rw [zTh_f c]
    refine zT_inv (fun s' => s' = s) m (k + 1) (by omega) (zup p k b) s (zI_up hI hb c) (fun q s' hq hqe e => ?_) rfl
    rw [e]
    refine zG_no (fun z => ?_)
    rcases h with h | ⟨h0, h⟩ | ⟨h0, h⟩
    · rw [c] at h; exact Bool.noConfusion h
    · have r := zLp_not (k := k) (p := zup p k b) (zcut_P hq) z.2 (fun x hx => by rw [zcut_e (by omega)]; exact hqe x hx) (by omega) h0
      have le := zpaU_le (B := B) (n := n) (k := k) (p := p)
      rw [zpaU_congr (q := p) (fun x hx => zup_n (by omega)), zup_s, zup_n (by omega)] at r
      exact r h
    · apply h
      have z1 := z.1
      rw [zcut_e (by omega), hqe 0 (by omega)] at z1
      subst h0
      rw [zup_s] at z1; exact z1
  · exact zTh_t c s
/-- a beginning without hope changes nothing -/
theorem zT_prune {n m k : Nat} {ka p : Nat → Nat} {B : Nat → Nat → Nat} {ok : Nat → Prop} {s : Nat × List Nat × (Nat → Nat)} (hM : zMol n B) (hk : k + m = n) (hm : 1 ≤ m) (hk0 : 0 < k) (hI : zI n k p) (hi : zGi n ka B s) (h0 : s.1 ≠ 0)
    (h : zcl2 n B s.2.2 < zcU B n p k ∨ (zcl2 n B s.2.2 = zcU B n p k ∧ ka (s.2.2 0) < ka (p 0))) : zT n (zG n ka B ok) m k p s = s := by
  refine zT_inv (fun s' => s' = s) m k (by omega) p s hI (fun q s' hq hqe e => ?_) rfl
  rw [e]
  refine zG_pr hM (by omega) hi h0 hq (fun hL => ?_)
  have e1 := zcU_eq (B := B) (k := k) (p := p) (zcut_P hq) (fun x hx => by rw [zcut_e (by omega)]; exact hqe x hx) (by omega)
  have e2 : zcc (zpa (zbp B (zcut n q)) n) k ≤ zcl2 n B (zcut n q) := zs_mono _ (by omega)
  have e3 : zcut n q 0 = p 0 := by rw [zcut_e (by omega)]; exact hqe 0 hk0
  rw [e3]
  rcases h with h | ⟨h, h'⟩
  · exact Or.inl (by omega)
  · rcases Nat.lt_or_ge (zcU B n p k) (zcl2 n B (zcut n q)) with z | z
    · exact Or.inl (by omega)
    · exact Or.inr ⟨by omega, h'⟩
/-- what holds below place k -/
def zWK (B : Nat → Nat → Nat) (n : Nat) (p : Nat → Nat) (k : Nat) (L pl pr cl lf : Nat → Int32) : Prop := ∀ j, j < k → pl j = nI (p j) ∧ pr j = zpI (zpaU B n p j) ∧ cl j = nI (zcU B n p j) ∧ lf j = L j
/-- what the best line so far holds -/
def zWS (n : Nat) (ka : Nat → Nat) (B : Nat → Nat → Nat) (s : Nat × List Nat × (Nat → Nat)) (t : Nat) (wl wc bc : Int32) (ln ls : Nat → Int32) : Prop := zGi n ka B s ∧ s.1 ≤ t ∧ zXS n B s wl wc bc ln ls
theorem zWS_t {n : Nat} {ka : Nat → Nat} {B : Nat → Nat → Nat} {s : Nat × List Nat × (Nat → Nat)} {t t' : Nat} {wl wc bc : Int32} {ln ls : Nat → Int32} (h : zWS n ka B s t wl wc bc ln ls) (ht : t ≤ t') : zWS n ka B s t' wl wc bc ln ls := ⟨h.1, Nat.le_trans h.2.1 ht, h.2.2⟩
/-- the candidates at place k from a on -/
def zCd (B : Nat → Nat → Nat) (n : Nat) (ok : Nat → Prop) (p : Nat → Nat) (k a b : Nat) : Prop := a ≤ b ∧ b < n ∧ zu p b k = false ∧ (0 < k → B (p (zpaU B n p k - 1)) b ≠ 0) ∧ (k = 0 → ok b)
section
variable {f_atomLimit f_ringLimit f_slotCount f_readState f_currentAtom f_pendingOrder f_branchDepth f_writtenLength f_writtenAtoms f_writtenCount f_bestClosed f_draftLength : Int32} {a_count a_kinds a_bonds a_branches a_ringAtom a_ringOrder a_line a_listing a_draft a_near a_place a_parent a_closed a_left a_pairDigit a_image a_signature a_nextSignature : Nat → Int32}
/-- back to the place before -/
theorem zx_wback {post : SX → Prop} {m n k t F : Nat} {p : Nat → Nat} {L : Nat → Int32} {vis : Int32} {wl wc bc dl ln ls dr pl pr cl lf pd} (hn : n ≤ 8) (hk : k < n) (ht : t < 250000) (hI : zI n k p) (hl : lf k = 0) (hw : zWK (zbm a_bonds m) n p k L pl pr cl lf) (hv : zUs n p k vis)
    (h : ∀ vis', (∀ j, k = j + 1 → zUs n p j vis') → wX_walk_37 post (nI m) (nI n) F vis' (nI k + (-1)) (nI (t + 1)) f_atomLimit f_ringLimit f_slotCount f_readState f_currentAtom f_pendingOrder f_branchDepth wl f_writtenAtoms wc bc dl a_count a_kinds a_bonds a_branches a_ringAtom a_ringOrder ln ls dr a_near pl pr cl lf pd a_image a_signature a_nextSignature) : wX_walk_37 post (nI m) (nI n) (F + 1) vis (nI k) (nI t) f_atomLimit f_ringLimit f_slotCount f_readState f_currentAtom f_pendingOrder f_branchDepth wl f_writtenAtoms wc bc dl a_count a_kinds a_bonds a_branches a_ringAtom a_ringOrder ln ls dr a_near pl pr cl lf pd a_image a_signature a_nextSignature := by
  refine br_f (nI_ge (b := 250000) ht (by decide)) (br_f (nI_pos (by omega)) ⟨zin (by omega) (by decide), ?_⟩)
  rw [zcl (show k < 1000000 by omega), hl]
  refine br_t rfl (nm_e ?_)
  cases k with
  | zero => exact br_t (by decide) (nm_r (nI_1 t) (h vis (fun j hj => by omega)))
  | succ j =>
    rw [pk_m1] at h ⊢
    refine br_f (nI_pos (by omega)) ⟨zin (by omega) (by decide), ?_⟩
    rw [zcl (show j < 1000000 by omega), (hw j (by omega)).1]
    refine nm_e (nm_r (nI_1 t) (h _ (fun i hi => ?_)))
    have : i = j := by omega
    subst this
    exact zUs_sub hn hI hv
/-- atom r is taken at place x5 -/
def zPick (post : SX → Prop) (x1 x3 : Int32) (n : Nat) (x4 x5 x6 r : Int32) (u : SX) : Prop :=
  ((x5 < (x3 - 1) → (∀ x4_52 : Int32, x4_52 = x4 ||| ((1 : Int32) <<< (r &&& 31)) → (∀ x5_53 : Int32, x5_53 = x5 + 1 → (wpX_enterPlace (fun u => match u with | (f_atomLimit9, f_ringLimit9, f_slotCount9, f_readState9, f_currentAtom9, f_pendingOrder9, f_branchDepth9, f_writtenLength9, f_writtenAtoms9, f_writtenCount9, f_bestClosed9, f_draftLength9, a_count9, a_kinds9, a_bonds9, a_branches9, a_ringAtom9, a_ringOrder9, a_line9, a_listing9, a_draft9, a_near9, a_place9, a_parent9, a_closed9, a_left9, a_pairDigit9, a_image9, a_signature9, a_nextSignature9) => (∀ x6_85 : Int32, x6_85 = x6 + 1 → (wX_walk_37 post x1 x3 n x4_52 x5_53 x6_85 f_atomLimit9 f_ringLimit9 f_slotCount9 f_readState9 f_currentAtom9 f_pendingOrder9 f_branchDepth9 f_writtenLength9 f_writtenAtoms9 f_writtenCount9 f_bestClosed9 f_draftLength9 a_count9 a_kinds9 a_bonds9 a_branches9 a_ringAtom9 a_ringOrder9 a_line9 a_listing9 a_draft9 a_near9 a_place9 a_parent9 a_closed9 a_left9 a_pairDigit9 a_image9 a_signature9 a_nextSignature9))) u x1 x5_53 x4_52)))) ∧ (¬ x5 < (x3 - 1) → (wpX_considerListing (fun u => match u with | (f_atomLimit9, f_ringLimit9, f_slotCount9, f_readState9, f_currentAtom9, f_pendingOrder9, f_branchDepth9, f_writtenLength9, f_writtenAtoms9, f_writtenCount9, f_bestClosed9, f_draftLength9, a_count9, a_kinds9, a_bonds9, a_branches9, a_ringAtom9, a_ringOrder9, a_line9, a_listing9, a_draft9, a_near9, a_place9, a_parent9, a_closed9, a_left9, a_pairDigit9, a_image9, a_signature9, a_nextSignature9) => (∀ x6_117 : Int32, x6_117 = x6 + 1 → (wX_walk_37 post x1 x3 n x4 x5 x6_117 f_atomLimit9 f_ringLimit9 f_slotCount9 f_readState9 f_currentAtom9 f_pendingOrder9 f_branchDepth9 f_writtenLength9 f_writtenAtoms9 f_writtenCount9 f_bestClosed9 f_draftLength9 a_count9 a_kinds9 a_bonds9 a_branches9 a_ringAtom9 a_ringOrder9 a_line9 a_listing9 a_draft9 a_near9 a_place9 a_parent9 a_closed9 a_left9 a_pairDigit9 a_image9 a_signature9 a_nextSignature9))) u x1)))
/-- what is owed for one choice at place k -/
def zSub (post : SX → Prop) (m n q k : Nat) (ka : Nat → Nat) (ok : Nat → Prop) (p : Nat → Nat) (L : Nat → Int32) (f_atomLimit f_ringLimit f_slotCount f_readState f_currentAtom f_pendingOrder f_branchDepth f_writtenLength f_writtenAtoms f_writtenCount f_bestClosed f_draftLength : Int32) (a_count a_kinds a_bonds a_branches a_ringAtom a_ringOrder a_line a_listing a_draft a_near a_place a_parent a_closed a_left a_pairDigit a_image a_signature a_nextSignature : Nat → Int32) : Prop :=
  ∀ b s t F vis msk wl wc bc dl ln ls dr pl pr cl lf pd, b < n → zu p b k = false → (0 < k → zbm a_bonds m (p (zpaU (zbm a_bonds m) n p k - 1)) b ≠ 0) → (k = 0 → ok b) → F + t + 1 = 250002 → t + 1 + zMT q ≤ 250000 → zWS n ka (zbm a_bonds m) s t wl wc bc ln ls → zWK (zbm a_bonds m) n p k L pl pr cl lf → pl k = nI b → pr k = zpI (zpaU (zbm a_bonds m) n p k) → cl k = nI (zcU (zbm a_bonds m) n p k) → lf k = msk → zUs n p k vis →
   (∀ t' F' vis' wl1 wc1 bc1 dl1 ln1 ls1 dr1 pl1 pr1 cl1 lf1 pd1, F' + t' = 250002 → t' ≤ t + 1 + zMT q → zWS n ka (zbm a_bonds m) (zTh n (zG n ka (zbm a_bonds m) ok) q k p b s) t' wl1 wc1 bc1 ln1 ls1 → zWK (zbm a_bonds m) n p k L pl1 pr1 cl1 lf1 → pr1 k = zpI (zpaU (zbm a_bonds m) n p k) → cl1 k = nI (zcU (zbm a_bonds m) n p k) → lf1 k = msk → zUs n p k vis' → wX_walk_37 post (nI m) (nI n) F' vis' (nI k) (nI t') f_atomLimit f_ringLimit f_slotCount f_readState f_currentAtom f_pendingOrder f_branchDepth wl1 f_writtenAtoms wc1 bc1 dl1 a_count a_kinds a_bonds a_branches a_ringAtom a_ringOrder ln1 ls1 dr1 a_near pl1 pr1 cl1 lf1 pd1 a_image a_signature a_nextSignature) →
   zPick post (nI m) (nI n) F vis (nI k) (nI t) (nI b) (f_atomLimit, f_ringLimit, f_slotCount, f_readState, f_currentAtom, f_pendingOrder, f_branchDepth, wl, f_writtenAtoms, wc, bc, dl, a_count, a_kinds, a_bonds, a_branches, a_ringAtom, a_ringOrder, ln, ls, dr, a_near, pl, pr, cl, lf, pd, a_image, a_signature, a_nextSignature)
theorem zx_wstep {post : SX → Prop} {m n q k : Nat} {ka : Nat → Nat} {ok : Nat → Prop} {p : Nat → Nat} {L : Nat → Int32} (hM : zMol n (zbm a_bonds m)) (hk : k + q + 1 = n) (hI : zI n k p) (sub : zSub post m n q k ka ok p L f_atomLimit f_ringLimit f_slotCount f_readState f_currentAtom f_pendingOrder f_branchDepth f_writtenLength f_writtenAtoms f_writtenCount f_bestClosed f_draftLength a_count a_kinds a_bonds a_branches a_ringAtom a_ringOrder a_line a_listing a_draft a_near a_place a_parent a_closed a_left a_pairDigit a_image a_signature a_nextSignature) :
    ∀ c a, n - a ≤ c → a ≤ n → ∀ s0 s t F vis wl wc bc dl ln ls dr pl pr cl lf pd, s = zF (zTh n (zG n ka (zbm a_bonds m) ok) q k p) a s0 → F + t = 250002 → t + 1 + zfc p k n a * (1 + zMT q) ≤ 250000 →
      zWS n ka (zbm a_bonds m) s t wl wc bc ln ls → zWK (zbm a_bonds m) n p k L pl pr cl lf → pr k = zpI (zpaU (zbm a_bonds m) n p k) → cl k = nI (zcU (zbm a_bonds m) n p k) → zMS (lf k) (zCd (zbm a_bonds m) n ok p k a) → zUs n p k vis →
      (∀ t' F' vis' wl1 wc1 bc1 dl1 ln1 ls1 dr1 pl1 pr1 cl1 lf1 pd1, F' + t' = 250002 → t' ≤ t + 1 + zfc p k n a * (1 + zMT q) → zWS n ka (zbm a_bonds m) (zT n (zG n ka (zbm a_bonds m) ok) (q + 1) k p s0) t' wl1 wc1 bc1 ln1 ls1 → zWK (zbm a_bonds m) n p k L pl1 pr1 cl1 lf1 → (∀ j, k = j + 1 → zUs n p j vis') → wX_walk_37 post (nI m) (nI n) F' vis' (nI k + (-1)) (nI t') f_atomLimit f_ringLimit f_slotCount f_readState f_currentAtom f_pendingOrder f_branchDepth wl1 f_writtenAtoms wc1 bc1 dl1 a_count a_kinds a_bonds a_branches a_ringAtom a_ringOrder ln1 ls1 dr1 a_near pl1 pr1 cl1 lf1 pd1 a_image a_signature a_nextSignature) →
      wX_walk_37 post (nI m) (nI n) F vis (nI k) (nI t) f_atomLimit f_ringLimit f_slotCount f_readState f_currentAtom f_pendingOrder f_branchDepth wl f_writtenAtoms wc bc dl a_count a_kinds a_bonds a_branches a_ringAtom a_ringOrder ln ls dr a_near pl pr cl lf pd a_image a_signature a_nextSignature := by
  have hn := hM.1
  have skip : ∀ b, b < n → ∀ a, a ≤ b → ¬ zCd (zbm a_bonds m) n ok p k a b → ∀ s, zTh n (zG n ka (zbm a_bonds m) ok) q k p b s = s := by
    intro b hb a hab hno s
    refine zTh_skip hk hI hb ?_ s
    cases z : zu p b k
    · refine Or.inr ?_
      by_cases k0 : k = 0
      · refine Or.inr ⟨k0, fun zz => hno ⟨hab, hb, z, fun q => by omega, fun _ => zz⟩⟩
      · refine Or.inl ⟨by omega, ?_⟩
        apply Classical.byContradiction
        intro zz
        exact hno ⟨hab, hb, z, fun _ => zz, fun q => absurd q k0⟩
    · exact Or.inl rfl
  intro c
  induction c with
  | zero =>
    intro a ha1 ha2 s0 s t F vis wl wc bc dl ln ls dr pl pr cl lf pd es hF ht hs hw hpk hck hlk hv cont
    obtain ⟨F, rfl⟩ : ∃ F', F = F' + 1 := ⟨F - 1, by omega⟩
    refine zx_wback hn (by omega) (by omega) hI (zMS_0 hlk (fun b _ z => by have := z.1; have := z.2.1; omega)) hw hv (fun vis' hv' => cont (t + 1) F vis' wl wc bc dl ln ls dr pl pr cl lf pd (by omega) (by omega) ?_ hw hv')
    rw [zT_s]
    have e : a = n := by omega
    rw [e] at es
    rw [← es]
    exact zWS_t hs (by omega)
  | succ c ih =>
    intro a ha1 ha2 s0 s t F vis wl wc bc dl ln ls dr pl pr cl lf pd es hF ht hs hw hpk hck hlk hv cont
    obtain ⟨F, rfl⟩ : ∃ F', F = F' + 1 := ⟨F - 1, by omega⟩
    by_cases none : ∀ b, b < 8 → ¬ zCd (zbm a_bonds m) n ok p k a b
    · refine zx_wback hn (by omega) (by omega) hI (zMS_0 hlk none) hw hv (fun vis' hv' => cont (t + 1) F vis' wl wc bc dl ln ls dr pl pr cl lf pd (by omega) (by omega) ?_ hw hv')
      rw [zT_s, zF_skip ha2 (fun b b1 b2 s => skip b b2 a b1 (none b (by omega)) s), ← es]
      exact zWS_t hs (by omega)
    · have hex : ∃ b, b < 8 ∧ zCd (zbm a_bonds m) n ok p k a b := by
        apply Classical.byContradiction
        intro z
        exact none (fun b hb hc => z ⟨b, hb, hc⟩)
      have nz : ¬ lf k = 0 := by
        obtain ⟨b, b1, b2⟩ := hex
        exact zMS_n hlk b1 b2
      refine br_f (nI_ge (b := 250000) (by omega) (by decide)) (br_f (nI_pos (by omega)) ⟨zin (by omega) (by decide), ?_⟩)
      rw [zcl (show k < 1000000 by omega)]
      refine br_f nz ⟨zin (by omega) (by decide), zx_low hlk hex (fun b b8 cb lb => ⟨zin (by omega) (by decide), zin (by omega) (by decide), zin (by omega) (by decide), nm_e ⟨zin (by omega) (by decide), nm_e ?_⟩⟩)⟩
      obtain ⟨g1, g2, g3, g4, g5⟩ := cb
      have hb : zF (zTh n (zG n ka (zbm a_bonds m) ok) q k p) b s0 = s := by
        rw [es]
        exact zF_skip g1 (fun b' b1 b2 s => skip b' (by omega) a b1 (lb b' b2) s) s0
      have anti := zfc_anti g1 g2 g3
      have hmul : zfc p k n (b + 1) * (1 + zMT q) + (1 + zMT q) ≤ zfc p k n a * (1 + zMT q) := by
        have := Nat.mul_le_mul_right (1 + zMT q) anti
        rw [Nat.add_mul, Nat.one_mul] at this
        exact this
      have hmsk := zMS_clr hlk b8 ⟨g1, g2, g3, g4, g5⟩ lb
      refine sub b s t F vis _ wl wc bc dl ln ls dr (upd pl k (nI b)) pr cl (upd lf k (lf k &&& (lf k - 1))) pd g2 g3 g4 g5 (by omega) (by omega) hs ?_ pk_us hpk hck pk_us hv ?_
      · intro j hj
        obtain ⟨w1, w2, w3, w4⟩ := hw j hj
        exact ⟨by rw [pk_un (by omega)]; exact w1, w2, w3, by rw [pk_un (by omega)]; exact w4⟩
      · intro t' F' vis' wl1 wc1 bc1 dl1 ln1 ls1 dr1 pl1 pr1 cl1 lf1 pd1 hF' ht' hs' hw' hpk' hck' hlk' hv'
        refine ih (b + 1) (by omega) (by omega) s0 _ t' F' vis' wl1 wc1 bc1 dl1 ln1 ls1 dr1 pl1 pr1 cl1 lf1 pd1 ?_ hF' (by omega) hs' hw' hpk' hck' ?_ hv' ?_
        · show _ = zTh n (zG n ka (zbm a_bonds m) ok) q k p b (zF (zTh n (zG n ka (zbm a_bonds m) ok) q k p) b s0)
          rw [hb]
        · rw [hlk']
          intro x hx
          rw [hmsk x hx]
          constructor
          · rintro ⟨z1, z2, z3⟩
            exact ⟨z1, z2, z3.2⟩
          · rintro ⟨z1, z2, z3⟩
            exact ⟨z1, z2, by omega, z3⟩
        · intro t2 F2 vis2 wl2 wc2 bc2 dl2 ln2 ls2 dr2 pl2 pr2 cl2 lf2 pd2 hF2 ht2 hs2 hw2 hv2
          exact cont t2 F2 vis2 wl2 wc2 bc2 dl2 ln2 ls2 dr2 pl2 pr2 cl2 lf2 pd2 hF2 (by omega) hs2 hw2 hv2
end
end
section
section
variable {f_atomLimit f_ringLimit f_slotCount f_readState f_currentAtom f_pendingOrder f_branchDepth f_writtenLength f_writtenAtoms f_writtenCount f_bestClosed f_draftLength : Int32} {a_count a_kinds a_bonds a_branches a_ringAtom a_ringOrder a_line a_listing a_draft a_near a_place a_parent a_closed a_left a_pairDigit a_image a_signature a_nextSignature : Nat → Int32}
theorem zx_sub0 {post : SX → Prop} {m n k : Nat} {ka : Nat → Nat} {ok : Nat → Prop} {p : Nat → Nat} {L : Nat → Int32} (hb : zBd a_bonds) (hm : m < 3) (hc : a_count m = nI n) (hM : zMol n (zbm a_bonds m)) (hK : ∀ i, i < n → a_kinds (m * 8 + i) = nI (ka i) ∧ ka i < 128)
    (hk : k + 1 = n) (hI : zI n k p) (hL : zLp (zbm a_bonds m) n p k) (hr : 0 < k → ok (p 0)) : zSub post m n 0 k ka ok p L f_atomLimit f_ringLimit f_slotCount f_readState f_currentAtom f_pendingOrder f_branchDepth f_writtenLength f_writtenAtoms f_writtenCount f_bestClosed f_draftLength a_count a_kinds a_bonds a_branches a_ringAtom a_ringOrder a_line a_listing a_draft a_near a_place a_parent a_closed a_left a_pairDigit a_image a_signature a_nextSignature := by
  have hn := hM.1
  intro b s t F vis msk wl wc bc dl ln ls dr pl pr cl lf pd hbn hu h1 h2 hF ht hs hw hplk hprk hclk hlk hv ret
  have e1 : nI n - 1 = nI (n - 1) := by
    have := nI_pred (n - 1)
    have q : n - 1 + 1 = n := by omega
    rw [q] at this; exact this
  have hI' := zI_up hI hbn hu
  have hP' : zP n (zup p k b) := by
    have : zI n n (zup p k b) := by rw [hk] at hI'; exact hI'
    exact this
  have pos : 0 < k → zpaU (zbm a_bonds m) n p k ≠ 0 := fun z => zpaU_pos hM hI z (by omega)
  have hL' : zisL n (zbm a_bonds m) (zup p k b) := by
    refine (zLp_all hM hP').mp ?_
    have := zLp_up hL (fun z => ⟨pos z, h1 z⟩)
    rw [hk] at this; exact this
  have hpaU : ∀ j, j < n → zpa (zbp (zbm a_bonds m) (zcut n (zup p k b))) n j = zpaU (zbm a_bonds m) n p j := fun j hj => by
    rw [zpaU_eq (p := zup p k b) (zcut_P hP') (fun x hx => zcut_e (by omega)) (by omega)]
    exact zpaU_congr (fun x hx => zup_n (by omega))
  refine br_f (by rw [e1]; exact nI_nlt (by omega) (by omega)) (zx_cons (p := zup p k b) (ok := ok) (s := s) hb hm (by omega) hc hM hP' hK (fun j hj => ?_) (fun j hj => ?_) ?_ ?_ (zisL_cut hM hP' hL') hs.1 (by have := hs.2.1; omega) hs.2.2 (fun wl1 wc1 bc1 dl1 ln1 ls1 dr1 pd1 hx => ?_))
  · by_cases e : j = k
    · rw [e, zup_s]; exact hplk
    · rw [zup_n e]; exact (hw j (by omega)).1
  · rw [hpaU j hj]
    by_cases e : j = k
    · rw [e]; exact hprk
    · exact (hw j (by omega)).2.1
  · have e : n - 1 = k := by omega
    have e2 : zcl2 n (zbm a_bonds m) (zcut n (zup p k b)) = zcU (zbm a_bonds m) n p k := by
      show zcc (zpa (zbp (zbm a_bonds m) (zcut n (zup p k b))) n) (n - 1) = _
      rw [zcU_eq (p := zup p k b) (zcut_P hP') (fun x hx => zcut_e (by omega)) (by omega), e]
      exact zcU_congr (fun x hx => zup_n (by omega))
    rw [e, e2]; exact hclk
  · rw [zcut_e (by omega)]
    by_cases e : k = 0
    · rw [← e, zup_s]; exact h2 e
    · rw [zup_n (by omega)]; exact hr (by omega)
  · have hle := zG_le (n := n) (ka := ka) (B := zbm a_bonds m) (ok := ok) (p := zup p k b) (s := s)
    have hst := hs.2.1
    refine nm_r (nI_1 t) (ret (t + 1) F vis wl1 wc1 bc1 dl1 ln1 ls1 dr1 pl pr cl lf pd1 (by omega) (by omega) ?_ hw hprk hclk hlk hv)
    rw [zTh_f hu]
    exact ⟨zG_i hP' hs.1, by show (zG n ka (zbm a_bonds m) ok (zup p k b) s).1 ≤ t + 1; omega, hx⟩
def zLev (post : SX → Prop) (m n q : Nat) (ka : Nat → Nat) (ok : Nat → Prop) (f_atomLimit f_ringLimit f_slotCount f_readState f_currentAtom f_pendingOrder f_branchDepth f_writtenLength f_writtenAtoms f_writtenCount f_bestClosed f_draftLength : Int32) (a_count a_kinds a_bonds a_branches a_ringAtom a_ringOrder a_line a_listing a_draft a_near a_place a_parent a_closed a_left a_pairDigit a_image a_signature a_nextSignature : Nat → Int32) : Prop :=
  ∀ k, k + q + 1 = n → ∀ p L, zI n k p → zLp (zbm a_bonds m) n p k → (0 < k → ok (p 0)) → ∀ s t F vis wl wc bc dl ln ls dr pl pr cl lf pd, F + t = 250002 → t + zMT (q + 1) ≤ 250000 →
      zWS n ka (zbm a_bonds m) s t wl wc bc ln ls → zWK (zbm a_bonds m) n p k L pl pr cl lf → pr k = zpI (zpaU (zbm a_bonds m) n p k) → cl k = nI (zcU (zbm a_bonds m) n p k) → zMS (lf k) (zCd (zbm a_bonds m) n ok p k 0) → zUs n p k vis →
      (∀ t' F' vis' wl1 wc1 bc1 dl1 ln1 ls1 dr1 pl1 pr1 cl1 lf1 pd1, F' + t' = 250002 → t' ≤ t + zMT (q + 1) → zWS n ka (zbm a_bonds m) (zT n (zG n ka (zbm a_bonds m) ok) (q + 1) k p s) t' wl1 wc1 bc1 ln1 ls1 → zWK (zbm a_bonds m) n p k L pl1 pr1 cl1 lf1 → (∀ j, k = j + 1 → zUs n p j vis') → wX_walk_37 post (nI m) (nI n) F' vis' (nI k + (-1)) (nI t') f_atomLimit f_ringLimit f_slotCount f_readState f_currentAtom f_pendingOrder f_branchDepth wl1 f_writtenAtoms wc1 bc1 dl1 a_count a_kinds a_bonds a_branches a_ringAtom a_ringOrder ln1 ls1 dr1 a_near pl1 pr1 cl1 lf1 pd1 a_image a_signature a_nextSignature) →
      wX_walk_37 post (nI m) (nI n) F vis (nI k) (nI t) f_atomLimit f_ringLimit f_slotCount f_readState f_currentAtom f_pendingOrder f_branchDepth wl f_writtenAtoms wc bc dl a_count a_kinds a_bonds a_branches a_ringAtom a_ringOrder ln ls dr a_near pl pr cl lf pd a_image a_signature a_nextSignature
theorem zx_levOf {post : SX → Prop} {m n q : Nat} {ka : Nat → Nat} {ok : Nat → Prop} (hM : zMol n (zbm a_bonds m)) (h : ∀ k, k + q + 1 = n → ∀ p L, zI n k p → zLp (zbm a_bonds m) n p k → (0 < k → ok (p 0)) → zSub post m n q k ka ok p L f_atomLimit f_ringLimit f_slotCount f_readState f_currentAtom f_pendingOrder f_branchDepth f_writtenLength f_writtenAtoms f_writtenCount f_bestClosed f_draftLength a_count a_kinds a_bonds a_branches a_ringAtom a_ringOrder a_line a_listing a_draft a_near a_place a_parent a_closed a_left a_pairDigit a_image a_signature a_nextSignature) : zLev post m n q ka ok f_atomLimit f_ringLimit f_slotCount f_readState f_currentAtom f_pendingOrder f_branchDepth f_writtenLength f_writtenAtoms f_writtenCount f_bestClosed f_draftLength a_count a_kinds a_bonds a_branches a_ringAtom a_ringOrder a_line a_listing a_draft a_near a_place a_parent a_closed a_left a_pairDigit a_image a_signature a_nextSignature := by
  intro k hk p L hI hL hr s t F vis wl wc bc dl ln ls dr pl pr cl lf pd hF ht hs hw hpk hck hlk hv cont
  have all := zfc_all k hI (by omega)
  have ez : zfc p k n 0 = q + 1 := by omega
  have eM : zMT (q + 1) = 1 + (q + 1) * (1 + zMT q) := rfl
  refine zx_wstep hM hk hI (h k hk p L hI hL hr) n 0 (by omega) (Nat.zero_le _) s s t F vis wl wc bc dl ln ls dr pl pr cl lf pd rfl hF (by rw [ez]; omega) hs hw hpk hck hlk hv ?_
  intro t' F' vis' wl1 wc1 bc1 dl1 ln1 ls1 dr1 pl1 pr1 cl1 lf1 pd1 hF' ht' hs' hw' hv'
  exact cont t' F' vis' wl1 wc1 bc1 dl1 ln1 ls1 dr1 pl1 pr1 cl1 lf1 pd1 hF' (by rw [ez] at ht'; omega) hs' hw' hv'
theorem zx_subS {post : SX → Prop} {m n q k : Nat} {ka : Nat → Nat} {ok : Nat → Prop} {p : Nat → Nat} {L : Nat → Int32} (hb : zBd a_bonds) (hm : m < 3) (hM : zMol n (zbm a_bonds m)) (hK : ∀ i, i < n → a_kinds (m * 8 + i) = nI (ka i) ∧ ka i < 128) (hnr : ∀ a, a < n → a_near a = zmk (fun j => a_bonds (m * 64 + a * 8 + j)) 8)
    (hk : k + (q + 1) + 1 = n) (hI : zI n k p) (hL : zLp (zbm a_bonds m) n p k) (hr : 0 < k → ok (p 0)) (lev : zLev post m n q ka ok f_atomLimit f_ringLimit f_slotCount f_readState f_currentAtom f_pendingOrder f_branchDepth f_writtenLength f_writtenAtoms f_writtenCount f_bestClosed f_draftLength a_count a_kinds a_bonds a_branches a_ringAtom a_ringOrder a_line a_listing a_draft a_near a_place a_parent a_closed a_left a_pairDigit a_image a_signature a_nextSignature) : zSub post m n (q + 1) k ka ok p L f_atomLimit f_ringLimit f_slotCount f_readState f_currentAtom f_pendingOrder f_branchDepth f_writtenLength f_writtenAtoms f_writtenCount f_bestClosed f_draftLength a_count a_kinds a_bonds a_branches a_ringAtom a_ringOrder a_line a_listing a_draft a_near a_place a_parent a_closed a_left a_pairDigit a_image a_signature a_nextSignature := by
  have hn := hM.1
  intro b s t F vis msk wl wc bc dl ln ls dr pl pr cl lf pd hbn hu h1 h2 hF ht hs hw hplk hprk hclk hlk hv ret
  have e1 : nI n - 1 = nI (n - 1) := by
    have := nI_pred (n - 1)
    have q : n - 1 + 1 = n := by omega
    rw [q] at this; exact this
  have hI' := zI_up hI hbn hu
  have pos : 0 < k → zpaU (zbm a_bonds m) n p k ≠ 0 := fun z => zpaU_pos hM hI z (by omega)
  have hL' := zLp_up hL (fun z => ⟨pos z, h1 z⟩)
  have hv' : zUs n (zup p k b) (k + 1) (vis ||| ((1 : Int32) <<< (nI b &&& 31))) := zUs_add hn hv (by omega)
  have hok' : ok (zup p k b 0) := by
    by_cases e : k = 0
    · subst e; rw [zup_s]; exact h2 rfl
    · rw [zup_n (by omega)]; exact hr (by omega)
  have cg : ∀ j, j ≤ k → zpaU (zbm a_bonds m) n (zup p k b) j = zpaU (zbm a_bonds m) n p j := fun j hj => zpaU_congr (fun x hx => zup_n (by omega))
  have cc : ∀ j, j ≤ k → zcU (zbm a_bonds m) n (zup p k b) j = zcU (zbm a_bonds m) n p j := fun j hj => zcU_congr (fun x hx => zup_n (by omega))
  have mt : 1 ≤ zMT (q + 1) := by
    have : zMT (q + 1) = 1 + (q + 1) * (1 + zMT q) := rfl
    omega
  have hst := hs.2.1
  have keepW : ∀ pr' cl' lf', (∀ j, j ≠ k + 1 → pr' j = pr j) → (∀ j, j ≠ k + 1 → cl' j = cl j) → (∀ j, j ≠ k + 1 → lf' j = lf j) → zWK (zbm a_bonds m) n (zup p k b) (k + 1) (upd L k msk) pl pr' cl' lf' := by
    intro pr' cl' lf' g1 g2 g3 j hj
    rw [g1 j (by omega), g2 j (by omega), g3 j (by omega), cg j (by omega), cc j (by omega)]
    by_cases e : j = k
    · rw [e, zup_s, pk_us]; exact ⟨hplk, hprk, hclk, hlk⟩
    · rw [zup_n e, pk_un e]; exact hw j (by omega)
  have back : ∀ pl1 pr1 cl1 lf1, zWK (zbm a_bonds m) n (zup p k b) (k + 1) (upd L k msk) pl1 pr1 cl1 lf1 → zWK (zbm a_bonds m) n p k L pl1 pr1 cl1 lf1 ∧ pr1 k = zpI (zpaU (zbm a_bonds m) n p k) ∧ cl1 k = nI (zcU (zbm a_bonds m) n p k) ∧ lf1 k = msk := by
    intro pl1 pr1 cl1 lf1 g
    refine ⟨fun j hj => ?_, ?_⟩
    · have := g j (by omega)
      rw [cg j (by omega), cc j (by omega), zup_n (by omega), pk_un (by omega)] at this
      exact this
    · have := g k (by omega)
      rw [cg k (by omega), cc k (by omega), pk_us] at this
      exact ⟨this.2.1, this.2.2.1, this.2.2.2⟩
  have usb : ∀ vis', zUs n (zup p k b) k vis' → zUs n p k vis' := fun vis' g y hy => by
    rw [g y hy]
    exact zu_congr (fun x hx => zup_n (by omega)) y
  have eT : zTh n (zG n ka (zbm a_bonds m) ok) (q + 1) k p b s = zT n (zG n ka (zbm a_bonds m) ok) (q + 1) (k + 1) (zup p k b) s := zTh_f hu s
  refine br_t (by rw [e1]; exact nI_lt (by omega) (by omega)) (nm_e (nm_r (nI_1 k) (zx_ent (s := s) (p := zup p k b) (ka := ka) hb hm hM (by omega) (by omega) hK hI' (fun j hj => ?_) hnr ?_ hv' hs.1 (by omega) hs.2.2 (fun pr' cl' msk' g1 g2 g3 g4 g5 => ?_) (fun c0 hh pr' cl' g1 g2 g3 g4 => ?_))))
  · by_cases e : j = k
    · rw [e, zup_s]; exact hplk
    · rw [zup_n e]; exact (hw j (by omega)).1
  · have e : k + 1 - 1 = k := by omega
    rw [e, cc k (Nat.le_refl _)]; exact hclk
  · refine nm_r (nI_1 t) (lev (k + 1) (by omega) (zup p k b) (upd L k msk) hI' hL' (fun _ => hok') s (t + 1) F _ wl wc bc dl ln ls dr pl pr' cl' (upd lf (k + 1) msk') pd (by omega) (by omega) (zWS_t hs (by omega)) (keepW pr' cl' _ g1 g3 (fun j hj => pk_un hj)) g2 g4 ?_ hv' ?_)
    · rw [pk_us]
      intro x hx
      rw [g5 x hx]
      constructor
      · rintro ⟨z1, z2, z3, z4⟩
        exact ⟨z1, Nat.zero_le _, z2, z3, fun _ => z4, fun z => by omega⟩
      · rintro ⟨z1, z2, z3, z4, z5, z6⟩
        exact ⟨z1, z3, z4, z5 (by omega)⟩
    · intro t' F' vis' wl1 wc1 bc1 dl1 ln1 ls1 dr1 pl1 pr1 cl1 lf1 pd1 hF' ht' hs' hw' hvv
      rw [pk_m1]
      obtain ⟨b1, b2, b3, b4⟩ := back pl1 pr1 cl1 lf1 hw'
      exact ret t' F' vis' wl1 wc1 bc1 dl1 ln1 ls1 dr1 pl1 pr1 cl1 lf1 pd1 hF' (by omega) (by rw [eT]; exact hs') b1 b2 b3 b4 (usb vis' (hvv k rfl))
  · obtain ⟨F, rfl⟩ : ∃ F', F = F' + 1 := ⟨F - 1, by omega⟩
    have hW := keepW pr' cl' (upd lf (k + 1) 0) g1 g3 (fun j hj => pk_un hj)
    refine nm_r (nI_1 t) (zx_wback (p := zup p k b) (L := upd L k msk) hn (by omega) (by omega) hI' pk_us hW hv' (fun vis' hvv => ?_))
    rw [pk_m1]
    obtain ⟨b1, b2, b3, b4⟩ := back pl pr' cl' _ hW
    refine ret (t + 1 + 1) F vis' wl wc bc dl ln ls dr pl pr' cl' (upd lf (k + 1) 0) pd (by omega) (by omega) ?_ b1 b2 b3 b4 (usb vis' (hvv k rfl))
    rw [eT, zT_prune hM (by omega) (by omega) (by omega) hI' hs.1 c0 hh]
    exact zWS_t hs (by omega)
theorem zx_lev {post : SX → Prop} {m n : Nat} {ka : Nat → Nat} {ok : Nat → Prop} (hb : zBd a_bonds) (hm : m < 3) (hc : a_count m = nI n) (hM : zMol n (zbm a_bonds m)) (hK : ∀ i, i < n → a_kinds (m * 8 + i) = nI (ka i) ∧ ka i < 128) (hnr : ∀ a, a < n → a_near a = zmk (fun j => a_bonds (m * 64 + a * 8 + j)) 8) : ∀ q, zLev post m n q ka ok f_atomLimit f_ringLimit f_slotCount f_readState f_currentAtom f_pendingOrder f_branchDepth f_writtenLength f_writtenAtoms f_writtenCount f_bestClosed f_draftLength a_count a_kinds a_bonds a_branches a_ringAtom a_ringOrder a_line a_listing a_draft a_near a_place a_parent a_closed a_left a_pairDigit a_image a_signature a_nextSignature := by
  intro q
  induction q with
  | zero => exact zx_levOf hM (fun k hk p L hI hL hr => zx_sub0 hb hm hc hM hK (by omega) hI hL hr)
  | succ q ih => exact zx_levOf hM (fun k hk p L hI hL hr => zx_subS hb hm hM hK hnr hk hI hL hr ih)
theorem zx_walk {post : SX → Prop} {m n : Nat} {ka : Nat → Nat} {ok : Nat → Prop} {roots : Int32} (hb : zBd a_bonds) (hm : m < 3) (hn1 : 1 ≤ n) (hc : a_count m = nI n) (hM : zMol n (zbm a_bonds m)) (hK : ∀ i, i < n → a_kinds (m * 8 + i) = nI (ka i) ∧ ka i < 128) (hnr : ∀ a, a < n → a_near a = zmk (fun j => a_bonds (m * 64 + a * 8 + j)) 8)
    (h0 : f_writtenCount = 0) (hro : zMS roots (fun b => b < n ∧ ok b))
    (h : ∀ wl wc bc dl ln ls dr pl pr cl lf pd, zXS n (zbm a_bonds m) (zT n (zG n ka (zbm a_bonds m) ok) n 0 (fun x => x) (0, [], fun x => x)) wl wc bc ln ls → post (f_atomLimit, f_ringLimit, f_slotCount, f_readState, f_currentAtom, f_pendingOrder, f_branchDepth, wl, f_writtenAtoms, wc, bc, dl, a_count, a_kinds, a_bonds, a_branches, a_ringAtom, a_ringOrder, ln, ls, dr, a_near, pl, pr, cl, lf, pd, a_image, a_signature, a_nextSignature)) : wpX_walk post (f_atomLimit, f_ringLimit, f_slotCount, f_readState, f_currentAtom, f_pendingOrder, f_branchDepth, f_writtenLength, f_writtenAtoms, f_writtenCount, f_bestClosed, f_draftLength, a_count, a_kinds, a_bonds, a_branches, a_ringAtom, a_ringOrder, a_line, a_listing, a_draft, a_near, a_place, a_parent, a_closed, a_left, a_pairDigit, a_image, a_signature, a_nextSignature) (nI m) roots := by
  have hn := hM.1
  unfold wpX_walk
  dsimp only
  rw [zcl (show m < 1000000 by omega), hc]
  refine ⟨zin (by omega) (by decide), nm_e (nm_e (nm_e (nm_e ⟨250002, ?_⟩)))⟩
  have en : n - 1 + 1 = n := by omega
  have h8 := zMT_8 hn
  have key : zLev post m n (n - 1) ka ok f_atomLimit f_ringLimit f_slotCount f_readState f_currentAtom f_pendingOrder f_branchDepth f_writtenLength f_writtenAtoms f_writtenCount f_bestClosed f_draftLength a_count a_kinds a_bonds a_branches a_ringAtom a_ringOrder a_line a_listing a_draft a_near a_place a_parent a_closed a_left a_pairDigit a_image a_signature a_nextSignature := zx_lev hb hm hc hM hK hnr (n - 1)
  refine key 0 (by omega) (fun x => x) (fun _ => 0) (zI_0 n _) (fun j _ hj => by omega) (fun z => by omega) (0, [], fun x => x) 0 250002 0 f_writtenLength f_writtenCount f_bestClosed f_draftLength a_line a_listing a_draft a_place (upd a_parent 0 (-1)) (upd a_closed 0 0) (upd a_left 0 roots) a_pairDigit (by omega) (by rw [en]; omega) ⟨fun z => absurd rfl z, Nat.le_refl _, h0, fun z => absurd rfl z⟩ (fun j hj => by omega) pk_us pk_us ?_ (fun y hy => b_0 y) ?_
  · rw [pk_us]
    intro x hx
    rw [hro x hx]
    constructor
    · rintro ⟨z1, z2, z3⟩
      exact ⟨z1, Nat.zero_le _, z2, rfl, fun z => by omega, fun _ => z3⟩
    · rintro ⟨z1, z2, z3, z4, z5, z6⟩
      exact ⟨z1, z3, z6 rfl⟩
  · intro t' F' vis' wl1 wc1 bc1 dl1 ln1 ls1 dr1 pl1 pr1 cl1 lf1 pd1 hF' ht' hs' hw' hvv
    rw [en] at ht' hs'
    obtain ⟨F', rfl⟩ : ∃ F2, F' = F2 + 1 := ⟨F' - 1, by omega⟩
    have fin := h wl1 wc1 bc1 dl1 ln1 ls1 dr1 pl1 pr1 cl1 lf1 pd1 hs'.2.2
    exact br_c (fun _ => fin) (fun _ => br_t (by decide) fin)
end
end
section
/-! ===== write ===== -/
theorem zall : ∀ n, n < 9 → ∀ b, b < 32 → bt (((1 : Int32) <<< (nI n &&& 31)) - 1) b = decide (b < n) := by decide +kernel
theorem zro_all {n : Nat} (hn : n ≤ 8) : zMS (((1 : Int32) <<< (nI n &&& 31)) - 1) (fun b => b < n ∧ True) := fun b hb => by
  rw [zall n (by omega) b hb, decide_eq_true_iff]
  exact ⟨fun z => ⟨by omega, z, trivial⟩, fun z => z.2.1⟩
theorem zro_one {n r : Nat} (hn : n ≤ 8) (hr : r < n) : zMS ((1 : Int32) <<< (nI r &&& 31)) (fun b => b < n ∧ b = r) := fun b hb => by
  rw [zbsh r (by omega) b hb, decide_eq_true_iff]
  exact ⟨fun z => ⟨by omega, by omega, z⟩, fun z => z.2.2⟩
section
variable {f_atomLimit f_ringLimit f_slotCount f_readState f_currentAtom f_pendingOrder f_branchDepth f_writtenLength f_writtenAtoms f_writtenCount f_bestClosed f_draftLength : Int32} {a_count a_kinds a_bonds a_branches a_ringAtom a_ringOrder a_line a_listing a_draft a_near a_place a_parent a_closed a_left a_pairDigit a_image a_signature a_nextSignature : Nat → Int32}
theorem zx_w45 {post : Int32 → SX → Prop} {x2 : Int32} {m n : Nat} {ka : Nat → Nat} {ok : Nat → Prop} (hb : zBd a_bonds) (hm : m < 3) (hn1 : 1 ≤ n) (hc : a_count m = nI n) (hM : zMol n (zbm a_bonds m)) (hK : ∀ i, i < n → a_kinds (m * 8 + i) = nI (ka i) ∧ ka i < 128)
    (hro : (x2 = -1 ∧ zMS (((1 : Int32) <<< (nI n &&& 31)) - 1) (fun b => b < n ∧ ok b)) ∨ (¬ x2 = -1 ∧ zMS ((1 : Int32) <<< (x2 &&& 31)) (fun b => b < n ∧ ok b)))
    (h : ∀ nr wl wc bc dl ln ls dr pl pr cl lf pd, zXS n (zbm a_bonds m) (zT n (zG n ka (zbm a_bonds m) ok) n 0 (fun x => x) (0, [], fun x => x)) wl wc bc ln ls → post wl (f_atomLimit, f_ringLimit, f_slotCount, f_readState, f_currentAtom, f_pendingOrder, f_branchDepth, wl, nI n, wc, bc, dl, a_count, a_kinds, a_bonds, a_branches, a_ringAtom, a_ringOrder, ln, ls, dr, nr, pl, pr, cl, lf, pd, a_image, a_signature, a_nextSignature)) :
    ∀ d x, x + d = n → ∀ nr, (∀ a, a < x → nr a = zmk (fun j => a_bonds (m * 64 + a * 8 + j)) 8) → wX_write_45 post (nI m) x2 (nI n) f_atomLimit f_ringLimit f_slotCount f_readState f_currentAtom f_pendingOrder f_branchDepth f_writtenLength f_writtenAtoms f_writtenCount f_bestClosed f_draftLength (d + 1) (nI x) a_count a_kinds a_bonds a_branches a_ringAtom a_ringOrder a_line a_listing a_draft nr a_place a_parent a_closed a_left a_pairDigit a_image a_signature a_nextSignature := by
  have hn := hM.1
  intro d
  induction d with
  | zero =>
    intro x hx nr hnr
    have : x = n := by omega
    subst this
    have go : ∀ z0, zMS z0 (fun b => b < x ∧ ok b) → wX_write_107 post (nI m) z0 f_atomLimit f_ringLimit f_slotCount f_readState f_currentAtom f_pendingOrder f_branchDepth 0 (nI x) 0 0 f_draftLength a_count a_kinds a_bonds a_branches a_ringAtom a_ringOrder a_line a_listing a_draft nr a_place a_parent a_closed a_left a_pairDigit a_image a_signature a_nextSignature := by
      intro z0 hz
      unfold wX_write_107
      exact zx_walk (ka := ka) (ok := ok) hb hm hn1 hc hM hK hnr rfl hz (fun wl wc bc dl ln ls dr pl pr cl lf pd hs => h nr wl wc bc dl ln ls dr pl pr cl lf pd hs)
    refine br_t (nI_le (Nat.le_refl _) (by omega)) ?_
    rcases hro with ⟨e, hz⟩ | ⟨e, hz⟩
    · exact br_t e (go _ hz)
    · exact br_f e (go _ hz)
  | succ d ih =>
    intro x hx nr hnr
    refine br_f (nI_ge (by omega) (by omega)) (zx_nm (by omega) (by omega) ⟨zin (by omega) (by decide), ?_⟩)
    rw [zcl (show x < 1000000 by omega)]
    refine nm_e (nm_r (nI_1 x) (ih (x + 1) (by omega) _ (fun a ha => ?_)))
    by_cases e : a = x
    · rw [e, pk_us]
    · rw [pk_un e]; exact hnr a (by omega)
end
theorem i_vc_write {k : Nat} {u : SX} {v : SY} (I : i_Rel k u v) (hk : k + 5 ≤ 2563) (v1 : Int32) (v2 : Int32) : wpX_write (fun r u' => wpY_write (fun r' v' => r' = r ∧ i_Rel (k + 5) u' v') v v1 v2) u v1 v2 := by
  refine zz_el (P := fun u v => wpX_write (fun r u' => wpY_write (fun r' v' => r' = r ∧ i_Rel (k + 5) u' v') v v1 v2) u v1 v2) ?_ I
  intro f_atomLimit f_ringLimit f_slotCount f_readState f_currentAtom f_pendingOrder f_branchDepth f_writtenLength f_writtenAtoms f_writtenCount f_bestClosed f_draftLength a_count a_kinds a_bonds a_branches a_ringAtom a_ringOrder a_line a_listing a_draft a_near a_place a_parent a_closed a_left a_pairDigit a_image a_signature a_nextSignature f_candLen b_kinds b_ringOrder b_line b_listing a_perm a_cand a_digitFrom a_digitTo a_reach h1 h2 h3 h4 h5
  have I0 : i_Rel (k + 5) (f_atomLimit, f_ringLimit, f_slotCount, f_readState, f_currentAtom, f_pendingOrder, f_branchDepth, f_writtenLength, f_writtenAtoms, f_writtenCount, f_bestClosed, f_draftLength, a_count, a_kinds, a_bonds, a_branches, a_ringAtom, a_ringOrder, a_line, a_listing, a_draft, a_near, a_place, a_parent, a_closed, a_left, a_pairDigit, a_image, a_signature, a_nextSignature) (f_atomLimit, f_ringLimit, f_slotCount, f_readState, f_currentAtom, f_pendingOrder, f_branchDepth, f_writtenLength, f_writtenAtoms, f_writtenCount, f_candLen, a_count, b_kinds, a_bonds, a_branches, a_ringAtom, b_ringOrder, b_line, b_listing, a_perm, a_cand, a_digitFrom, a_digitTo, a_reach) := zz_in h1 h2 h3 h4 h5
  have bad : (v1 < 0 ∨ (¬ v1 < 0 ∧ f_slotCount ≤ v1)) → wpX_write (fun r u' => wpY_write (fun r' v' => r' = r ∧ i_Rel (k + 5) u' v') (f_atomLimit, f_ringLimit, f_slotCount, f_readState, f_currentAtom, f_pendingOrder, f_branchDepth, f_writtenLength, f_writtenAtoms, f_writtenCount, f_candLen, a_count, b_kinds, a_bonds, a_branches, a_ringAtom, b_ringOrder, b_line, b_listing, a_perm, a_cand, a_digitFrom, a_digitTo, a_reach) v1 v2) (f_atomLimit, f_ringLimit, f_slotCount, f_readState, f_currentAtom, f_pendingOrder, f_branchDepth, f_writtenLength, f_writtenAtoms, f_writtenCount, f_bestClosed, f_draftLength, a_count, a_kinds, a_bonds, a_branches, a_ringAtom, a_ringOrder, a_line, a_listing, a_draft, a_near, a_place, a_parent, a_closed, a_left, a_pairDigit, a_image, a_signature, a_nextSignature) v1 v2 := fun b => by
    unfold wpX_write
    refine zx_slot0 b (br_t rfl ?_)
    unfold wpY_write
    exact zy_slot1 b (br_f (by decide) ⟨rfl, I0⟩)
  rcases zslot (x := v1) h1 with b | b | ⟨s, hs3, rfl, b1, b2⟩
  · exact bad (Or.inl b)
  · exact bad (Or.inr b)
  have hs : s < 4 := by omega
  obtain ⟨hc, hM⟩ := h2.2.1 s hs
  have ks := h2.2.2 s
  obtain ⟨n, en⟩ : ∃ n, zc a_count s = n := ⟨_, rfl⟩
  rw [en] at hc hM ks
  have n8 := hM.1
  have cs : (nI s).toNatClampNeg = s := zcl (by omega)
  have is : vp_in (nI s) 4 := zin hs (by decide)
  have hY : ∀ post : Int32 → SY → Prop, (((nI n = 0 → (post (-11) (f_atomLimit, f_ringLimit, f_slotCount, f_readState, f_currentAtom, f_pendingOrder, f_branchDepth, f_writtenLength, f_writtenAtoms, f_writtenCount, f_candLen, a_count, b_kinds, a_bonds, a_branches, a_ringAtom, b_ringOrder, b_line, b_listing, a_perm, a_cand, a_digitFrom, a_digitTo, a_reach))) ∧ (¬ nI n = 0 → (((v2 = (-1) → (wY_write_42 post (nI s) v2 (nI n) f_atomLimit f_ringLimit f_slotCount f_readState f_currentAtom f_pendingOrder f_branchDepth f_writtenLength f_writtenAtoms f_writtenCount f_candLen a_count b_kinds a_bonds a_branches a_ringAtom b_ringOrder b_line b_listing a_perm a_cand a_digitFrom a_digitTo a_reach)) ∧ (¬ v2 = (-1) → (wpY_badAtom (fun r_176 => (((r_176 = 0 → (wY_write_42 post (nI s) v2 (nI n) f_atomLimit f_ringLimit f_slotCount f_readState f_currentAtom f_pendingOrder f_branchDepth f_writtenLength f_writtenAtoms f_writtenCount f_candLen a_count b_kinds a_bonds a_branches a_ringAtom b_ringOrder b_line b_listing a_perm a_cand a_digitFrom a_digitTo a_reach)) ∧ (¬ r_176 = 0 → (post (-10) (f_atomLimit, f_ringLimit, f_slotCount, f_readState, f_currentAtom, f_pendingOrder, f_branchDepth, f_writtenLength, f_writtenAtoms, f_writtenCount, f_candLen, a_count, b_kinds, a_bonds, a_branches, a_ringAtom, b_ringOrder, b_line, b_listing, a_perm, a_cand, a_digitFrom, a_digitTo, a_reach)))))) (f_atomLimit, f_ringLimit, f_slotCount, f_readState, f_currentAtom, f_pendingOrder, f_branchDepth, f_writtenLength, f_writtenAtoms, f_writtenCount, f_candLen, a_count, b_kinds, a_bonds, a_branches, a_ringAtom, b_ringOrder, b_line, b_listing, a_perm, a_cand, a_digitFrom, a_digitTo, a_reach) (nI s) v2))))))) → wpY_write post (f_atomLimit, f_ringLimit, f_slotCount, f_readState, f_currentAtom, f_pendingOrder, f_branchDepth, f_writtenLength, f_writtenAtoms, f_writtenCount, f_candLen, a_count, b_kinds, a_bonds, a_branches, a_ringAtom, b_ringOrder, b_line, b_listing, a_perm, a_cand, a_digitFrom, a_digitTo, a_reach) (nI s) v2 := by
    intro post w
    unfold wpY_write
    refine zy_slot0 b1 b2 (br_t rfl ⟨is, ?_⟩)
    rw [cs, hc]
    exact nm_e w
  unfold wpX_write
  refine zx_slot1 b1 b2 (br_f (by decide) ⟨is, ?_⟩)
  rw [cs, hc]
  refine nm_e ?_
  by_cases n0 : n = 0
  · have z : nI n = 0 := by rw [n0]; rfl
    exact br_t z (hY _ (br_t z ⟨rfl, I0⟩))
  have z : ¬ nI n = 0 := nI_ne0 (by omega) (by omega)
  have hKX : ∀ i, i < n → a_kinds (s * 8 + i) = nI (zc a_kinds (s * 8 + i)) ∧ zc a_kinds (s * 8 + i) < 128 := fun i hi => (ks i hs hi).2
  have hKY : ∀ i, i < n → b_kinds (s * 8 + i) = nI (zc a_kinds (s * 8 + i)) ∧ zc a_kinds (s * 8 + i) < 128 := fun i hi => by rw [← (ks i hs hi).1]; exact (ks i hs hi).2
  have main : ∀ (ok : Nat → Prop) (r : Nat), r < n → ok r → zRoot n ok v2 → ((v2 = -1 ∧ zMS (((1 : Int32) <<< (nI n &&& 31)) - 1) (fun b => b < n ∧ ok b)) ∨ (¬ v2 = -1 ∧ zMS ((1 : Int32) <<< (v2 &&& 31)) (fun b => b < n ∧ ok b))) →
      (∀ post : Int32 → SY → Prop, wY_write_42 post (nI s) v2 (nI n) f_atomLimit f_ringLimit f_slotCount f_readState f_currentAtom f_pendingOrder f_branchDepth f_writtenLength f_writtenAtoms f_writtenCount f_candLen a_count b_kinds a_bonds a_branches a_ringAtom b_ringOrder b_line b_listing a_perm a_cand a_digitFrom a_digitTo a_reach → wpY_write post (f_atomLimit, f_ringLimit, f_slotCount, f_readState, f_currentAtom, f_pendingOrder, f_branchDepth, f_writtenLength, f_writtenAtoms, f_writtenCount, f_candLen, a_count, b_kinds, a_bonds, a_branches, a_ringAtom, b_ringOrder, b_line, b_listing, a_perm, a_cand, a_digitFrom, a_digitTo, a_reach) (nI s) v2) →
      ∃ n45, wX_write_45 (fun r u' => wpY_write (fun r' v' => r' = r ∧ i_Rel (k + 5) u' v') (f_atomLimit, f_ringLimit, f_slotCount, f_readState, f_currentAtom, f_pendingOrder, f_branchDepth, f_writtenLength, f_writtenAtoms, f_writtenCount, f_candLen, a_count, b_kinds, a_bonds, a_branches, a_ringAtom, b_ringOrder, b_line, b_listing, a_perm, a_cand, a_digitFrom, a_digitTo, a_reach) (nI s) v2) (nI s) v2 (nI n) f_atomLimit f_ringLimit f_slotCount f_readState f_currentAtom f_pendingOrder f_branchDepth f_writtenLength f_writtenAtoms f_writtenCount f_bestClosed f_draftLength n45 0 a_count a_kinds a_bonds a_branches a_ringAtom a_ringOrder a_line a_listing a_draft a_near a_place a_parent a_closed a_left a_pairDigit a_image a_signature a_nextSignature := by
    intro ok r hr hok hR hro hW
    refine ⟨n + 1, zx_w45 (ka := fun i => zc a_kinds (s * 8 + i)) (ok := ok) h2.1 hs3 (by omega) hc hM hKX hro (fun nr wl wc bc dl ln ls dr pl pr cl lf pd hx => ?_) n 0 (by omega) a_near (fun a ha => by omega)⟩
    refine hW _ ?_
    unfold wY_write_42
    refine zy_fp (fun pm hpm => ?_)
    refine zy_wloop (ka := fun i => zc a_kinds (s * 8 + i)) (ok := ok) h2.1 hs (by omega) hc hM hKY hR (fun ll la ct cl2 ln2 ls2 pm2 cd2 df2 dt2 hy => ?_) rfl pm hpm
    have c0 := zG_pos (ka := fun i => zc a_kinds (s * 8 + i)) (ok := ok) (s := (0, [], fun x => x)) hM hr hok rfl
    have gi : zGi n (fun i => zc a_kinds (s * 8 + i)) (zbm a_bonds s) (zT n (zG n (fun i => zc a_kinds (s * 8 + i)) (zbm a_bonds s) ok) n 0 (fun x => x) (0, [], fun x => x)) :=
      zT_inv (fun s' => zGi n (fun i => zc a_kinds (s * 8 + i)) (zbm a_bonds s) s') n 0 (by omega) _ _ (zI_0 n _) (fun q s' hq _ hi => zG_i hq hi) (fun z => absurd rfl z)
    generalize zT n (zG n (fun i => zc a_kinds (s * 8 + i)) (zbm a_bonds s) ok) n 0 (fun x => x) (0, [], fun x => x) = S at hx hy c0 gi
    obtain ⟨g1, g2, g3⟩ := gi c0
    have l56 := zlp_56 (ka := fun i => zc a_kinds (s * 8 + i)) hM g2 (by omega) g3
    rw [← g1] at l56
    obtain ⟨x0, x1⟩ := hx
    obtain ⟨x2, x3, x4, x5⟩ := x1 c0
    obtain ⟨y0, y1⟩ := hy
    obtain ⟨y2, y3, y4, y5⟩ := y1 c0
    subst x0; subst x2; subst y0; subst y2; subst y4
    refine ⟨rfl, zz_in h1 h2 h3 h4 ⟨S.2.1.length, n, rfl, by omega, rfl, n8, fun i hi => ?_, fun i hi => ?_⟩⟩
    · rw [x3 i hi, y3 i hi]
    · rw [x4 i hi, y5 i hi]
  by_cases ra : v2 = -1
  · exact br_f z (br_t ra (main (fun _ => True) 0 (by omega) trivial (Or.inl ⟨ra, fun _ => trivial⟩) (Or.inl ⟨ra, zro_all n8⟩) (fun post w => hY post (br_f z (br_t ra w)))))
  · rcases zatom n8 v2 with na | ⟨rt, hrt, rfl⟩
    · exact br_f z (br_f ra (zx_at0 hs hc na (br_t rfl (hY _ (br_f z (br_f ra (zy_at1 hs hc na (br_f (by decide) ⟨rfl, I0⟩))))))))
    · exact br_f z (br_f ra (zx_at1 hs n8 hc hrt (br_f (by decide) (main (fun r => r = rt) rt hrt rfl (Or.inr ⟨rt, rfl, hrt, fun r => Iff.rfl⟩) (Or.inr ⟨ra, zro_one n8 hrt⟩) (fun post w => hY post (br_f z (br_f ra (zy_at0 hs n8 hc hrt (br_t rfl w)))))))))
end
