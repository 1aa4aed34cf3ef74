section
/-! pure rows to paste: stores, nI and lN arithmetic, masks, shifts, narrowing, branches by naturals (pk_le, pk_lt, pk_eq), loops (lp1 .. lp16: the measure of the state; rp1 ..: recursion), negatives. Take what you need -/
theorem pk_us {f : Nat → Int32} {k : Nat} {x : Int32} : upd f k x k = x := if_pos rfl
theorem pk_un {f : Nat → Int32} {k j : Nat} {x : Int32} (h : j ≠ k) : upd f k x j = f j := if_neg h
theorem pk_uLs {f : Nat → Int64} {k : Nat} {x : Int64} : vp_updL f k x k = x := if_pos rfl
theorem pk_uLn {f : Nat → Int64} {k j : Nat} {x : Int64} (h : j ≠ k) : vp_updL f k x j = f j := if_neg h
theorem pk_sub {a b : Nat} (h : b ≤ a) : nI a - nI b = nI (a - b) := by
  obtain ⟨c, rfl⟩ : ∃ c, a = c + b := ⟨a - b, by omega⟩
  rw [← nI_add, Int32.add_sub_cancel, Nat.add_sub_cancel]
theorem pk_m1 (n : Nat) : nI (n + 1) + (-1) = nI n := by
  rw [← nI_1, Int32.add_assoc, show (1 : Int32) + (-1) = 0 from rfl, Int32.add_zero]
theorem pk_mul (a b : Nat) : nI a * nI b = nI (a * b) := (Int32.ofNat_mul a b).symm
theorem pk_div {a d : Nat} (ha : a < 2 ^ 31) (h0 : 0 < d) (hd : d < 2 ^ 31) : nI a / nI d = nI (a / d) := by
  apply Int32.toInt_inj.mp
  rw [lg_idiv_nonneg (by rw [nI_toInt ha]; omega) (by rw [nI_toInt hd]; omega), nI_toInt ha, nI_toInt hd, nI_toInt (Nat.lt_of_le_of_lt (Nat.div_le_self a d) ha)]
  first | rfl | exact (Int.natCast_ediv _ _).symm
theorem pk_rem {a d : Nat} (ha : a < 2 ^ 31) (h0 : 0 < d) (hd : d < 2 ^ 31) : nI a - nI a / nI d * nI d = nI (a % d) := by
  rw [pk_div ha h0 hd, pk_mul, pk_sub (Nat.div_mul_le_self a d)]
  exact congrArg nI (by have := Nat.div_add_mod' a d; omega)
theorem pk_sub_toInt {a b : Nat} (ha : a < 2 ^ 30) (hb : b < 2 ^ 30) : (nI a - nI b).toInt = (a : Int) - b := by
  rw [Int32.toInt_sub, nI_toInt (by omega), nI_toInt (by omega)]
  exact Int.bmod_eq_of_le (by omega) (by omega)
theorem pk_sneg {a b : Nat} (hb : b < 2 ^ 30) (h : a < b) : nI a - nI b < 0 := by
  rw [Int32.lt_iff_toInt_lt, pk_sub_toInt (by omega) hb, show (0 : Int32).toInt = 0 from by decide]
  omega
theorem pk_ix (x : Int32) {n : Nat} (hn : n < 2 ^ 31) : x < 0 ∨ nI n ≤ x ∨ ∃ j : Nat, j < n ∧ x = nI j := by
  by_cases h : x < 0
  · exact Or.inl h
  · obtain ⟨j, hj, rfl⟩ := nI_of h
    by_cases h2 : j < n
    · exact Or.inr (Or.inr ⟨j, h2, rfl⟩)
    · exact Or.inr (Or.inl (nI_le (by omega) hj))
theorem pk_le {x y : Int32} {A B : Prop} (a b : Nat) (f : a ≤ b → A) (g : b < a → B) (hx : x = nI a := by rfl) (hy : y = nI b := by rfl) (ha : a < 2 ^ 31 := by omega) (hb : b < 2 ^ 31 := by omega) : (x ≤ y → A) ∧ (¬ x ≤ y → B) := by
  subst hx hy
  rw [nI_leI ha hb]
  exact ⟨f, fun z => g (by omega)⟩
theorem pk_lt {x y : Int32} {A B : Prop} (a b : Nat) (f : a < b → A) (g : b ≤ a → B) (hx : x = nI a := by rfl) (hy : y = nI b := by rfl) (ha : a < 2 ^ 31 := by omega) (hb : b < 2 ^ 31 := by omega) : (x < y → A) ∧ (¬ x < y → B) := by
  subst hx hy
  rw [nI_ltI ha hb]
  exact ⟨f, fun z => g (by omega)⟩
theorem pk_eq {x y : Int32} {A B : Prop} (a b : Nat) (f : a = b → A) (g : a ≠ b → B) (hx : x = nI a := by rfl) (hy : y = nI b := by rfl) (ha : a < 2 ^ 31 := by omega) (hb : b < 2 ^ 31 := by omega) : (x = y → A) ∧ (¬ x = y → B) := by
  subst hx hy
  rw [nI_eq ha hb]
  exact ⟨f, g⟩
theorem pk_in {x : Int32} (n N : Nat) (h : n < N) (hx : x = nI n := by rfl) (hN : N < 2 ^ 31 := by omega) : vp_in x N := by
  subst hx
  exact vp_in_nI h hN
theorem pk_cl {x : Int32} (n : Nat) (hx : x = nI n := by rfl) (h : n < 2 ^ 31 := by omega) : x.toNatClampNeg = n := by
  subst hx
  exact nI_clamp h
theorem pk_tn {n : Nat} (h : n < 2 ^ 32) : (nI n).toBitVec.toNat = n := Nat.mod_eq_of_lt h
theorem pk_and (x : Int32) {m : Int32} (k : Nat) (hm : m.toBitVec.toNat = 2 ^ k - 1) : x &&& m = nI (x.toBitVec.toNat % 2 ^ k) := by
  apply Int32.toBitVec_inj.mp
  apply BitVec.eq_of_toNat_eq
  rw [Int32.toBitVec_and, BitVec.toNat_and, hm, Nat.and_two_pow_sub_one_eq_mod]
  show _ = (BitVec.ofNat 32 _).toNat
  rw [BitVec.toNat_ofNat]
  exact (Nat.mod_eq_of_lt (Nat.lt_of_le_of_lt (Nat.mod_le _ _) x.toBitVec.isLt)).symm
theorem pk_andN {n : Nat} (h : n < 2 ^ 32) {m : Int32} (k : Nat) (hm : m.toBitVec.toNat = 2 ^ k - 1) : nI n &&& m = nI (n % 2 ^ k) := by
  rw [pk_and _ k hm, pk_tn h]
theorem pk_andE (x : Int32) {m : Int32} (k : Nat) (hm : m.toBitVec.toNat = 2 ^ k - 1) : ∃ j : Nat, j < 2 ^ k ∧ x &&& m = nI j := ⟨_, Nat.mod_lt _ (Nat.two_pow_pos k), pk_and x k hm⟩
theorem pk_andIn (x : Int32) {m : Int32} (k : Nat) (hm : m.toBitVec.toNat = 2 ^ k - 1) (hk : k ≤ 30) : vp_in (x &&& m) (2 ^ k) := by
  obtain ⟨j, hj, e⟩ := pk_andE x k hm
  rw [e]
  exact vp_in_nI hj (Nat.lt_of_le_of_lt (Nat.pow_le_pow_right (by decide) hk) (by decide))
theorem pk_shl (a s : Int32) (k : Nat) (hs : (s.toBitVec.smod 32).toNat = k) : (a <<< s).toBitVec.toNat = a.toBitVec.toNat * 2 ^ k % 2 ^ 32 := by
  show (a.toBitVec <<< (s.toBitVec.smod 32).toNat).toNat = _
  rw [hs, BitVec.toNat_shiftLeft, Nat.shiftLeft_eq]
theorem pk_shlN {n : Nat} (s : Int32) (k : Nat) (hs : (s.toBitVec.smod 32).toNat = k) (h : n * 2 ^ k < 2 ^ 32) : nI n <<< s = nI (n * 2 ^ k) := by
  apply Int32.toBitVec_inj.mp
  apply BitVec.eq_of_toNat_eq
  have hn : n < 2 ^ 32 := Nat.lt_of_le_of_lt (Nat.le_mul_of_pos_right n (Nat.two_pow_pos k)) h
  rw [pk_shl _ _ k hs, pk_tn hn, pk_tn h, Nat.mod_eq_of_lt h]
theorem pk_shr (a s : Int32) (k : Nat) (hs : (s.toBitVec.smod 32).toNat = k) : (a >>> s).toInt = a.toInt >>> k := by
  show (a.toBitVec.sshiftRight (s.toBitVec.smod 32).toNat).toInt = _
  rw [hs, BitVec.toInt_sshiftRight]
  rfl
theorem pk_shrN {n : Nat} (h : n < 2 ^ 31) (s : Int32) (k : Nat) (hs : (s.toBitVec.smod 32).toNat = k) : nI n >>> s = nI (n / 2 ^ k) := by
  apply Int32.toInt_inj.mp
  have h2 : n / 2 ^ k ≤ n := Nat.div_le_self _ _
  rw [pk_shr _ _ k hs, nI_toInt h, nI_toInt (by omega), Int.shiftRight_eq_div_pow]
  rfl
theorem pk_ushr (x s : Int32) (k : Nat) (hs : ((s.toUInt32 &&& Int32.toUInt32 31).toBitVec % 32).toNat = k) : (x.toUInt32 >>> (s.toUInt32 &&& Int32.toUInt32 31)).toInt32.toBitVec.toNat = x.toBitVec.toNat / 2 ^ k := by
  have e : (x.toUInt32 >>> (s.toUInt32 &&& Int32.toUInt32 31)).toInt32.toBitVec = x.toBitVec >>> k := by
    rw [← hs]
    exact UInt32.toBitVec_shiftRight _ _
  rw [e, BitVec.toNat_ushiftRight, Nat.shiftRight_eq_div_pow]
theorem pk_ushrN {n : Nat} (hn : n < 2 ^ 32) (s : Int32) (k : Nat) (hs : ((s.toUInt32 &&& Int32.toUInt32 31).toBitVec % 32).toNat = k) : ((nI n).toUInt32 >>> (s.toUInt32 &&& Int32.toUInt32 31)).toInt32 = nI (n / 2 ^ k) := by
  apply Int32.toBitVec_inj.mp
  apply BitVec.eq_of_toNat_eq
  rw [pk_ushr _ s k hs, pk_tn hn, pk_tn (Nat.lt_of_le_of_lt (Nat.div_le_self _ _) hn)]
theorem pk_nb (z : Int32) : narrow .byte (.int z.toInt8.toInt32) = .int z.toInt8.toInt32 := congrArg Value.int (by simp)
theorem pk_ns (z : Int32) : narrow .short (.int z.toInt16.toInt32) = .int z.toInt16.toInt32 := congrArg Value.int (by simp)
theorem pk_fb (r : Int32) : fits .byte (.int r.toInt8.toInt32) = true := by
  have ⟨a, b⟩ := lg_i2b_range r
  have h1 : (-128 : Int32).toInt = -128 := by decide
  have h2 : (127 : Int32).toInt = 127 := by decide
  simp only [fits, Bool.and_eq_true, decide_eq_true_eq, Int32.le_iff_toInt_le, h1, h2]
  omega
theorem pk_fs (r : Int32) : fits .short (.int r.toInt16.toInt32) = true := by
  have ⟨a, b⟩ := lg_i2s_range r
  have h1 : (-32768 : Int32).toInt = -32768 := by decide
  have h2 : (32767 : Int32).toInt = 32767 := by decide
  simp only [fits, Bool.and_eq_true, decide_eq_true_eq, Int32.le_iff_toInt_le, h1, h2]
  omega
theorem pk_charN {q : Nat} (hq : q < 65536) : narrow .char (.int (nI q)) = .int (nI q) ∧ fits .char (.int (nI q)) = true := by
  constructor
  · have e : (nI q).toUInt32.toUInt16.toUInt32.toInt32 = nI q := by
      apply Int32.toBitVec_inj.mp
      apply BitVec.eq_of_toNat_eq
      show (nI q).toUInt32.toUInt16.toUInt32.toNat = q % 2 ^ 32
      rw [UInt16.toNat_toUInt32, UInt32.toNat_toUInt16, show (nI q).toUInt32.toNat = q % 2 ^ 32 from rfl]
      omega
    exact congrArg Value.int e
  · have a : (0 : Int32) ≤ nI q := nI_pos' (by omega)
    have b : nI q ≤ 65535 := nI_le (b := 65535) (by omega) (by decide)
    show (decide ((0 : Int32) ≤ nI q) && decide (nI q ≤ 65535)) = true
    rw [decide_eq_true a, decide_eq_true b]
    rfl
theorem pk_char (x : Int32) : (x.toUInt32 % 65536).toInt32 = nI (x.toBitVec.toNat % 65536) := by
  apply Int32.toBitVec_inj.mp
  apply BitVec.eq_of_toNat_eq
  rw [pk_tn (by omega)]
  show (x.toUInt32 % 65536).toNat = _
  rw [UInt32.toNat_mod]
  rfl
theorem pk_nc (x : Int32) : narrow .char (.int (x.toUInt32 % 65536).toInt32) = .int (x.toUInt32 % 65536).toInt32 := by
  rw [pk_char]
  exact (pk_charN (Nat.mod_lt _ (by decide))).1
theorem pk_fc (x : Int32) : fits .char (.int (x.toUInt32 % 65536).toInt32) = true := by
  rw [pk_char]
  exact (pk_charN (Nat.mod_lt _ (by decide))).2
theorem pk_vb (z : Int32) : vp_nar .byte z.toInt8.toInt32 = z.toInt8.toInt32 := by rw [vp_nar_byte]; simp
theorem pk_vs (z : Int32) : vp_nar .short z.toInt16.toInt32 = z.toInt16.toInt32 := by rw [vp_nar_short]; simp
theorem pk_vc (z : Int32) : vp_nar .char (z.toUInt32 % 65536).toInt32 = (z.toUInt32 % 65536).toInt32 := Value.int.inj (pk_nc z)
theorem pk_lT {n : Nat} (h : n < 2 ^ 63) : (lN n).toInt = (n : Int) := lg_ofNat_toInt h
theorem pk_lLT {a b : Nat} (ha : a < 2 ^ 63) (hb : b < 2 ^ 63) : lN a < lN b ↔ a < b := by
  rw [Int64.lt_iff_toInt_lt, pk_lT ha, pk_lT hb]; omega
theorem pk_lLE {a b : Nat} (ha : a < 2 ^ 63) (hb : b < 2 ^ 63) : lN a ≤ lN b ↔ a ≤ b := by
  rw [Int64.le_iff_toInt_le, pk_lT ha, pk_lT hb]; omega
theorem pk_lEQ {a b : Nat} (ha : a < 2 ^ 63) (hb : b < 2 ^ 63) : lN a = lN b ↔ a = b := by
  rw [← Int64.toInt_inj, pk_lT ha, pk_lT hb]; omega
theorem pk_lOf {x : Int64} (h : ¬ x < 0) : ∃ k : Nat, k < 2 ^ 63 ∧ x = lN k := by
  rw [Int64.lt_iff_toInt_lt] at h
  have h0 : (0 : Int64).toInt = 0 := by decide
  have hx := Int64.toInt_lt x
  refine ⟨x.toInt.toNat, by omega, Int64.toInt_inj.mp ?_⟩
  rw [pk_lT (by omega)]
  omega
theorem pk_lDiv {a b : Nat} (ha : a < 2 ^ 63) (h0 : 0 < b) (hb : b < 2 ^ 63) : lN a / lN b = lN (a / b) := by
  apply Int64.toInt_inj.mp
  rw [lg_ldiv_nonneg (by rw [pk_lT ha]; omega) (by rw [pk_lT hb]; omega), pk_lT ha, pk_lT hb, pk_lT (Nat.lt_of_le_of_lt (Nat.div_le_self a b) ha)]
  rfl
theorem pk_lRem {a b : Nat} (ha : a < 2 ^ 63) (h0 : 0 < b) (hb : b < 2 ^ 63) : lN a - lN a / lN b * lN b = lN (a % b) := by
  rw [pk_lDiv ha h0 hb, lN_mul, lN_sub (Nat.div_mul_le_self a b)]
  exact congrArg lN (by have := Nat.div_add_mod' a b; omega)
theorem pk_loop {σ : Type} (W : Nat → Nat → σ → Prop) (I : Nat → σ → Prop) (e i0 : Nat) (s : σ) (hi : i0 ≤ e) (h0 : I i0 s) (hx : ∀ n s, I e s → W (n + 1) e s)
    (hs : ∀ n i s, i < e → I i s → (∀ s', I (i + 1) s' → W n (i + 1) s') → W (n + 1) i s) : ∃ n, W n i0 s :=
  ⟨e + 1, loop_i W I e hx hs (e + 1) i0 s hi (by omega) h0⟩
theorem pk_loopD {σ : Type} (W : Nat → Nat → σ → Prop) (I : Nat → σ → Prop) (hx : ∀ n s, I 0 s → W (n + 1) 0 s)
    (hs : ∀ n i s, I (i + 1) s → (∀ s', I i s' → W n i s') → W (n + 1) (i + 1) s) : ∀ (e : Nat) (s : σ), I e s → W (e + 1) e s := by
  intro e
  induction e with
  | zero => exact fun s h => hx 0 s h
  | succ e ih => exact fun s h => hs (e + 1) e s h (fun s' h' => ih s' h')
theorem lp1 {A1 : Type} (W : Nat → A1 → Prop) (I : A1 → Prop) (μ : A1 → Nat) (hs : ∀ (n : Nat) (a1 : A1), I a1 → (∀ (b1 : A1), I b1 → μ b1 < μ a1 → W n b1) → W (n + 1) a1) (a1 : A1) (h : I a1) : ∃ n, W n a1 :=
  loop_m (σ := A1) (fun n s => W n s) (fun s => I s) (fun s => μ s) (fun n s hI hk => hs n s hI (fun b1 h9 hm => hk b1 h9 hm)) a1 h
theorem lp2 {A1 A2 : Type} (W : Nat → A1 → A2 → Prop) (I : A1 → A2 → Prop) (μ : A1 → A2 → Nat) (hs : ∀ (n : Nat) (a1 : A1) (a2 : A2), I a1 a2 → (∀ (b1 : A1) (b2 : A2), I b1 b2 → μ b1 b2 < μ a1 a2 → W n b1 b2) → W (n + 1) a1 a2) (a1 : A1) (a2 : A2) (h : I a1 a2) : ∃ n, W n a1 a2 :=
  loop_m (σ := A1 × A2) (fun n s => W n s.1 s.2) (fun s => I s.1 s.2) (fun s => μ s.1 s.2) (fun n s hI hk => hs n s.1 s.2 hI (fun b1 b2 h9 hm => hk (b1, b2) h9 hm)) (a1, a2) h
theorem lp3 {A1 A2 A3 : Type} (W : Nat → A1 → A2 → A3 → Prop) (I : A1 → A2 → A3 → Prop) (μ : A1 → A2 → A3 → Nat) (hs : ∀ (n : Nat) (a1 : A1) (a2 : A2) (a3 : A3), I a1 a2 a3 → (∀ (b1 : A1) (b2 : A2) (b3 : A3), I b1 b2 b3 → μ b1 b2 b3 < μ a1 a2 a3 → W n b1 b2 b3) → W (n + 1) a1 a2 a3) (a1 : A1) (a2 : A2) (a3 : A3) (h : I a1 a2 a3) : ∃ n, W n a1 a2 a3 :=
  loop_m (σ := A1 × A2 × A3) (fun n s => W n s.1 s.2.1 s.2.2) (fun s => I s.1 s.2.1 s.2.2) (fun s => μ s.1 s.2.1 s.2.2) (fun n s hI hk => hs n s.1 s.2.1 s.2.2 hI (fun b1 b2 b3 h9 hm => hk (b1, b2, b3) h9 hm)) (a1, a2, a3) h
theorem lp4 {A1 A2 A3 A4 : Type} (W : Nat → A1 → A2 → A3 → A4 → Prop) (I : A1 → A2 → A3 → A4 → Prop) (μ : A1 → A2 → A3 → A4 → Nat) (hs : ∀ (n : Nat) (a1 : A1) (a2 : A2) (a3 : A3) (a4 : A4), I a1 a2 a3 a4 → (∀ (b1 : A1) (b2 : A2) (b3 : A3) (b4 : A4), I b1 b2 b3 b4 → μ b1 b2 b3 b4 < μ a1 a2 a3 a4 → W n b1 b2 b3 b4) → W (n + 1) a1 a2 a3 a4) (a1 : A1) (a2 : A2) (a3 : A3) (a4 : A4) (h : I a1 a2 a3 a4) : ∃ n, W n a1 a2 a3 a4 :=
  loop_m (σ := A1 × A2 × A3 × A4) (fun n s => W n s.1 s.2.1 s.2.2.1 s.2.2.2) (fun s => I s.1 s.2.1 s.2.2.1 s.2.2.2) (fun s => μ s.1 s.2.1 s.2.2.1 s.2.2.2) (fun n s hI hk => hs n s.1 s.2.1 s.2.2.1 s.2.2.2 hI (fun b1 b2 b3 b4 h9 hm => hk (b1, b2, b3, b4) h9 hm)) (a1, a2, a3, a4) h
theorem lp5 {A1 A2 A3 A4 A5 : Type} (W : Nat → A1 → A2 → A3 → A4 → A5 → Prop) (I : A1 → A2 → A3 → A4 → A5 → Prop) (μ : A1 → A2 → A3 → A4 → A5 → Nat) (hs : ∀ (n : Nat) (a1 : A1) (a2 : A2) (a3 : A3) (a4 : A4) (a5 : A5), I a1 a2 a3 a4 a5 → (∀ (b1 : A1) (b2 : A2) (b3 : A3) (b4 : A4) (b5 : A5), I b1 b2 b3 b4 b5 → μ b1 b2 b3 b4 b5 < μ a1 a2 a3 a4 a5 → W n b1 b2 b3 b4 b5) → W (n + 1) a1 a2 a3 a4 a5) (a1 : A1) (a2 : A2) (a3 : A3) (a4 : A4) (a5 : A5) (h : I a1 a2 a3 a4 a5) : ∃ n, W n a1 a2 a3 a4 a5 :=
  loop_m (σ := A1 × A2 × A3 × A4 × A5) (fun n s => W n s.1 s.2.1 s.2.2.1 s.2.2.2.1 s.2.2.2.2) (fun s => I s.1 s.2.1 s.2.2.1 s.2.2.2.1 s.2.2.2.2) (fun s => μ s.1 s.2.1 s.2.2.1 s.2.2.2.1 s.2.2.2.2) (fun n s hI hk => hs n s.1 s.2.1 s.2.2.1 s.2.2.2.1 s.2.2.2.2 hI (fun b1 b2 b3 b4 b5 h9 hm => hk (b1, b2, b3, b4, b5) h9 hm)) (a1, a2, a3, a4, a5) h
theorem lp6 {A1 A2 A3 A4 A5 A6 : Type} (W : Nat → A1 → A2 → A3 → A4 → A5 → A6 → Prop) (I : A1 → A2 → A3 → A4 → A5 → A6 → Prop) (μ : A1 → A2 → A3 → A4 → A5 → A6 → Nat) (hs : ∀ (n : Nat) (a1 : A1) (a2 : A2) (a3 : A3) (a4 : A4) (a5 : A5) (a6 : A6), I a1 a2 a3 a4 a5 a6 → (∀ (b1 : A1) (b2 : A2) (b3 : A3) (b4 : A4) (b5 : A5) (b6 : A6), I b1 b2 b3 b4 b5 b6 → μ b1 b2 b3 b4 b5 b6 < μ a1 a2 a3 a4 a5 a6 → W n b1 b2 b3 b4 b5 b6) → W (n + 1) a1 a2 a3 a4 a5 a6) (a1 : A1) (a2 : A2) (a3 : A3) (a4 : A4) (a5 : A5) (a6 : A6) (h : I a1 a2 a3 a4 a5 a6) : ∃ n, W n a1 a2 a3 a4 a5 a6 :=
  loop_m (σ := A1 × A2 × A3 × A4 × A5 × A6) (fun n s => W n s.1 s.2.1 s.2.2.1 s.2.2.2.1 s.2.2.2.2.1 s.2.2.2.2.2) (fun s => I s.1 s.2.1 s.2.2.1 s.2.2.2.1 s.2.2.2.2.1 s.2.2.2.2.2) (fun s => μ s.1 s.2.1 s.2.2.1 s.2.2.2.1 s.2.2.2.2.1 s.2.2.2.2.2) (fun n s hI hk => hs n s.1 s.2.1 s.2.2.1 s.2.2.2.1 s.2.2.2.2.1 s.2.2.2.2.2 hI (fun b1 b2 b3 b4 b5 b6 h9 hm => hk (b1, b2, b3, b4, b5, b6) h9 hm)) (a1, a2, a3, a4, a5, a6) h
theorem lp7 {A1 A2 A3 A4 A5 A6 A7 : Type} (W : Nat → A1 → A2 → A3 → A4 → A5 → A6 → A7 → Prop) (I : A1 → A2 → A3 → A4 → A5 → A6 → A7 → Prop) (μ : A1 → A2 → A3 → A4 → A5 → A6 → A7 → Nat) (hs : ∀ (n : Nat) (a1 : A1) (a2 : A2) (a3 : A3) (a4 : A4) (a5 : A5) (a6 : A6) (a7 : A7), I a1 a2 a3 a4 a5 a6 a7 → (∀ (b1 : A1) (b2 : A2) (b3 : A3) (b4 : A4) (b5 : A5) (b6 : A6) (b7 : A7), I b1 b2 b3 b4 b5 b6 b7 → μ b1 b2 b3 b4 b5 b6 b7 < μ a1 a2 a3 a4 a5 a6 a7 → W n b1 b2 b3 b4 b5 b6 b7) → W (n + 1) a1 a2 a3 a4 a5 a6 a7) (a1 : A1) (a2 : A2) (a3 : A3) (a4 : A4) (a5 : A5) (a6 : A6) (a7 : A7) (h : I a1 a2 a3 a4 a5 a6 a7) : ∃ n, W n a1 a2 a3 a4 a5 a6 a7 :=
  loop_m (σ := A1 × A2 × A3 × A4 × A5 × A6 × A7) (fun n s => W n s.1 s.2.1 s.2.2.1 s.2.2.2.1 s.2.2.2.2.1 s.2.2.2.2.2.1 s.2.2.2.2.2.2) (fun s => I s.1 s.2.1 s.2.2.1 s.2.2.2.1 s.2.2.2.2.1 s.2.2.2.2.2.1 s.2.2.2.2.2.2) (fun s => μ s.1 s.2.1 s.2.2.1 s.2.2.2.1 s.2.2.2.2.1 s.2.2.2.2.2.1 s.2.2.2.2.2.2) (fun n s hI hk => hs n s.1 s.2.1 s.2.2.1 s.2.2.2.1 s.2.2.2.2.1 s.2.2.2.2.2.1 s.2.2.2.2.2.2 hI (fun b1 b2 b3 b4 b5 b6 b7 h9 hm => hk (b1, b2, b3, b4, b5, b6, b7) h9 hm)) (a1, a2, a3, a4, a5, a6, a7) h
theorem lp8 {A1 A2 A3 A4 A5 A6 A7 A8 : Type} (W : Nat → A1 → A2 → A3 → A4 → A5 → A6 → A7 → A8 → Prop) (I : A1 → A2 → A3 → A4 → A5 → A6 → A7 → A8 → Prop) (μ : A1 → A2 → A3 → A4 → A5 → A6 → A7 → A8 → Nat) (hs : ∀ (n : Nat) (a1 : A1) (a2 : A2) (a3 : A3) (a4 : A4) (a5 : A5) (a6 : A6) (a7 : A7) (a8 : A8), I a1 a2 a3 a4 a5 a6 a7 a8 → (∀ (b1 : A1) (b2 : A2) (b3 : A3) (b4 : A4) (b5 : A5) (b6 : A6) (b7 : A7) (b8 : A8), I b1 b2 b3 b4 b5 b6 b7 b8 → μ b1 b2 b3 b4 b5 b6 b7 b8 < μ a1 a2 a3 a4 a5 a6 a7 a8 → W n b1 b2 b3 b4 b5 b6 b7 b8) → W (n + 1) a1 a2 a3 a4 a5 a6 a7 a8) (a1 : A1) (a2 : A2) (a3 : A3) (a4 : A4) (a5 : A5) (a6 : A6) (a7 : A7) (a8 : A8) (h : I a1 a2 a3 a4 a5 a6 a7 a8) : ∃ n, W n a1 a2 a3 a4 a5 a6 a7 a8 :=
  loop_m (σ := A1 × A2 × A3 × A4 × A5 × A6 × A7 × A8) (fun n s => W n s.1 s.2.1 s.2.2.1 s.2.2.2.1 s.2.2.2.2.1 s.2.2.2.2.2.1 s.2.2.2.2.2.2.1 s.2.2.2.2.2.2.2) (fun s => I s.1 s.2.1 s.2.2.1 s.2.2.2.1 s.2.2.2.2.1 s.2.2.2.2.2.1 s.2.2.2.2.2.2.1 s.2.2.2.2.2.2.2) (fun s => μ s.1 s.2.1 s.2.2.1 s.2.2.2.1 s.2.2.2.2.1 s.2.2.2.2.2.1 s.2.2.2.2.2.2.1 s.2.2.2.2.2.2.2) (fun n s hI hk => hs n s.1 s.2.1 s.2.2.1 s.2.2.2.1 s.2.2.2.2.1 s.2.2.2.2.2.1 s.2.2.2.2.2.2.1 s.2.2.2.2.2.2.2 hI (fun b1 b2 b3 b4 b5 b6 b7 b8 h9 hm => hk (b1, b2, b3, b4, b5, b6, b7, b8) h9 hm)) (a1, a2, a3, a4, a5, a6, a7, a8) h
theorem lp9 {A1 A2 A3 A4 A5 A6 A7 A8 A9 : Type} (W : Nat → A1 → A2 → A3 → A4 → A5 → A6 → A7 → A8 → A9 → Prop) (I : A1 → A2 → A3 → A4 → A5 → A6 → A7 → A8 → A9 → Prop) (μ : A1 → A2 → A3 → A4 → A5 → A6 → A7 → A8 → A9 → Nat) (hs : ∀ (n : Nat) (a1 : A1) (a2 : A2) (a3 : A3) (a4 : A4) (a5 : A5) (a6 : A6) (a7 : A7) (a8 : A8) (a9 : A9), I a1 a2 a3 a4 a5 a6 a7 a8 a9 → (∀ (b1 : A1) (b2 : A2) (b3 : A3) (b4 : A4) (b5 : A5) (b6 : A6) (b7 : A7) (b8 : A8) (b9 : A9), I b1 b2 b3 b4 b5 b6 b7 b8 b9 → μ b1 b2 b3 b4 b5 b6 b7 b8 b9 < μ a1 a2 a3 a4 a5 a6 a7 a8 a9 → W n b1 b2 b3 b4 b5 b6 b7 b8 b9) → W (n + 1) a1 a2 a3 a4 a5 a6 a7 a8 a9) (a1 : A1) (a2 : A2) (a3 : A3) (a4 : A4) (a5 : A5) (a6 : A6) (a7 : A7) (a8 : A8) (a9 : A9) (h : I a1 a2 a3 a4 a5 a6 a7 a8 a9) : ∃ n, W n a1 a2 a3 a4 a5 a6 a7 a8 a9 :=
  loop_m (σ := A1 × A2 × A3 × A4 × A5 × A6 × A7 × A8 × A9) (fun n s => W n s.1 s.2.1 s.2.2.1 s.2.2.2.1 s.2.2.2.2.1 s.2.2.2.2.2.1 s.2.2.2.2.2.2.1 s.2.2.2.2.2.2.2.1 s.2.2.2.2.2.2.2.2) (fun s => I s.1 s.2.1 s.2.2.1 s.2.2.2.1 s.2.2.2.2.1 s.2.2.2.2.2.1 s.2.2.2.2.2.2.1 s.2.2.2.2.2.2.2.1 s.2.2.2.2.2.2.2.2) (fun s => μ s.1 s.2.1 s.2.2.1 s.2.2.2.1 s.2.2.2.2.1 s.2.2.2.2.2.1 s.2.2.2.2.2.2.1 s.2.2.2.2.2.2.2.1 s.2.2.2.2.2.2.2.2) (fun n s hI hk => hs n s.1 s.2.1 s.2.2.1 s.2.2.2.1 s.2.2.2.2.1 s.2.2.2.2.2.1 s.2.2.2.2.2.2.1 s.2.2.2.2.2.2.2.1 s.2.2.2.2.2.2.2.2 hI (fun b1 b2 b3 b4 b5 b6 b7 b8 b9 h9 hm => hk (b1, b2, b3, b4, b5, b6, b7, b8, b9) h9 hm)) (a1, a2, a3, a4, a5, a6, a7, a8, a9) h
theorem lp10 {A1 A2 A3 A4 A5 A6 A7 A8 A9 A10 : Type} (W : Nat → A1 → A2 → A3 → A4 → A5 → A6 → A7 → A8 → A9 → A10 → Prop) (I : A1 → A2 → A3 → A4 → A5 → A6 → A7 → A8 → A9 → A10 → Prop) (μ : A1 → A2 → A3 → A4 → A5 → A6 → A7 → A8 → A9 → A10 → Nat) (hs : ∀ (n : Nat) (a1 : A1) (a2 : A2) (a3 : A3) (a4 : A4) (a5 : A5) (a6 : A6) (a7 : A7) (a8 : A8) (a9 : A9) (a10 : A10), I a1 a2 a3 a4 a5 a6 a7 a8 a9 a10 → (∀ (b1 : A1) (b2 : A2) (b3 : A3) (b4 : A4) (b5 : A5) (b6 : A6) (b7 : A7) (b8 : A8) (b9 : A9) (b10 : A10), I b1 b2 b3 b4 b5 b6 b7 b8 b9 b10 → μ b1 b2 b3 b4 b5 b6 b7 b8 b9 b10 < μ a1 a2 a3 a4 a5 a6 a7 a8 a9 a10 → W n b1 b2 b3 b4 b5 b6 b7 b8 b9 b10) → W (n + 1) a1 a2 a3 a4 a5 a6 a7 a8 a9 a10) (a1 : A1) (a2 : A2) (a3 : A3) (a4 : A4) (a5 : A5) (a6 : A6) (a7 : A7) (a8 : A8) (a9 : A9) (a10 : A10) (h : I a1 a2 a3 a4 a5 a6 a7 a8 a9 a10) : ∃ n, W n a1 a2 a3 a4 a5 a6 a7 a8 a9 a10 :=
  loop_m (σ := A1 × A2 × A3 × A4 × A5 × A6 × A7 × A8 × A9 × A10) (fun n s => W n s.1 s.2.1 s.2.2.1 s.2.2.2.1 s.2.2.2.2.1 s.2.2.2.2.2.1 s.2.2.2.2.2.2.1 s.2.2.2.2.2.2.2.1 s.2.2.2.2.2.2.2.2.1 s.2.2.2.2.2.2.2.2.2) (fun s => I s.1 s.2.1 s.2.2.1 s.2.2.2.1 s.2.2.2.2.1 s.2.2.2.2.2.1 s.2.2.2.2.2.2.1 s.2.2.2.2.2.2.2.1 s.2.2.2.2.2.2.2.2.1 s.2.2.2.2.2.2.2.2.2) (fun s => μ s.1 s.2.1 s.2.2.1 s.2.2.2.1 s.2.2.2.2.1 s.2.2.2.2.2.1 s.2.2.2.2.2.2.1 s.2.2.2.2.2.2.2.1 s.2.2.2.2.2.2.2.2.1 s.2.2.2.2.2.2.2.2.2) (fun n s hI hk => hs n s.1 s.2.1 s.2.2.1 s.2.2.2.1 s.2.2.2.2.1 s.2.2.2.2.2.1 s.2.2.2.2.2.2.1 s.2.2.2.2.2.2.2.1 s.2.2.2.2.2.2.2.2.1 s.2.2.2.2.2.2.2.2.2 hI (fun b1 b2 b3 b4 b5 b6 b7 b8 b9 b10 h9 hm => hk (b1, b2, b3, b4, b5, b6, b7, b8, b9, b10) h9 hm)) (a1, a2, a3, a4, a5, a6, a7, a8, a9, a10) h
theorem lp11 {A1 A2 A3 A4 A5 A6 A7 A8 A9 A10 A11 : Type} (W : Nat → A1 → A2 → A3 → A4 → A5 → A6 → A7 → A8 → A9 → A10 → A11 → Prop) (I : A1 → A2 → A3 → A4 → A5 → A6 → A7 → A8 → A9 → A10 → A11 → Prop) (μ : A1 → A2 → A3 → A4 → A5 → A6 → A7 → A8 → A9 → A10 → A11 → Nat) (hs : ∀ (n : Nat) (a1 : A1) (a2 : A2) (a3 : A3) (a4 : A4) (a5 : A5) (a6 : A6) (a7 : A7) (a8 : A8) (a9 : A9) (a10 : A10) (a11 : A11), I a1 a2 a3 a4 a5 a6 a7 a8 a9 a10 a11 → (∀ (b1 : A1) (b2 : A2) (b3 : A3) (b4 : A4) (b5 : A5) (b6 : A6) (b7 : A7) (b8 : A8) (b9 : A9) (b10 : A10) (b11 : A11), I b1 b2 b3 b4 b5 b6 b7 b8 b9 b10 b11 → μ b1 b2 b3 b4 b5 b6 b7 b8 b9 b10 b11 < μ a1 a2 a3 a4 a5 a6 a7 a8 a9 a10 a11 → W n b1 b2 b3 b4 b5 b6 b7 b8 b9 b10 b11) → W (n + 1) a1 a2 a3 a4 a5 a6 a7 a8 a9 a10 a11) (a1 : A1) (a2 : A2) (a3 : A3) (a4 : A4) (a5 : A5) (a6 : A6) (a7 : A7) (a8 : A8) (a9 : A9) (a10 : A10) (a11 : A11) (h : I a1 a2 a3 a4 a5 a6 a7 a8 a9 a10 a11) : ∃ n, W n a1 a2 a3 a4 a5 a6 a7 a8 a9 a10 a11 :=
  loop_m (σ := A1 × A2 × A3 × A4 × A5 × A6 × A7 × A8 × A9 × A10 × A11) (fun n s => W n s.1 s.2.1 s.2.2.1 s.2.2.2.1 s.2.2.2.2.1 s.2.2.2.2.2.1 s.2.2.2.2.2.2.1 s.2.2.2.2.2.2.2.1 s.2.2.2.2.2.2.2.2.1 s.2.2.2.2.2.2.2.2.2.1 s.2.2.2.2.2.2.2.2.2.2) (fun s => I s.1 s.2.1 s.2.2.1 s.2.2.2.1 s.2.2.2.2.1 s.2.2.2.2.2.1 s.2.2.2.2.2.2.1 s.2.2.2.2.2.2.2.1 s.2.2.2.2.2.2.2.2.1 s.2.2.2.2.2.2.2.2.2.1 s.2.2.2.2.2.2.2.2.2.2) (fun s => μ s.1 s.2.1 s.2.2.1 s.2.2.2.1 s.2.2.2.2.1 s.2.2.2.2.2.1 s.2.2.2.2.2.2.1 s.2.2.2.2.2.2.2.1 s.2.2.2.2.2.2.2.2.1 s.2.2.2.2.2.2.2.2.2.1 s.2.2.2.2.2.2.2.2.2.2) (fun n s hI hk => hs n s.1 s.2.1 s.2.2.1 s.2.2.2.1 s.2.2.2.2.1 s.2.2.2.2.2.1 s.2.2.2.2.2.2.1 s.2.2.2.2.2.2.2.1 s.2.2.2.2.2.2.2.2.1 s.2.2.2.2.2.2.2.2.2.1 s.2.2.2.2.2.2.2.2.2.2 hI (fun b1 b2 b3 b4 b5 b6 b7 b8 b9 b10 b11 h9 hm => hk (b1, b2, b3, b4, b5, b6, b7, b8, b9, b10, b11) h9 hm)) (a1, a2, a3, a4, a5, a6, a7, a8, a9, a10, a11) h
theorem lp12 {A1 A2 A3 A4 A5 A6 A7 A8 A9 A10 A11 A12 : Type} (W : Nat → A1 → A2 → A3 → A4 → A5 → A6 → A7 → A8 → A9 → A10 → A11 → A12 → Prop) (I : A1 → A2 → A3 → A4 → A5 → A6 → A7 → A8 → A9 → A10 → A11 → A12 → Prop) (μ : A1 → A2 → A3 → A4 → A5 → A6 → A7 → A8 → A9 → A10 → A11 → A12 → Nat) (hs : ∀ (n : Nat) (a1 : A1) (a2 : A2) (a3 : A3) (a4 : A4) (a5 : A5) (a6 : A6) (a7 : A7) (a8 : A8) (a9 : A9) (a10 : A10) (a11 : A11) (a12 : A12), I a1 a2 a3 a4 a5 a6 a7 a8 a9 a10 a11 a12 → (∀ (b1 : A1) (b2 : A2) (b3 : A3) (b4 : A4) (b5 : A5) (b6 : A6) (b7 : A7) (b8 : A8) (b9 : A9) (b10 : A10) (b11 : A11) (b12 : A12), I b1 b2 b3 b4 b5 b6 b7 b8 b9 b10 b11 b12 → μ b1 b2 b3 b4 b5 b6 b7 b8 b9 b10 b11 b12 < μ a1 a2 a3 a4 a5 a6 a7 a8 a9 a10 a11 a12 → W n b1 b2 b3 b4 b5 b6 b7 b8 b9 b10 b11 b12) → W (n + 1) a1 a2 a3 a4 a5 a6 a7 a8 a9 a10 a11 a12) (a1 : A1) (a2 : A2) (a3 : A3) (a4 : A4) (a5 : A5) (a6 : A6) (a7 : A7) (a8 : A8) (a9 : A9) (a10 : A10) (a11 : A11) (a12 : A12) (h : I a1 a2 a3 a4 a5 a6 a7 a8 a9 a10 a11 a12) : ∃ n, W n a1 a2 a3 a4 a5 a6 a7 a8 a9 a10 a11 a12 :=
  loop_m (σ := A1 × A2 × A3 × A4 × A5 × A6 × A7 × A8 × A9 × A10 × A11 × A12) (fun n s => W n s.1 s.2.1 s.2.2.1 s.2.2.2.1 s.2.2.2.2.1 s.2.2.2.2.2.1 s.2.2.2.2.2.2.1 s.2.2.2.2.2.2.2.1 s.2.2.2.2.2.2.2.2.1 s.2.2.2.2.2.2.2.2.2.1 s.2.2.2.2.2.2.2.2.2.2.1 s.2.2.2.2.2.2.2.2.2.2.2) (fun s => I s.1 s.2.1 s.2.2.1 s.2.2.2.1 s.2.2.2.2.1 s.2.2.2.2.2.1 s.2.2.2.2.2.2.1 s.2.2.2.2.2.2.2.1 s.2.2.2.2.2.2.2.2.1 s.2.2.2.2.2.2.2.2.2.1 s.2.2.2.2.2.2.2.2.2.2.1 s.2.2.2.2.2.2.2.2.2.2.2) (fun s => μ s.1 s.2.1 s.2.2.1 s.2.2.2.1 s.2.2.2.2.1 s.2.2.2.2.2.1 s.2.2.2.2.2.2.1 s.2.2.2.2.2.2.2.1 s.2.2.2.2.2.2.2.2.1 s.2.2.2.2.2.2.2.2.2.1 s.2.2.2.2.2.2.2.2.2.2.1 s.2.2.2.2.2.2.2.2.2.2.2) (fun n s hI hk => hs n s.1 s.2.1 s.2.2.1 s.2.2.2.1 s.2.2.2.2.1 s.2.2.2.2.2.1 s.2.2.2.2.2.2.1 s.2.2.2.2.2.2.2.1 s.2.2.2.2.2.2.2.2.1 s.2.2.2.2.2.2.2.2.2.1 s.2.2.2.2.2.2.2.2.2.2.1 s.2.2.2.2.2.2.2.2.2.2.2 hI (fun b1 b2 b3 b4 b5 b6 b7 b8 b9 b10 b11 b12 h9 hm => hk (b1, b2, b3, b4, b5, b6, b7, b8, b9, b10, b11, b12) h9 hm)) (a1, a2, a3, a4, a5, a6, a7, a8, a9, a10, a11, a12) h
theorem lp13 {A1 A2 A3 A4 A5 A6 A7 A8 A9 A10 A11 A12 A13 : Type} (W : Nat → A1 → A2 → A3 → A4 → A5 → A6 → A7 → A8 → A9 → A10 → A11 → A12 → A13 → Prop) (I : A1 → A2 → A3 → A4 → A5 → A6 → A7 → A8 → A9 → A10 → A11 → A12 → A13 → Prop) (μ : A1 → A2 → A3 → A4 → A5 → A6 → A7 → A8 → A9 → A10 → A11 → A12 → A13 → Nat) (hs : ∀ (n : Nat) (a1 : A1) (a2 : A2) (a3 : A3) (a4 : A4) (a5 : A5) (a6 : A6) (a7 : A7) (a8 : A8) (a9 : A9) (a10 : A10) (a11 : A11) (a12 : A12) (a13 : A13), I a1 a2 a3 a4 a5 a6 a7 a8 a9 a10 a11 a12 a13 → (∀ (b1 : A1) (b2 : A2) (b3 : A3) (b4 : A4) (b5 : A5) (b6 : A6) (b7 : A7) (b8 : A8) (b9 : A9) (b10 : A10) (b11 : A11) (b12 : A12) (b13 : A13), I b1 b2 b3 b4 b5 b6 b7 b8 b9 b10 b11 b12 b13 → μ b1 b2 b3 b4 b5 b6 b7 b8 b9 b10 b11 b12 b13 < μ a1 a2 a3 a4 a5 a6 a7 a8 a9 a10 a11 a12 a13 → W n b1 b2 b3 b4 b5 b6 b7 b8 b9 b10 b11 b12 b13) → W (n + 1) a1 a2 a3 a4 a5 a6 a7 a8 a9 a10 a11 a12 a13) (a1 : A1) (a2 : A2) (a3 : A3) (a4 : A4) (a5 : A5) (a6 : A6) (a7 : A7) (a8 : A8) (a9 : A9) (a10 : A10) (a11 : A11) (a12 : A12) (a13 : A13) (h : I a1 a2 a3 a4 a5 a6 a7 a8 a9 a10 a11 a12 a13) : ∃ n, W n a1 a2 a3 a4 a5 a6 a7 a8 a9 a10 a11 a12 a13 :=
  loop_m (σ := A1 × A2 × A3 × A4 × A5 × A6 × A7 × A8 × A9 × A10 × A11 × A12 × A13) (fun n s => W n s.1 s.2.1 s.2.2.1 s.2.2.2.1 s.2.2.2.2.1 s.2.2.2.2.2.1 s.2.2.2.2.2.2.1 s.2.2.2.2.2.2.2.1 s.2.2.2.2.2.2.2.2.1 s.2.2.2.2.2.2.2.2.2.1 s.2.2.2.2.2.2.2.2.2.2.1 s.2.2.2.2.2.2.2.2.2.2.2.1 s.2.2.2.2.2.2.2.2.2.2.2.2) (fun s => I s.1 s.2.1 s.2.2.1 s.2.2.2.1 s.2.2.2.2.1 s.2.2.2.2.2.1 s.2.2.2.2.2.2.1 s.2.2.2.2.2.2.2.1 s.2.2.2.2.2.2.2.2.1 s.2.2.2.2.2.2.2.2.2.1 s.2.2.2.2.2.2.2.2.2.2.1 s.2.2.2.2.2.2.2.2.2.2.2.1 s.2.2.2.2.2.2.2.2.2.2.2.2) (fun s => μ s.1 s.2.1 s.2.2.1 s.2.2.2.1 s.2.2.2.2.1 s.2.2.2.2.2.1 s.2.2.2.2.2.2.1 s.2.2.2.2.2.2.2.1 s.2.2.2.2.2.2.2.2.1 s.2.2.2.2.2.2.2.2.2.1 s.2.2.2.2.2.2.2.2.2.2.1 s.2.2.2.2.2.2.2.2.2.2.2.1 s.2.2.2.2.2.2.2.2.2.2.2.2) (fun n s hI hk => hs n s.1 s.2.1 s.2.2.1 s.2.2.2.1 s.2.2.2.2.1 s.2.2.2.2.2.1 s.2.2.2.2.2.2.1 s.2.2.2.2.2.2.2.1 s.2.2.2.2.2.2.2.2.1 s.2.2.2.2.2.2.2.2.2.1 s.2.2.2.2.2.2.2.2.2.2.1 s.2.2.2.2.2.2.2.2.2.2.2.1 s.2.2.2.2.2.2.2.2.2.2.2.2 hI (fun b1 b2 b3 b4 b5 b6 b7 b8 b9 b10 b11 b12 b13 h9 hm => hk (b1, b2, b3, b4, b5, b6, b7, b8, b9, b10, b11, b12, b13) h9 hm)) (a1, a2, a3, a4, a5, a6, a7, a8, a9, a10, a11, a12, a13) h
theorem lp14 {A1 A2 A3 A4 A5 A6 A7 A8 A9 A10 A11 A12 A13 A14 : Type} (W : Nat → A1 → A2 → A3 → A4 → A5 → A6 → A7 → A8 → A9 → A10 → A11 → A12 → A13 → A14 → Prop) (I : A1 → A2 → A3 → A4 → A5 → A6 → A7 → A8 → A9 → A10 → A11 → A12 → A13 → A14 → Prop) (μ : A1 → A2 → A3 → A4 → A5 → A6 → A7 → A8 → A9 → A10 → A11 → A12 → A13 → A14 → Nat) (hs : ∀ (n : Nat) (a1 : A1) (a2 : A2) (a3 : A3) (a4 : A4) (a5 : A5) (a6 : A6) (a7 : A7) (a8 : A8) (a9 : A9) (a10 : A10) (a11 : A11) (a12 : A12) (a13 : A13) (a14 : A14), I a1 a2 a3 a4 a5 a6 a7 a8 a9 a10 a11 a12 a13 a14 → (∀ (b1 : A1) (b2 : A2) (b3 : A3) (b4 : A4) (b5 : A5) (b6 : A6) (b7 : A7) (b8 : A8) (b9 : A9) (b10 : A10) (b11 : A11) (b12 : A12) (b13 : A13) (b14 : A14), I b1 b2 b3 b4 b5 b6 b7 b8 b9 b10 b11 b12 b13 b14 → μ b1 b2 b3 b4 b5 b6 b7 b8 b9 b10 b11 b12 b13 b14 < μ a1 a2 a3 a4 a5 a6 a7 a8 a9 a10 a11 a12 a13 a14 → W n b1 b2 b3 b4 b5 b6 b7 b8 b9 b10 b11 b12 b13 b14) → W (n + 1) a1 a2 a3 a4 a5 a6 a7 a8 a9 a10 a11 a12 a13 a14) (a1 : A1) (a2 : A2) (a3 : A3) (a4 : A4) (a5 : A5) (a6 : A6) (a7 : A7) (a8 : A8) (a9 : A9) (a10 : A10) (a11 : A11) (a12 : A12) (a13 : A13) (a14 : A14) (h : I a1 a2 a3 a4 a5 a6 a7 a8 a9 a10 a11 a12 a13 a14) : ∃ n, W n a1 a2 a3 a4 a5 a6 a7 a8 a9 a10 a11 a12 a13 a14 :=
  loop_m (σ := A1 × A2 × A3 × A4 × A5 × A6 × A7 × A8 × A9 × A10 × A11 × A12 × A13 × A14) (fun n s => W n s.1 s.2.1 s.2.2.1 s.2.2.2.1 s.2.2.2.2.1 s.2.2.2.2.2.1 s.2.2.2.2.2.2.1 s.2.2.2.2.2.2.2.1 s.2.2.2.2.2.2.2.2.1 s.2.2.2.2.2.2.2.2.2.1 s.2.2.2.2.2.2.2.2.2.2.1 s.2.2.2.2.2.2.2.2.2.2.2.1 s.2.2.2.2.2.2.2.2.2.2.2.2.1 s.2.2.2.2.2.2.2.2.2.2.2.2.2) (fun s => I s.1 s.2.1 s.2.2.1 s.2.2.2.1 s.2.2.2.2.1 s.2.2.2.2.2.1 s.2.2.2.2.2.2.1 s.2.2.2.2.2.2.2.1 s.2.2.2.2.2.2.2.2.1 s.2.2.2.2.2.2.2.2.2.1 s.2.2.2.2.2.2.2.2.2.2.1 s.2.2.2.2.2.2.2.2.2.2.2.1 s.2.2.2.2.2.2.2.2.2.2.2.2.1 s.2.2.2.2.2.2.2.2.2.2.2.2.2) (fun s => μ s.1 s.2.1 s.2.2.1 s.2.2.2.1 s.2.2.2.2.1 s.2.2.2.2.2.1 s.2.2.2.2.2.2.1 s.2.2.2.2.2.2.2.1 s.2.2.2.2.2.2.2.2.1 s.2.2.2.2.2.2.2.2.2.1 s.2.2.2.2.2.2.2.2.2.2.1 s.2.2.2.2.2.2.2.2.2.2.2.1 s.2.2.2.2.2.2.2.2.2.2.2.2.1 s.2.2.2.2.2.2.2.2.2.2.2.2.2) (fun n s hI hk => hs n s.1 s.2.1 s.2.2.1 s.2.2.2.1 s.2.2.2.2.1 s.2.2.2.2.2.1 s.2.2.2.2.2.2.1 s.2.2.2.2.2.2.2.1 s.2.2.2.2.2.2.2.2.1 s.2.2.2.2.2.2.2.2.2.1 s.2.2.2.2.2.2.2.2.2.2.1 s.2.2.2.2.2.2.2.2.2.2.2.1 s.2.2.2.2.2.2.2.2.2.2.2.2.1 s.2.2.2.2.2.2.2.2.2.2.2.2.2 hI (fun b1 b2 b3 b4 b5 b6 b7 b8 b9 b10 b11 b12 b13 b14 h9 hm => hk (b1, b2, b3, b4, b5, b6, b7, b8, b9, b10, b11, b12, b13, b14) h9 hm)) (a1, a2, a3, a4, a5, a6, a7, a8, a9, a10, a11, a12, a13, a14) h
theorem lp15 {A1 A2 A3 A4 A5 A6 A7 A8 A9 A10 A11 A12 A13 A14 A15 : Type} (W : Nat → A1 → A2 → A3 → A4 → A5 → A6 → A7 → A8 → A9 → A10 → A11 → A12 → A13 → A14 → A15 → Prop) (I : A1 → A2 → A3 → A4 → A5 → A6 → A7 → A8 → A9 → A10 → A11 → A12 → A13 → A14 → A15 → Prop) (μ : A1 → A2 → A3 → A4 → A5 → A6 → A7 → A8 → A9 → A10 → A11 → A12 → A13 → A14 → A15 → Nat) (hs : ∀ (n : Nat) (a1 : A1) (a2 : A2) (a3 : A3) (a4 : A4) (a5 : A5) (a6 : A6) (a7 : A7) (a8 : A8) (a9 : A9) (a10 : A10) (a11 : A11) (a12 : A12) (a13 : A13) (a14 : A14) (a15 : A15), I a1 a2 a3 a4 a5 a6 a7 a8 a9 a10 a11 a12 a13 a14 a15 → (∀ (b1 : A1) (b2 : A2) (b3 : A3) (b4 : A4) (b5 : A5) (b6 : A6) (b7 : A7) (b8 : A8) (b9 : A9) (b10 : A10) (b11 : A11) (b12 : A12) (b13 : A13) (b14 : A14) (b15 : A15), I b1 b2 b3 b4 b5 b6 b7 b8 b9 b10 b11 b12 b13 b14 b15 → μ b1 b2 b3 b4 b5 b6 b7 b8 b9 b10 b11 b12 b13 b14 b15 < μ a1 a2 a3 a4 a5 a6 a7 a8 a9 a10 a11 a12 a13 a14 a15 → W n b1 b2 b3 b4 b5 b6 b7 b8 b9 b10 b11 b12 b13 b14 b15) → W (n + 1) a1 a2 a3 a4 a5 a6 a7 a8 a9 a10 a11 a12 a13 a14 a15) (a1 : A1) (a2 : A2) (a3 : A3) (a4 : A4) (a5 : A5) (a6 : A6) (a7 : A7) (a8 : A8) (a9 : A9) (a10 : A10) (a11 : A11) (a12 : A12) (a13 : A13) (a14 : A14) (a15 : A15) (h : I a1 a2 a3 a4 a5 a6 a7 a8 a9 a10 a11 a12 a13 a14 a15) : ∃ n, W n a1 a2 a3 a4 a5 a6 a7 a8 a9 a10 a11 a12 a13 a14 a15 :=
  loop_m (σ := A1 × A2 × A3 × A4 × A5 × A6 × A7 × A8 × A9 × A10 × A11 × A12 × A13 × A14 × A15) (fun n s => W n s.1 s.2.1 s.2.2.1 s.2.2.2.1 s.2.2.2.2.1 s.2.2.2.2.2.1 s.2.2.2.2.2.2.1 s.2.2.2.2.2.2.2.1 s.2.2.2.2.2.2.2.2.1 s.2.2.2.2.2.2.2.2.2.1 s.2.2.2.2.2.2.2.2.2.2.1 s.2.2.2.2.2.2.2.2.2.2.2.1 s.2.2.2.2.2.2.2.2.2.2.2.2.1 s.2.2.2.2.2.2.2.2.2.2.2.2.2.1 s.2.2.2.2.2.2.2.2.2.2.2.2.2.2) (fun s => I s.1 s.2.1 s.2.2.1 s.2.2.2.1 s.2.2.2.2.1 s.2.2.2.2.2.1 s.2.2.2.2.2.2.1 s.2.2.2.2.2.2.2.1 s.2.2.2.2.2.2.2.2.1 s.2.2.2.2.2.2.2.2.2.1 s.2.2.2.2.2.2.2.2.2.2.1 s.2.2.2.2.2.2.2.2.2.2.2.1 s.2.2.2.2.2.2.2.2.2.2.2.2.1 s.2.2.2.2.2.2.2.2.2.2.2.2.2.1 s.2.2.2.2.2.2.2.2.2.2.2.2.2.2) (fun s => μ s.1 s.2.1 s.2.2.1 s.2.2.2.1 s.2.2.2.2.1 s.2.2.2.2.2.1 s.2.2.2.2.2.2.1 s.2.2.2.2.2.2.2.1 s.2.2.2.2.2.2.2.2.1 s.2.2.2.2.2.2.2.2.2.1 s.2.2.2.2.2.2.2.2.2.2.1 s.2.2.2.2.2.2.2.2.2.2.2.1 s.2.2.2.2.2.2.2.2.2.2.2.2.1 s.2.2.2.2.2.2.2.2.2.2.2.2.2.1 s.2.2.2.2.2.2.2.2.2.2.2.2.2.2) (fun n s hI hk => hs n s.1 s.2.1 s.2.2.1 s.2.2.2.1 s.2.2.2.2.1 s.2.2.2.2.2.1 s.2.2.2.2.2.2.1 s.2.2.2.2.2.2.2.1 s.2.2.2.2.2.2.2.2.1 s.2.2.2.2.2.2.2.2.2.1 s.2.2.2.2.2.2.2.2.2.2.1 s.2.2.2.2.2.2.2.2.2.2.2.1 s.2.2.2.2.2.2.2.2.2.2.2.2.1 s.2.2.2.2.2.2.2.2.2.2.2.2.2.1 s.2.2.2.2.2.2.2.2.2.2.2.2.2.2 hI (fun b1 b2 b3 b4 b5 b6 b7 b8 b9 b10 b11 b12 b13 b14 b15 h9 hm => hk (b1, b2, b3, b4, b5, b6, b7, b8, b9, b10, b11, b12, b13, b14, b15) h9 hm)) (a1, a2, a3, a4, a5, a6, a7, a8, a9, a10, a11, a12, a13, a14, a15) h
theorem lp16 {A1 A2 A3 A4 A5 A6 A7 A8 A9 A10 A11 A12 A13 A14 A15 A16 : Type} (W : Nat → A1 → A2 → A3 → A4 → A5 → A6 → A7 → A8 → A9 → A10 → A11 → A12 → A13 → A14 → A15 → A16 → Prop) (I : A1 → A2 → A3 → A4 → A5 → A6 → A7 → A8 → A9 → A10 → A11 → A12 → A13 → A14 → A15 → A16 → Prop) (μ : A1 → A2 → A3 → A4 → A5 → A6 → A7 → A8 → A9 → A10 → A11 → A12 → A13 → A14 → A15 → A16 → Nat) (hs : ∀ (n : Nat) (a1 : A1) (a2 : A2) (a3 : A3) (a4 : A4) (a5 : A5) (a6 : A6) (a7 : A7) (a8 : A8) (a9 : A9) (a10 : A10) (a11 : A11) (a12 : A12) (a13 : A13) (a14 : A14) (a15 : A15) (a16 : A16), I a1 a2 a3 a4 a5 a6 a7 a8 a9 a10 a11 a12 a13 a14 a15 a16 → (∀ (b1 : A1) (b2 : A2) (b3 : A3) (b4 : A4) (b5 : A5) (b6 : A6) (b7 : A7) (b8 : A8) (b9 : A9) (b10 : A10) (b11 : A11) (b12 : A12) (b13 : A13) (b14 : A14) (b15 : A15) (b16 : A16), I b1 b2 b3 b4 b5 b6 b7 b8 b9 b10 b11 b12 b13 b14 b15 b16 → μ b1 b2 b3 b4 b5 b6 b7 b8 b9 b10 b11 b12 b13 b14 b15 b16 < μ a1 a2 a3 a4 a5 a6 a7 a8 a9 a10 a11 a12 a13 a14 a15 a16 → W n b1 b2 b3 b4 b5 b6 b7 b8 b9 b10 b11 b12 b13 b14 b15 b16) → W (n + 1) a1 a2 a3 a4 a5 a6 a7 a8 a9 a10 a11 a12 a13 a14 a15 a16) (a1 : A1) (a2 : A2) (a3 : A3) (a4 : A4) (a5 : A5) (a6 : A6) (a7 : A7) (a8 : A8) (a9 : A9) (a10 : A10) (a11 : A11) (a12 : A12) (a13 : A13) (a14 : A14) (a15 : A15) (a16 : A16) (h : I a1 a2 a3 a4 a5 a6 a7 a8 a9 a10 a11 a12 a13 a14 a15 a16) : ∃ n, W n a1 a2 a3 a4 a5 a6 a7 a8 a9 a10 a11 a12 a13 a14 a15 a16 :=
  loop_m (σ := A1 × A2 × A3 × A4 × A5 × A6 × A7 × A8 × A9 × A10 × A11 × A12 × A13 × A14 × A15 × A16) (fun n s => W n s.1 s.2.1 s.2.2.1 s.2.2.2.1 s.2.2.2.2.1 s.2.2.2.2.2.1 s.2.2.2.2.2.2.1 s.2.2.2.2.2.2.2.1 s.2.2.2.2.2.2.2.2.1 s.2.2.2.2.2.2.2.2.2.1 s.2.2.2.2.2.2.2.2.2.2.1 s.2.2.2.2.2.2.2.2.2.2.2.1 s.2.2.2.2.2.2.2.2.2.2.2.2.1 s.2.2.2.2.2.2.2.2.2.2.2.2.2.1 s.2.2.2.2.2.2.2.2.2.2.2.2.2.2.1 s.2.2.2.2.2.2.2.2.2.2.2.2.2.2.2) (fun s => I s.1 s.2.1 s.2.2.1 s.2.2.2.1 s.2.2.2.2.1 s.2.2.2.2.2.1 s.2.2.2.2.2.2.1 s.2.2.2.2.2.2.2.1 s.2.2.2.2.2.2.2.2.1 s.2.2.2.2.2.2.2.2.2.1 s.2.2.2.2.2.2.2.2.2.2.1 s.2.2.2.2.2.2.2.2.2.2.2.1 s.2.2.2.2.2.2.2.2.2.2.2.2.1 s.2.2.2.2.2.2.2.2.2.2.2.2.2.1 s.2.2.2.2.2.2.2.2.2.2.2.2.2.2.1 s.2.2.2.2.2.2.2.2.2.2.2.2.2.2.2) (fun s => μ s.1 s.2.1 s.2.2.1 s.2.2.2.1 s.2.2.2.2.1 s.2.2.2.2.2.1 s.2.2.2.2.2.2.1 s.2.2.2.2.2.2.2.1 s.2.2.2.2.2.2.2.2.1 s.2.2.2.2.2.2.2.2.2.1 s.2.2.2.2.2.2.2.2.2.2.1 s.2.2.2.2.2.2.2.2.2.2.2.1 s.2.2.2.2.2.2.2.2.2.2.2.2.1 s.2.2.2.2.2.2.2.2.2.2.2.2.2.1 s.2.2.2.2.2.2.2.2.2.2.2.2.2.2.1 s.2.2.2.2.2.2.2.2.2.2.2.2.2.2.2) (fun n s hI hk => hs n s.1 s.2.1 s.2.2.1 s.2.2.2.1 s.2.2.2.2.1 s.2.2.2.2.2.1 s.2.2.2.2.2.2.1 s.2.2.2.2.2.2.2.1 s.2.2.2.2.2.2.2.2.1 s.2.2.2.2.2.2.2.2.2.1 s.2.2.2.2.2.2.2.2.2.2.1 s.2.2.2.2.2.2.2.2.2.2.2.1 s.2.2.2.2.2.2.2.2.2.2.2.2.1 s.2.2.2.2.2.2.2.2.2.2.2.2.2.1 s.2.2.2.2.2.2.2.2.2.2.2.2.2.2.1 s.2.2.2.2.2.2.2.2.2.2.2.2.2.2.2 hI (fun b1 b2 b3 b4 b5 b6 b7 b8 b9 b10 b11 b12 b13 b14 b15 b16 h9 hm => hk (b1, b2, b3, b4, b5, b6, b7, b8, b9, b10, b11, b12, b13, b14, b15, b16) h9 hm)) (a1, a2, a3, a4, a5, a6, a7, a8, a9, a10, a11, a12, a13, a14, a15, a16) h
theorem pk_least (P : Nat → Prop) (h : ∃ k, P k) : ∃ k, P k ∧ ∀ j, j < k → ¬ P j := by
  obtain ⟨k, hk⟩ := h
  induction k using Nat.strongRecOn with
  | ind k ih =>
    by_cases e : ∃ j, j < k ∧ P j
    · obtain ⟨j, hj, pj⟩ := e
      exact ih j hj pj
    · exact ⟨k, hk, fun j hj pj => e ⟨j, hj, pj⟩⟩
theorem rp1 {ρ A1 : Type} (W : Nat → (ρ → Prop) → A1 → Prop) (ok : A1 → Prop) (μ : A1 → Nat) (val : A1 → ρ)
    (hs : ∀ (d : Nat) (post : ρ → Prop) (a1 : A1), ok a1 → post (val a1) → (∀ (post' : ρ → Prop) (b1 : A1), ok b1 → μ b1 < μ a1 → post' (val b1) → W d post' b1) → W (d + 1) post a1) :
    ∀ (d : Nat) (post : ρ → Prop) (a1 : A1), ok a1 → μ a1 < d → post (val a1) → W d post a1 := by
  intro d
  induction d with
  | zero => intro post a1 _ h; omega
  | succ d ih =>
    intro post a1 ho hm hp
    exact hs d post a1 ho hp (fun post' b1 ho' hm' hp' => ih post' b1 ho' (by omega) hp')
theorem rp2 {ρ A1 A2 : Type} (W : Nat → (ρ → Prop) → A1 → A2 → Prop) (ok : A1 → A2 → Prop) (μ : A1 → A2 → Nat) (val : A1 → A2 → ρ)
    (hs : ∀ (d : Nat) (post : ρ → Prop) (a1 : A1) (a2 : A2), ok a1 a2 → post (val a1 a2) → (∀ (post' : ρ → Prop) (b1 : A1) (b2 : A2), ok b1 b2 → μ b1 b2 < μ a1 a2 → post' (val b1 b2) → W d post' b1 b2) → W (d + 1) post a1 a2) :
    ∀ (d : Nat) (post : ρ → Prop) (a1 : A1) (a2 : A2), ok a1 a2 → μ a1 a2 < d → post (val a1 a2) → W d post a1 a2 := by
  intro d
  induction d with
  | zero => intro post a1 a2 _ h; omega
  | succ d ih =>
    intro post a1 a2 ho hm hp
    exact hs d post a1 a2 ho hp (fun post' b1 b2 ho' hm' hp' => ih post' b1 b2 ho' (by omega) hp')
theorem rp3 {ρ A1 A2 A3 : Type} (W : Nat → (ρ → Prop) → A1 → A2 → A3 → Prop) (ok : A1 → A2 → A3 → Prop) (μ : A1 → A2 → A3 → Nat) (val : A1 → A2 → A3 → ρ)
    (hs : ∀ (d : Nat) (post : ρ → Prop) (a1 : A1) (a2 : A2) (a3 : A3), ok a1 a2 a3 → post (val a1 a2 a3) → (∀ (post' : ρ → Prop) (b1 : A1) (b2 : A2) (b3 : A3), ok b1 b2 b3 → μ b1 b2 b3 < μ a1 a2 a3 → post' (val b1 b2 b3) → W d post' b1 b2 b3) → W (d + 1) post a1 a2 a3) :
    ∀ (d : Nat) (post : ρ → Prop) (a1 : A1) (a2 : A2) (a3 : A3), ok a1 a2 a3 → μ a1 a2 a3 < d → post (val a1 a2 a3) → W d post a1 a2 a3 := by
  intro d
  induction d with
  | zero => intro post a1 a2 a3 _ h; omega
  | succ d ih =>
    intro post a1 a2 a3 ho hm hp
    exact hs d post a1 a2 a3 ho hp (fun post' b1 b2 b3 ho' hm' hp' => ih post' b1 b2 b3 ho' (by omega) hp')
theorem rp4 {ρ A1 A2 A3 A4 : Type} (W : Nat → (ρ → Prop) → A1 → A2 → A3 → A4 → Prop) (ok : A1 → A2 → A3 → A4 → Prop) (μ : A1 → A2 → A3 → A4 → Nat) (val : A1 → A2 → A3 → A4 → ρ)
    (hs : ∀ (d : Nat) (post : ρ → Prop) (a1 : A1) (a2 : A2) (a3 : A3) (a4 : A4), ok a1 a2 a3 a4 → post (val a1 a2 a3 a4) → (∀ (post' : ρ → Prop) (b1 : A1) (b2 : A2) (b3 : A3) (b4 : A4), ok b1 b2 b3 b4 → μ b1 b2 b3 b4 < μ a1 a2 a3 a4 → post' (val b1 b2 b3 b4) → W d post' b1 b2 b3 b4) → W (d + 1) post a1 a2 a3 a4) :
    ∀ (d : Nat) (post : ρ → Prop) (a1 : A1) (a2 : A2) (a3 : A3) (a4 : A4), ok a1 a2 a3 a4 → μ a1 a2 a3 a4 < d → post (val a1 a2 a3 a4) → W d post a1 a2 a3 a4 := by
  intro d
  induction d with
  | zero => intro post a1 a2 a3 a4 _ h; omega
  | succ d ih =>
    intro post a1 a2 a3 a4 ho hm hp
    exact hs d post a1 a2 a3 a4 ho hp (fun post' b1 b2 b3 b4 ho' hm' hp' => ih post' b1 b2 b3 b4 ho' (by omega) hp')
theorem rp5 {ρ A1 A2 A3 A4 A5 : Type} (W : Nat → (ρ → Prop) → A1 → A2 → A3 → A4 → A5 → Prop) (ok : A1 → A2 → A3 → A4 → A5 → Prop) (μ : A1 → A2 → A3 → A4 → A5 → Nat) (val : A1 → A2 → A3 → A4 → A5 → ρ)
    (hs : ∀ (d : Nat) (post : ρ → Prop) (a1 : A1) (a2 : A2) (a3 : A3) (a4 : A4) (a5 : A5), ok a1 a2 a3 a4 a5 → post (val a1 a2 a3 a4 a5) → (∀ (post' : ρ → Prop) (b1 : A1) (b2 : A2) (b3 : A3) (b4 : A4) (b5 : A5), ok b1 b2 b3 b4 b5 → μ b1 b2 b3 b4 b5 < μ a1 a2 a3 a4 a5 → post' (val b1 b2 b3 b4 b5) → W d post' b1 b2 b3 b4 b5) → W (d + 1) post a1 a2 a3 a4 a5) :
    ∀ (d : Nat) (post : ρ → Prop) (a1 : A1) (a2 : A2) (a3 : A3) (a4 : A4) (a5 : A5), ok a1 a2 a3 a4 a5 → μ a1 a2 a3 a4 a5 < d → post (val a1 a2 a3 a4 a5) → W d post a1 a2 a3 a4 a5 := by
  intro d
  induction d with
  | zero => intro post a1 a2 a3 a4 a5 _ h; omega
  | succ d ih =>
    intro post a1 a2 a3 a4 a5 ho hm hp
    exact hs d post a1 a2 a3 a4 a5 ho hp (fun post' b1 b2 b3 b4 b5 ho' hm' hp' => ih post' b1 b2 b3 b4 b5 ho' (by omega) hp')
theorem rp6 {ρ A1 A2 A3 A4 A5 A6 : Type} (W : Nat → (ρ → Prop) → A1 → A2 → A3 → A4 → A5 → A6 → Prop) (ok : A1 → A2 → A3 → A4 → A5 → A6 → Prop) (μ : A1 → A2 → A3 → A4 → A5 → A6 → Nat) (val : A1 → A2 → A3 → A4 → A5 → A6 → ρ)
    (hs : ∀ (d : Nat) (post : ρ → Prop) (a1 : A1) (a2 : A2) (a3 : A3) (a4 : A4) (a5 : A5) (a6 : A6), ok a1 a2 a3 a4 a5 a6 → post (val a1 a2 a3 a4 a5 a6) → (∀ (post' : ρ → Prop) (b1 : A1) (b2 : A2) (b3 : A3) (b4 : A4) (b5 : A5) (b6 : A6), ok b1 b2 b3 b4 b5 b6 → μ b1 b2 b3 b4 b5 b6 < μ a1 a2 a3 a4 a5 a6 → post' (val b1 b2 b3 b4 b5 b6) → W d post' b1 b2 b3 b4 b5 b6) → W (d + 1) post a1 a2 a3 a4 a5 a6) :
    ∀ (d : Nat) (post : ρ → Prop) (a1 : A1) (a2 : A2) (a3 : A3) (a4 : A4) (a5 : A5) (a6 : A6), ok a1 a2 a3 a4 a5 a6 → μ a1 a2 a3 a4 a5 a6 < d → post (val a1 a2 a3 a4 a5 a6) → W d post a1 a2 a3 a4 a5 a6 := by
  intro d
  induction d with
  | zero => intro post a1 a2 a3 a4 a5 a6 _ h; omega
  | succ d ih =>
    intro post a1 a2 a3 a4 a5 a6 ho hm hp
    exact hs d post a1 a2 a3 a4 a5 a6 ho hp (fun post' b1 b2 b3 b4 b5 b6 ho' hm' hp' => ih post' b1 b2 b3 b4 b5 b6 ho' (by omega) hp')
theorem rec_p {σ ρ : Type} (W : Nat → (ρ → Prop) → σ → Prop) (ok : σ → Prop) (μ : σ → Nat) (val : σ → ρ)
    (hs : ∀ d s post, ok s → post (val s) → (∀ s' post', ok s' → μ s' < μ s → post' (val s') → W d post' s') → W (d + 1) post s) :
    ∀ d s post, ok s → μ s < d → post (val s) → W d post s := by
  intro d
  induction d with
  | zero => intro s post _ h; omega
  | succ d ih =>
    intro s post ho hm hp
    exact hs d s post ho hp (fun s' post' ho' hm' hp' => ih s' post' ho' (by omega) hp')
theorem rec_q {σ ρ : Type} (W : Nat → (ρ → Prop) → σ → Prop) (ok : σ → Prop) (μ : σ → Nat) (Q : σ → ρ → Prop)
    (hs : ∀ d s post, ok s → (∀ r, Q s r → post r) → (∀ s' post', ok s' → μ s' < μ s → (∀ r, Q s' r → post' r) → W d post' s') → W (d + 1) post s) :
    ∀ d s post, ok s → μ s < d → (∀ r, Q s r → post r) → W d post s := by
  intro d
  induction d with
  | zero => intro s post _ h; omega
  | succ d ih =>
    intro s post ho hm hp
    exact hs d s post ho hp (fun s' post' ho' hm' hp' => ih s' post' ho' (by omega) hp')
def bx_sum (f : Nat → Int32) : Nat → Int32
  | 0 => 0
  | n + 1 => bx_sum f n + f n
theorem ek_u {A : Prop} {B : Nat → Prop} {k N : Nat} (hk : k < N) (h : B k) : (some k = none → A) ∧ (∀ y : Nat, some k = some y → (y < N ∧ B y)) :=
  ⟨fun z => absurd z (Option.some_ne_none k), fun _ e => (by cases e; exact ⟨hk, h⟩)⟩
theorem ek_nu {A : Prop} {B : Nat → Prop} (h : A) : ((none : Option Nat) = none → A) ∧ (∀ y : Nat, (none : Option Nat) = some y → B y) :=
  ⟨fun _ => h, fun _ e => (by cases e)⟩
theorem ek_if {c d A B : Prop} (e : c ↔ d) (f : d → A) (g : ¬ d → B) : (c → A) ∧ (¬ c → B) :=
  ⟨fun z => f (e.mp z), fun z => g (fun y => z (e.mpr y))⟩
theorem ek_v {α : Sort _} {P : α → Prop} {a b : α} (e : a = b) (h : P b) : P a := e ▸ h
theorem co_some {x : Option Nat} {A : Prop} {B : Nat → Prop} (i : Nat) (h : B i) (hx : x = some i := by rfl) : (x = none → A) ∧ (∀ y : Nat, x = some y → B y) := by
  subst hx
  exact ⟨fun e => (nomatch e), fun y e => Option.some.inj e ▸ h⟩
theorem co_none {x : Option Nat} {A : Prop} {B : Nat → Prop} (h : A) (hx : x = none := by rfl) : (x = none → A) ∧ (∀ y : Nat, x = some y → B y) := by
  subst hx
  exact ⟨fun _ => h, fun y e => (nomatch e)⟩
theorem co_any {x : Option Nat} {A : Prop} {B : Nat → Prop} (hn : x = none → A) (hs : ∀ i : Nat, x = some i → B i) : (x = none → A) ∧ (∀ y : Nat, x = some y → B y) := ⟨hn, hs⟩
theorem co_2 {P : Nat → Prop} (h0 : P 0) (h1 : P 1) {i : Nat} (hi : i < 2) : P i :=
  match i, hi with
  | 0, _ => h0
  | 1, _ => h1
theorem co_3 {P : Nat → Prop} (h0 : P 0) (h1 : P 1) (h2 : P 2) {i : Nat} (hi : i < 3) : P i :=
  match i, hi with
  | 0, _ => h0
  | 1, _ => h1
  | 2, _ => h2
theorem co_4 {P : Nat → Prop} (h0 : P 0) (h1 : P 1) (h2 : P 2) (h3 : P 3) {i : Nat} (hi : i < 4) : P i :=
  match i, hi with
  | 0, _ => h0
  | 1, _ => h1
  | 2, _ => h2
  | 3, _ => h3
theorem co_dec {N : Nat} {P : Nat → Prop} [DecidablePred P] (h : (List.range N).all (fun i => decide (P i)) = true) {i : Nat} (hi : i < N) : P i := by
  have := List.all_eq_true.mp h i (List.mem_range.mpr hi)
  exact of_decide_eq_true this
theorem co_tab {α : Type} {l : List α} {d : α} {P : α → Prop} (h : ∀ a, a ∈ l → P a) {i : Nat} (hi : i < l.length) : P (l.getD i d) := by
  rw [List.getD_eq_getElem?_getD, List.getElem?_eq_getElem hi]
  exact h _ (List.getElem_mem hi)
theorem pk_mu {x : Int32} {L : Nat} (h0 : ¬ x < 0) (h : ¬ nI L ≤ x) (hL : L < 2 ^ 31) : ∃ j : Nat, j < L ∧ x = nI j ∧ x + 1 = nI (j + 1) ∧ x.toNatClampNeg = j ∧ L - (x + 1).toNatClampNeg < L - x.toNatClampNeg := by
  obtain ⟨j, hj, rfl⟩ := nI_of h0
  have hl : j < L := Nat.not_le.mp fun q => h (nI_le q hj)
  refine ⟨j, hl, rfl, nI_1 j, nI_clamp hj, ?_⟩
  rw [nI_1, nI_clamp (by omega), nI_clamp hj]
  omega
theorem op_s {α : Type} {r : Option α} {A : Prop} {B : α → Prop} {y : α} (h : r = some y) (b : B y) : (r = none → A) ∧ ∀ z, r = some z → B z :=
  ⟨fun e => (by rw [h] at e; cases e), fun z e => (by rw [h] at e; cases e; exact b)⟩
def l_holds {α : Type} (a : Nat → Option Nat) (LP : List Nat) (p : Nat → α) (c : Nat) (b : Nat → α) : Prop :=
  ∀ j, j < c → ∃ y, a j = some y ∧ y ∈ LP ∧ p y = b j
theorem l_holds_0 {α : Type} {a : Nat → Option Nat} {LP : List Nat} {p b : Nat → α} : l_holds a LP p 0 b := fun j h => absurd h (Nat.not_lt_zero j)
theorem l_in_new (LP : List Nat) (q : Nat) : q ∈ LP ++ [q] := List.mem_append.mpr (Or.inr (List.mem_singleton.mpr rfl))
def l_sum (b : Nat → Int32) : Nat → Int32
  | 0 => 0
  | k + 1 => l_sum b k + b k
theorem sb_shr0 (x : Int32) : x >>> ((0 : Int32) &&& 31) = x := by
  rw [show ((0 : Int32) &&& 31) = 0 by decide]
  simp
theorem sb_shl0 (x : Int32) : x <<< ((0 : Int32) &&& 31) = x := by
  rw [show ((0 : Int32) &&& 31) = 0 by decide]
  simp
theorem sb_cl0 : (0 : Int32).toNatClampNeg = 0 := by decide
theorem sb_m1 {p : Nat} (h : 0 < p) : nI p + (-1) = nI (p - 1) := by
  obtain ⟨q, rfl⟩ : ∃ q, p = q + 1 := ⟨p - 1, by omega⟩
  exact pk_m1 q
def sb_b (c : Nat) : Int32 := (nI c).toInt8.toInt32
theorem sb_byte : ∀ c, c < 256 → sb_b c &&& 255 = nI c ∧ ((nI c).toUInt32 % 65536).toInt32 = nI c ∧ nI c ≤ 255 := by decide +kernel
def sb_Fit (a : Nat → Int32) : Prop := ∀ j, fits .byte (.int (a j)) = true
def sb_Lat (t : Nat → Nat) (n : Nat) (a : Nat → Int32) : Prop := ∀ j, j < n → t j < 256 ∧ a j = sb_b (t j)
theorem sb_fitB (c : Nat) : fits .byte (.int (sb_b c)) = true := pk_fb _
theorem sb_fit0 : sb_Fit (fun _ => 0) := fun _ => by
  show fits .byte (.int 0) = true
  decide
theorem sb_fitU {a : Nat → Int32} {k : Nat} {x : Int32} (h : sb_Fit a) (hx : fits .byte (.int x) = true) : sb_Fit (upd a k x) := by
  intro j
  by_cases e : j = k
  · subst e
    rw [pk_us]
    exact hx
  · rw [pk_un e]
    exact h j
def sb_cat (t : Nat → Nat) (n : Nat) (s : Nat → Nat) : Nat → Nat := fun j => if j < n then t j else s (j - n)
theorem sb_cat_lo {t s : Nat → Nat} {n j : Nat} (h : j < n) : sb_cat t n s j = t j := if_pos h
theorem sb_cat_hi {t s : Nat → Nat} {n j : Nat} : sb_cat t n s (n + j) = s j := by
  show (if n + j < n then t (n + j) else s (n + j - n)) = s j
  rw [if_neg (by omega), Nat.add_sub_cancel_left]
theorem sb_latPut {t s : Nat → Nat} {n w : Nat} {a a' : Nat → Int32} (h : sb_Lat t n a) (hk : ∀ j, j < n → a' j = a j) (hs : ∀ i, i < w → s i < 256 ∧ a' (n + i) = sb_b (s i)) : sb_Lat (sb_cat t n s) (n + w) a' := by
  intro j hj
  by_cases e : j < n
  · rw [sb_cat_lo e, hk j e]
    exact h j e
  · obtain ⟨i, rfl⟩ : ∃ i, j = n + i := ⟨j - n, by omega⟩
    rw [sb_cat_hi]
    exact hs i (by omega)
theorem sb_latKeep {t : Nat → Nat} {n : Nat} {a a' : Nat → Int32} (h : sb_Lat t n a) (hk : ∀ j, j < n → a' j = a j) : sb_Lat t n a' := fun j hj => by
  rw [hk j hj]
  exact h j hj
def sb_cap (q m : Nat) : Nat := if q ≤ m then m else if 2 * m + 2 < q then q else 2 * m + 2
def sb_Room (q m mc ms : Nat) : Prop := q ≤ m ∨ (1 ≤ mc ∧ sb_cap q m ≤ ms ∧ sb_cap q m ≤ 65536)
theorem sb_cap_ge (q m : Nat) : q ≤ sb_cap q m := by
  unfold sb_cap
  split
  · omega
  · split <;> omega
theorem sb_cap_gem (q m : Nat) : m ≤ sb_cap q m := by
  unfold sb_cap
  split
  · omega
  · split <;> omega
theorem sb_cap_le {q m mc ms : Nat} (hm : m ≤ 65536) (hr : sb_Room q m mc ms) : sb_cap q m ≤ 65536 := by
  rcases hr with h | h
  · rw [sb_cap, if_pos h]
    exact hm
  · exact h.2.2
theorem sb_at {P : Int32 → Prop} {x y : Int32} (e : x = y) (h : P y) : P x := e ▸ h
def sb_dg (w : Nat) : Nat := if w < 10 then 1 else if w < 100 then 2 else if w < 1000 then 3 else if w < 10000 then 4 else if w < 100000 then 5 else if w < 1000000 then 6 else if w < 10000000 then 7 else if w < 100000000 then 8 else if w < 1000000000 then 9 else 10
def sb_dec (v : Nat) : Nat → Nat := fun i => 48 + v / 10 ^ (sb_dg v - 1 - i) % 10
theorem sb_dg_in (w : Nat) : 1 ≤ sb_dg w ∧ sb_dg w ≤ 10 := by
  unfold sb_dg
  constructor <;> (repeat' split) <;> omega
theorem sb_dg100 {w : Nat} (h : 100 ≤ w) (hw : w < 2 ^ 31) : sb_dg w = sb_dg (w / 100) + 2 := by
  rw [sb_dg, sb_dg, if_neg (show ¬ w < 10 by omega), if_neg (show ¬ w < 100 by omega)]
  by_cases h3 : w < 1000
  · rw [if_pos h3, if_pos (show w / 100 < 10 by omega)]
  rw [if_neg h3, if_neg (show ¬ w / 100 < 10 by omega)]
  by_cases h4 : w < 10000
  · rw [if_pos h4, if_pos (show w / 100 < 100 by omega)]
  rw [if_neg h4, if_neg (show ¬ w / 100 < 100 by omega)]
  by_cases h5 : w < 100000
  · rw [if_pos h5, if_pos (show w / 100 < 1000 by omega)]
  rw [if_neg h5, if_neg (show ¬ w / 100 < 1000 by omega)]
  by_cases h6 : w < 1000000
  · rw [if_pos h6, if_pos (show w / 100 < 10000 by omega)]
  rw [if_neg h6, if_neg (show ¬ w / 100 < 10000 by omega)]
  by_cases h7 : w < 10000000
  · rw [if_pos h7, if_pos (show w / 100 < 100000 by omega)]
  rw [if_neg h7, if_neg (show ¬ w / 100 < 100000 by omega)]
  by_cases h8 : w < 100000000
  · rw [if_pos h8, if_pos (show w / 100 < 1000000 by omega)]
  rw [if_neg h8, if_neg (show ¬ w / 100 < 1000000 by omega)]
  by_cases h9 : w < 1000000000
  · rw [if_pos h9, if_pos (show w / 100 < 10000000 by omega)]
  rw [if_neg h9, if_neg (show ¬ w / 100 < 10000000 by omega)]
  rw [if_pos (show w / 100 < 100000000 by omega)]
theorem sb_negT {w : Nat} (h : w < 2 ^ 31) : (-nI w).toInt = -(w : Int) := by
  rw [Int32.toInt_neg, nI_toInt h]
  exact Int.bmod_eq_of_le (by omega) (by omega)
theorem sb_nle {a b : Nat} (ha : a < 2 ^ 31) (hb : b < 2 ^ 31) : -nI a ≤ -nI b ↔ b ≤ a := by
  rw [Int32.le_iff_toInt_le, sb_negT ha, sb_negT hb]
  omega
theorem sb_nlt {a b : Nat} (ha : a < 2 ^ 31) (hb : b < 2 ^ 31) : -nI a < -nI b ↔ b < a := by
  rw [Int32.lt_iff_toInt_lt, sb_negT ha, sb_negT hb]
  omega
theorem sb_cmp {A B : Prop} {x : Int32} (v c : Nat) (f : c ≤ v → A) (g : v < c → B) (hv : v < 2 ^ 31) (hx : x = -nI c := by rfl) (hc : c < 2 ^ 31 := by omega) : (-nI v ≤ x → A) ∧ (¬ -nI v ≤ x → B) := by
  subst hx
  rw [sb_nle hv hc]
  exact ⟨f, fun z => g (by omega)⟩
theorem sb_ndiv {w : Nat} (hw : w < 2 ^ 31) : (-nI w) / 100 = -nI (w / 100) := by
  apply Int32.toInt_inj.mp
  have h100 : (100 : Int32).toInt = 100 := by decide
  rw [Int32.toInt_div, sb_negT hw, h100, sb_negT (by omega), Int.neg_tdiv, Int.tdiv_eq_ediv_of_nonneg (by omega), Int.bmod_eq_of_le (by omega) (by omega)]
  omega
theorem sb_nrem {w : Nat} (hw : w < 2 ^ 31) : (-nI (w / 100)) * 100 - (-nI w) = nI (w % 100) := by
  have h := pk_rem (a := w) (d := 100) hw (by decide) (by decide)
  rw [pk_div hw (by decide) (by decide)] at h
  rw [← h]
  show (-nI (w / 100)) * nI 100 - (-nI w) = nI w - nI (w / 100) * nI 100
  rw [Int32.neg_mul, Int32.sub_neg, Int32.add_comm, ← Int32.sub_eq_add_neg]
end
section
/-! rows on bits, shifts and unsigned numbers, to paste: each family out of a closed proof of our own, whole with what it rests on; each by itself clean at Lean in its own claim (generation 39, form 5). Take a family whole -/
/-! ===== Int32 by its bits: bt x i ===== -/
def bt (x : Int32) (i : Nat) : Bool := x.toBitVec.getLsbD i
theorem b_ext {x y : Int32} (h : ∀ i, i < 32 → bt x i = bt y i) : x = y := Int32.toBitVec_inj.mp (BitVec.eq_of_getLsbD_eq (fun i hi => h i hi))
theorem b_or (x y : Int32) (i : Nat) : bt (x ||| y) i = (bt x i || bt y i) := by unfold bt; rw [Int32.toBitVec_or, BitVec.getLsbD_or]
theorem b_and (x y : Int32) (i : Nat) : bt (x &&& y) i = (bt x i && bt y i) := by unfold bt; rw [Int32.toBitVec_and, BitVec.getLsbD_and]
theorem b_xor (x y : Int32) (i : Nat) : bt (x ^^^ y) i = (bt x i ^^ bt y i) := by unfold bt; rw [Int32.toBitVec_xor, BitVec.getLsbD_xor]
theorem b_big {x : Int32} {i : Nat} (h : 32 ≤ i) : bt x i = false := BitVec.getLsbD_of_ge _ _ h
theorem b_255 (i : Nat) : bt 255 i = decide (i < 8) := by
  rcases Nat.lt_or_ge i 32 with h | h
  · exact (by decide +kernel : ∀ i, i < 32 → bt 255 i = decide (i < 8)) i h
  · rw [b_big h, decide_eq_false (by omega)]
theorem b_65535 (i : Nat) : bt 65535 i = decide (i < 16) := by
  rcases Nat.lt_or_ge i 32 with h | h
  · exact (by decide +kernel : ∀ i, i < 32 → bt 65535 i = decide (i < 16)) i h
  · rw [b_big h, decide_eq_false (by omega)]
theorem b_m1 : ∀ i, i < 32 → bt (-1) i = true := by decide +kernel
theorem b_0 (i : Nat) : bt 0 i = false := BitVec.getLsbD_zero
theorem s_l : ∀ n, n < 32 → ((nI n &&& 31).toBitVec.smod 32).toNat = n := by decide +kernel
theorem s_u : ∀ n, n < 32 → (((nI n).toUInt32 &&& Int32.toUInt32 31).toBitVec % 32).toNat = n := by decide +kernel
theorem b_shl (n : Nat) (hn : n < 32) (x : Int32) {i : Nat} (hi : i < 32) : bt (x <<< (nI n &&& 31)) i = (decide (n ≤ i) && bt x (i - n)) := by
  unfold bt
  rw [Int32.toBitVec_shiftLeft]
  show (x.toBitVec <<< ((nI n &&& 31).toBitVec.smod 32).toNat).getLsbD i = _
  rw [s_l n hn, BitVec.getLsbD_shiftLeft]
  rcases Nat.lt_or_ge i n with h | h
  · simp [h, Nat.not_le.mpr h]
  · simp [hi, h, Nat.not_lt.mpr h]
theorem b_ushr (n : Nat) (hn : n < 32) (x : Int32) (i : Nat) : bt ((x.toUInt32 >>> ((nI n).toUInt32 &&& Int32.toUInt32 31)).toInt32) i = bt x (n + i) := by
  show (x.toUInt32 >>> ((nI n).toUInt32 &&& Int32.toUInt32 31)).toBitVec.getLsbD i = x.toUInt32.toBitVec.getLsbD (n + i)
  rw [UInt32.toBitVec_shiftRight]
  show (x.toUInt32.toBitVec >>> (((nI n).toUInt32 &&& Int32.toUInt32 31).toBitVec % 32).toNat).getLsbD i = _
  rw [s_u n hn, BitVec.getLsbD_ushiftRight]
theorem b_sshr (n : Nat) (hn : n < 32) (x : Int32) {i : Nat} (hi : i < 32) : bt (x >>> (nI n &&& 31)) i = if n + i < 32 then bt x (n + i) else bt x 31 := by
  unfold bt
  rw [Int32.toBitVec_shiftRight]
  show (x.toBitVec.sshiftRight ((nI n &&& 31).toBitVec.smod 32).toNat).getLsbD i = _
  rw [s_l n hn, BitVec.getLsbD_sshiftRight, BitVec.msb_eq_getLsbD_last]
  simp [hi]
theorem b_shl8 (x : Int32) {i : Nat} (hi : i < 32) : bt (x <<< ((8 : Int32) &&& 31)) i = (decide (8 ≤ i) && bt x (i - 8)) := b_shl 8 (by omega) x hi
theorem b_shl16 (x : Int32) {i : Nat} (hi : i < 32) : bt (x <<< ((16 : Int32) &&& 31)) i = (decide (16 ≤ i) && bt x (i - 16)) := b_shl 16 (by omega) x hi
theorem b_shl24 (x : Int32) {i : Nat} (hi : i < 32) : bt (x <<< ((24 : Int32) &&& 31)) i = (decide (24 ≤ i) && bt x (i - 24)) := b_shl 24 (by omega) x hi
theorem b_sshr8 (x : Int32) {i : Nat} (hi : i < 32) : bt (x >>> ((8 : Int32) &&& 31)) i = if 8 + i < 32 then bt x (8 + i) else bt x 31 := b_sshr 8 (by omega) x hi
/-! ===== nI under and, xor, >>>, one bit, 65535 ===== -/
theorem nx_and (a b : Nat) : nI a &&& nI b = nI (a &&& b) := by
  apply Int32.toBitVec_inj.1
  show BitVec.ofNat 32 a &&& BitVec.ofNat 32 b = BitVec.ofNat 32 (a &&& b)
  apply BitVec.eq_of_getLsbD_eq
  intro i hi
  simp [hi]
theorem nx_xor (a b : Nat) : nI a ^^^ nI b = nI (a ^^^ b) := by
  apply Int32.toBitVec_inj.1
  show BitVec.ofNat 32 a ^^^ BitVec.ofNat 32 b = BitVec.ofNat 32 (a ^^^ b)
  apply BitVec.eq_of_getLsbD_eq
  intro i hi
  simp [hi]
theorem nx_cnt : ∀ j : Fin 32, (UInt32.ofNat j.val &&& Int32.toUInt32 31).toNat % 32 = j.val := by decide +kernel
theorem nx_ush {k j : Nat} (hk : k < 65536) (hj : j < 32) : ((nI k).toUInt32 >>> ((nI j).toUInt32 &&& Int32.toUInt32 31)).toInt32 = nI (k >>> j) := by
  have hs : k >>> j ≤ k := by
    rw [Nat.shiftRight_eq_div_pow]
    exact Nat.div_le_self _ _
  have e2 : UInt32.ofNat k >>> (UInt32.ofNat j &&& Int32.toUInt32 31) = UInt32.ofNat (k >>> j) := by
    apply UInt32.toNat_inj.1
    have h1 : (UInt32.ofNat k).toNat = k := Nat.mod_eq_of_lt (by omega)
    have h2 : (UInt32.ofNat (k >>> j)).toNat = k >>> j := Nat.mod_eq_of_lt (by omega)
    rw [UInt32.toNat_shiftRight, nx_cnt ⟨j, hj⟩, h1, h2]
  show (UInt32.ofNat k >>> (UInt32.ofNat j &&& Int32.toUInt32 31)).toInt32 = _
  rw [e2]
  rfl
theorem nx_bit {k j : Nat} (hk : k < 65536) (hj : j < 16) : (((nI k).toUInt32 >>> ((nI j).toUInt32 &&& Int32.toUInt32 31)).toInt32 &&& 1) = 0 ↔ k.testBit j = false := by
  rw [nx_ush hk (by omega)]
  show nI (k >>> j) &&& nI 1 = 0 ↔ _
  rw [nx_and, Nat.and_one_is_mod, ← nI_0, nI_eq (by omega) (by omega), Nat.testBit_eq_decide_div_mod_eq, Nat.shiftRight_eq_div_pow, decide_eq_false_iff_not]
  generalize k / 2 ^ j = z
  omega
theorem nx_mod (k : Nat) : nI k &&& 65535 = nI (k % 65536) := by
  show nI k &&& nI 65535 = _
  rw [nx_and, show (65535 : Nat) = 2 ^ 16 - 1 from rfl, Nat.and_two_pow_sub_one_eq_mod]
theorem nx_m16 {k : Nat} (h : k < 65536) : nI k &&& 65535 = nI k := by rw [nx_mod, Nat.mod_eq_of_lt h]
theorem nx_mask (x : Int32) : ∃ k, k < 65536 ∧ x &&& 65535 = nI k := by
  have e : x = nI x.toBitVec.toNat := by
    apply Int32.toBitVec_inj.1
    show x.toBitVec = BitVec.ofNat 32 x.toBitVec.toNat
    simp
  refine ⟨x.toBitVec.toNat % 65536, Nat.mod_lt _ (by omega), ?_⟩
  rw [← nx_mod, ← e]
/-! ===== Int32 as a set of bits: test, set ===== -/
def nf_M (m : Int32) : Nat := 4294967296 - m.toBitVec.toNat
theorem nf_sh : ∀ l, l < 32 → ((1 : Int32) <<< (nI l &&& 31)).toBitVec = BitVec.twoPow 32 l := by decide +kernel
theorem nf_sl : ∀ l, l < 32 → (((nI l).toUInt32 &&& Int32.toUInt32 31).toBitVec % 32).toNat = l := by decide +kernel
theorem nf_tp : ∀ l, l < 32 → BitVec.twoPow 32 l ≠ 0#32 := by decide +kernel
theorem nf_bit (m : Int32) (l : Nat) (hl : l < 32) : ((m.toUInt32 >>> ((nI l).toUInt32 &&& Int32.toUInt32 31)).toInt32 &&& 1) = 0 ↔ (m &&& ((1 : Int32) <<< (nI l &&& 31))) = 0 := by
  have e : ((m.toUInt32 >>> ((nI l).toUInt32 &&& Int32.toUInt32 31)).toInt32).toBitVec = m.toBitVec >>> l := by
    show m.toBitVec >>> (((nI l).toUInt32 &&& Int32.toUInt32 31).toBitVec % 32) = m.toBitVec >>> l
    rw [BitVec.ushiftRight_eq', nf_sl l hl]
  rw [← Int32.toBitVec_inj, ← Int32.toBitVec_inj, Int32.toBitVec_and, Int32.toBitVec_and, nf_sh l hl, e, BitVec.and_twoPow]
  show (m.toBitVec >>> l &&& 1#32) = 0#32 ↔ _ = 0#32
  rw [BitVec.and_one_eq_setWidth_ofBool_getLsbD, BitVec.getLsbD_ushiftRight, Nat.add_zero]
  cases hb : m.toBitVec.getLsbD l
  · exact ⟨fun _ => by simp, fun _ => by decide⟩
  · exact ⟨fun z => absurd z (by decide), fun z => absurd ((if_pos rfl).symm.trans z) (nf_tp l hl)⟩
theorem nf_gr (m k : Int32) (h : m &&& k = 0) (hk : k ≠ 0) : nf_M (m ||| k) < nf_M m := by
  have hm := m.toBitVec.isLt
  have hm' := (m ||| k).toBitVec.isLt
  have h1 : m.toBitVec.toNat ≤ (m ||| k).toBitVec.toNat := by
    rw [Int32.toBitVec_or, BitVec.toNat_or]
    exact Nat.left_le_or
  have h2 : m.toBitVec.toNat ≠ (m ||| k).toBitVec.toNat := by
    intro e
    have e2 : m = m ||| k := Int32.toBitVec_inj.mp (BitVec.eq_of_toNat_eq e)
    apply hk
    apply Int32.toBitVec_inj.mp
    show k.toBitVec = 0#32
    apply BitVec.eq_of_getLsbD_eq
    intro i hi
    have a : m.toBitVec.getLsbD i = (m.toBitVec.getLsbD i || k.toBitVec.getLsbD i) := by rw [← BitVec.getLsbD_or, ← Int32.toBitVec_or, ← e2]
    have b : (m.toBitVec.getLsbD i && k.toBitVec.getLsbD i) = false := by
      rw [← BitVec.getLsbD_and, ← Int32.toBitVec_and, h]
      exact BitVec.getLsbD_zero
    rw [BitVec.getLsbD_zero]
    revert a b
    cases m.toBitVec.getLsbD i <;> cases k.toBitVec.getLsbD i <;> simp
  unfold nf_M
  omega
/-! ===== a byte read unsigned ===== -/
theorem bp_b (x : Int32) : x.toInt8.toInt32 &&& 255 = x &&& 255 := by
  apply Int32.toBitVec_inj.mp
  rw [Int32.toBitVec_and, Int32.toBitVec_and, Int8.toBitVec_toInt32, Int32.toBitVec_toInt8]
  apply BitVec.eq_of_getLsbD_eq
  intro i hi
  rw [BitVec.getLsbD_and, BitVec.getLsbD_and]
  have hm : ∀ i < 32, 8 ≤ i → (255 : Int32).toBitVec.getLsbD i = false := by decide
  rcases Nat.lt_or_ge i 8 with z | z
  · rw [BitVec.getLsbD_signExtend, BitVec.getLsbD_signExtend, if_pos z, if_pos hi]
    simp only [z, hi, decide_true, Bool.true_and]
  · rw [hm i hi z]; simp
/-! ===== the char cast and 65535 ===== -/
theorem em_w (v : Int32) : ∃ w : Nat, w < 65536 ∧ (v.toUInt32 % 65536).toInt32 = nI w ∧ v &&& 65535 = nI w := by
  have hr := lw_u16_r v
  have h0 : (0 : Int32).toInt = 0 := by decide
  obtain ⟨w, h1, h2⟩ := nI_of (x := lw_u16 v) (by rw [Int32.lt_iff_toInt_lt]; omega)
  have h3 : (v.toUInt32 % 65536).toInt32 = nI w := h2
  rw [h2, nI_toInt h1] at hr
  exact ⟨w, by omega, h3, by rw [← lg_i2c_mask, ← lg_i2c_nf, h3]⟩
/-! ===== Int64 as a set of bits: test, set, clear ===== -/
theorem ts_nf {x : Bool} (h : ¬ x = false) : x = true := by cases x <;> first | rfl | exact absurd rfl h
theorem ts_nt {x : Bool} (h : ¬ x = true) : x = false := by cases x <;> first | rfl | exact absurd rfl h
theorem ts_bit {w : Int64} {s : UInt64} {j : Nat} (hj : j < 64) (hs : s.toNat = j) : ((w.toUInt64 >>> s).toInt64 &&& 1) = 0 ↔ w.toBitVec.getLsbD j = false := by
  have e : (w.toUInt64 >>> s).toInt64.toBitVec = w.toBitVec >>> j := by
    apply BitVec.eq_of_toNat_eq
    show (w.toUInt64 >>> s).toNat = _
    rw [UInt64.toNat_shiftRight, hs, Nat.mod_eq_of_lt hj, BitVec.toNat_ushiftRight]
    rfl
  rw [← Int64.toBitVec_inj, Int64.toBitVec_and, e]
  show w.toBitVec >>> j &&& 1#64 = 0#64 ↔ _
  constructor
  · intro h
    have t := congrArg (fun x => x.getLsbD 0) h
    simpa using t
  · intro h
    apply BitVec.eq_of_getLsbD_eq
    intro i hi
    cases i with
    | zero => simp [h]
    | succ i => simp
theorem ts_or {w m : Int64} {j : Nat} (hj : j < 64) (hm : m.toBitVec = BitVec.twoPow 64 j) : (w ||| m) = w ↔ w.toBitVec.getLsbD j = true := by
  rw [← Int64.toBitVec_inj, Int64.toBitVec_or, hm]
  constructor
  · intro h
    have t := congrArg (fun x => x.getLsbD j) h
    simp only [BitVec.getLsbD_or, BitVec.getLsbD_twoPow] at t
    simpa [hj] using t.symm
  · intro h
    apply BitVec.eq_of_getLsbD_eq
    intro i hi
    rw [BitVec.getLsbD_or, BitVec.getLsbD_twoPow]
    by_cases e : j = i
    · subst e; rw [h, Bool.true_or]
    · simp [e]
theorem ts_and {w m : Int64} {j : Nat} (hj : j < 64) (hm : m.toBitVec = BitVec.twoPow 64 j) : (w &&& (m ^^^ (-1))) = w ↔ w.toBitVec.getLsbD j = false := by
  have ha : (-1 : Int64).toBitVec = BitVec.allOnes 64 := by decide
  rw [← Int64.toBitVec_inj, Int64.toBitVec_and, Int64.toBitVec_xor, hm, ha]
  constructor
  · intro h
    have t := congrArg (fun x => x.getLsbD j) h
    simp only [BitVec.getLsbD_and, BitVec.getLsbD_xor, BitVec.getLsbD_twoPow, BitVec.getLsbD_allOnes] at t
    simpa [hj] using t.symm
  · intro h
    apply BitVec.eq_of_getLsbD_eq
    intro i hi
    rw [BitVec.getLsbD_and, BitVec.getLsbD_xor, BitVec.getLsbD_twoPow, BitVec.getLsbD_allOnes]
    by_cases e : j = i
    · subst e; rw [h, Bool.false_and]
    · simp [e, hi]
/-! ===== lN n to 2^64: shifts, and, or, masks, one bit ===== -/
theorem wb_tb (n : Nat) : (lN n).toBitVec = BitVec.ofNat 64 n := rfl
theorem wb_inj {a b : Int64} (h : a.toBitVec = b.toBitVec) : a = b := Int64.toBitVec_inj.mp h
theorem wb_tn {n : Nat} (h : n < 2 ^ 64) : (lN n).toBitVec.toNat = n := by rw [wb_tb, BitVec.toNat_ofNat, Nat.mod_eq_of_lt h]
theorem wb_of (x : Int64) : ∃ n, n < 2 ^ 64 ∧ x = lN n := ⟨x.toBitVec.toNat, x.toBitVec.isLt, wb_inj (by rw [wb_tb]; simp)⟩
theorem wb_of32 (x : Int32) : ∃ n, n < 2 ^ 32 ∧ x = nI n := ⟨x.toBitVec.toNat, x.toBitVec.isLt, Int32.toBitVec_inj.mp (by show _ = BitVec.ofNat 32 _; simp)⟩
theorem wb_c : ∀ k, k < 64 → ((nI k).toInt64 &&& 63) = lN k := by decide +kernel
theorem wb_cu : ∀ k, k < 64 → ((nI k).toInt64.toUInt64 &&& Int64.toUInt64 63) = UInt64.ofNat k := by decide +kernel
theorem wb_sm : ∀ k, k < 64 → (BitVec.ofNat 64 k).smod 64 = BitVec.ofNat 64 k := by decide +kernel
theorem wb_pw {a b : Nat} (h : a ≤ b) : 2 ^ b = 2 ^ a * 2 ^ (b - a) := by rw [← Nat.pow_add]; congr 1; omega
theorem wb_lt2 {a b : Nat} (h : a < b) : 2 ^ a < 2 ^ b := Nat.pow_lt_pow_right (by decide) h
theorem wb_mod (n : Nat) : lN n = lN (n % 2 ^ 64) := wb_inj (by rw [wb_tb, wb_tb]; apply BitVec.eq_of_toNat_eq; rw [BitVec.toNat_ofNat, BitVec.toNat_ofNat, Nat.mod_mod])
theorem wb_shr {n k : Nat} (hn : n < 2 ^ 64) (hk : k < 64) : ((lN n).toUInt64 >>> ((nI k).toInt64.toUInt64 &&& Int64.toUInt64 63)).toInt64 = lN (n / 2 ^ k) := by
  rw [wb_cu k hk]
  apply wb_inj
  apply BitVec.eq_of_toNat_eq
  show ((lN n).toUInt64 >>> UInt64.ofNat k).toNat = (BitVec.ofNat 64 _).toNat
  have h1 : (UInt64.ofNat k).toNat = k := by
    show (BitVec.ofNat 64 k).toNat = k
    rw [BitVec.toNat_ofNat, Nat.mod_eq_of_lt (by omega)]
  have h2 : (lN n).toUInt64.toNat = n := wb_tn hn
  rw [UInt64.toNat_shiftRight, h1, h2, Nat.mod_eq_of_lt hk, Nat.shiftRight_eq_div_pow, BitVec.toNat_ofNat, Nat.mod_eq_of_lt (Nat.lt_of_le_of_lt (Nat.div_le_self _ _) hn)]
theorem wb_shl (n : Nat) {k : Nat} (hk : k < 64) : lN n <<< ((nI k).toInt64 &&& 63) = lN (n * 2 ^ k) := by
  rw [wb_c k hk]
  apply wb_inj
  rw [Int64.toBitVec_shiftLeft, wb_tb, wb_tb, wb_tb, wb_sm k hk]
  apply BitVec.eq_of_toNat_eq
  rw [BitVec.shiftLeft_eq', BitVec.toNat_shiftLeft, BitVec.toNat_ofNat, BitVec.toNat_ofNat, BitVec.toNat_ofNat, Nat.mod_eq_of_lt (show k < 2 ^ 64 by omega), Nat.shiftLeft_eq, Nat.mul_mod, Nat.mod_mod, ← Nat.mul_mod]
theorem wb_and {a b : Nat} (ha : a < 2 ^ 64) (hb : b < 2 ^ 64) : lN a &&& lN b = lN (a &&& b) := by
  apply wb_inj
  rw [Int64.toBitVec_and, wb_tb, wb_tb, wb_tb]
  apply BitVec.eq_of_toNat_eq
  rw [BitVec.toNat_and, BitVec.toNat_ofNat, BitVec.toNat_ofNat, BitVec.toNat_ofNat, Nat.mod_eq_of_lt ha, Nat.mod_eq_of_lt hb, Nat.mod_eq_of_lt (Nat.and_lt_two_pow _ hb)]
theorem wb_or {a b : Nat} (ha : a < 2 ^ 64) (hb : b < 2 ^ 64) : lN a ||| lN b = lN (a ||| b) := by
  apply wb_inj
  rw [Int64.toBitVec_or, wb_tb, wb_tb, wb_tb]
  apply BitVec.eq_of_toNat_eq
  rw [BitVec.toNat_or, BitVec.toNat_ofNat, BitVec.toNat_ofNat, BitVec.toNat_ofNat, Nat.mod_eq_of_lt ha, Nat.mod_eq_of_lt hb, Nat.mod_eq_of_lt (Nat.or_lt_two_pow ha hb)]
theorem wb_mask {n k : Nat} (hn : n < 2 ^ 64) (hk : k < 64) : lN n &&& lN (2 ^ k - 1) = lN (n % 2 ^ k) := by
  rw [wb_and hn (by have := wb_lt2 hk; omega), Nat.and_two_pow_sub_one_eq_mod]
theorem wb_a1 {n : Nat} (hn : n < 2 ^ 64) : lN n &&& 1 = lN (n % 2) := wb_mask (k := 1) hn (by decide)
theorem wb_bit {n k : Nat} (hn : n < 2 ^ 64) (hk : k < 64) : ((lN n).toUInt64 >>> ((nI k).toInt64.toUInt64 &&& Int64.toUInt64 63)).toInt64 &&& 1 = lN (n / 2 ^ k % 2) := by
  rw [wb_shr hn hk, wb_a1 (Nat.lt_of_le_of_lt (Nat.div_le_self _ _) hn)]
theorem wb_xor {q k : Nat} (hk : k < 63) (h : 2 ^ k ≤ q) (h2 : q < 2 ^ (k + 1)) : lN q ^^^ lN (2 ^ k) = lN (q - 2 ^ k) := by
  obtain ⟨r, rfl⟩ : ∃ r, q = 2 ^ k + r := ⟨q - 2 ^ k, by omega⟩
  have hr : r < 2 ^ k := by rw [Nat.pow_succ] at h2; omega
  have hx : (2 ^ k + r) ^^^ 2 ^ k = r := by
    apply Nat.eq_of_testBit_eq
    intro i
    rw [Nat.testBit_xor, Nat.testBit_two_pow]
    rcases Nat.lt_trichotomy i k with h | h | h
    · rw [Nat.testBit_two_pow_add_gt h]
      simp [show ¬ k = i by omega]
    · subst h
      rw [Nat.testBit_two_pow_add_eq]
      simp
    · have a1 : 2 ^ (k + 1) ≤ 2 ^ i := Nat.pow_le_pow_right (by decide) h
      rw [Nat.testBit_lt_two_pow (show 2 ^ k + r < 2 ^ i by omega), Nat.testBit_lt_two_pow (show r < 2 ^ i by omega)]
      simp [show ¬ k = i by omega]
  have b1 := wb_lt2 (show k + 1 < 64 by omega)
  have b2 := wb_lt2 (show k < 64 by omega)
  apply wb_inj
  rw [Int64.toBitVec_xor, wb_tb, wb_tb, wb_tb]
  apply BitVec.eq_of_toNat_eq
  rw [BitVec.toNat_xor, BitVec.toNat_ofNat, BitVec.toNat_ofNat, BitVec.toNat_ofNat, Nat.mod_eq_of_lt (by omega : 2 ^ k + r < 2 ^ 64), Nat.mod_eq_of_lt b2, hx, Nat.add_sub_cancel_left, Nat.mod_eq_of_lt (by omega)]
/-! ===== lN: masks, 'or' of parts that don't overlap is a sum ===== -/
theorem u_tn {n : Nat} (h : n < 2 ^ 64) : (UInt64.ofNat n).toNat = n := Nat.mod_eq_of_lt h
theorem g_and {a b c : Nat} (ha : a < 2 ^ 64) (hb : b < 2 ^ 64) (hc : a &&& b = c) : lN a &&& lN b = lN c := by
  subst hc
  have h : UInt64.ofNat a &&& UInt64.ofNat b = UInt64.ofNat (a &&& b) := UInt64.toNat_inj.mp (by rw [UInt64.toNat_and, u_tn ha, u_tn hb, u_tn (Nat.and_lt_two_pow a hb)])
  have h2 := congrArg UInt64.toInt64 h
  exact h2
theorem g_and1 {a : Nat} (ha : a < 2 ^ 64) : lN a &&& 1 = lN (a % 2) := g_and (b := 1) ha (by decide) (Nat.and_two_pow_sub_one_eq_mod a 1)
theorem g_mask {a s p : Nat} (hp : 2 ^ s = p) (hs : s < 64) (ha : a < 2 ^ 64) : lN a &&& lN (p - 1) = lN (a % p) := by
  subst hp
  have := Nat.pow_lt_pow_right (show 1 < 2 by decide) hs
  exact g_and ha (by omega) (Nat.and_two_pow_sub_one_eq_mod a s)
theorem g_or {k p a b : Nat} (hp : 2 ^ k = p) (ha : a < p) (h : b * p + a < 2 ^ 64) : lN (b * p) ||| lN a = lN (b * p + a) := by
  subst hp
  have h1 : b * 2 ^ k ||| a = b * 2 ^ k + a := by rw [← Nat.shiftLeft_eq, Nat.shiftLeft_add_eq_or_of_lt ha]
  have h3 : UInt64.ofNat (b * 2 ^ k) ||| UInt64.ofNat a = UInt64.ofNat (b * 2 ^ k + a) := UInt64.toNat_inj.mp (by rw [UInt64.toNat_or, u_tn (by omega), u_tn (by omega), u_tn h, h1])
  have h2 := congrArg UInt64.toInt64 h3
  exact h2
theorem g_or' {k p a b : Nat} (hp : 2 ^ k = p) (ha : a < p) (h : a + b * p < 2 ^ 64) : lN a ||| lN (b * p) = lN (a + b * p) := by
  rw [Int64.or_comm, g_or hp ha (by omega), Nat.add_comm]
theorem g_ushr {a k p : Nat} {y : UInt64} (hy : y = UInt64.ofNat k) (hk : k < 64) (hp : 2 ^ k = p) (ha : a < 2 ^ 64) : ((lN a).toUInt64 >>> y).toInt64 = lN (a / p) := by
  subst hy hp
  have h : UInt64.ofNat a >>> UInt64.ofNat k = UInt64.ofNat (a / 2 ^ k) := UInt64.toNat_inj.mp (by rw [UInt64.toNat_shiftRight, u_tn ha, u_tn (by omega), u_tn (Nat.lt_of_le_of_lt (Nat.div_le_self _ _) ha), Nat.mod_eq_of_lt hk, Nat.shiftRight_eq_div_pow])
  have h2 := congrArg UInt64.toInt64 h
  exact h2
theorem g_shl {a k p : Nat} {y : Int64} (hy : y.toBitVec.smod 64 = BitVec.ofNat 64 k) (hk : k < 64) (hp : 2 ^ k = p) (ha : a < 2 ^ 64) : lN a <<< y = lN (a * p) := by
  subst hp
  apply Int64.toBitVec_inj.mp
  rw [Int64.toBitVec_shiftLeft, hy]
  apply BitVec.eq_of_toNat_eq
  have hb : (lN a).toBitVec.toNat = a := Nat.mod_eq_of_lt ha
  have hk' : (BitVec.ofNat 64 k).toNat = k := Nat.mod_eq_of_lt (by omega)
  have h : ((lN a).toBitVec <<< BitVec.ofNat 64 k).toNat = (a * 2 ^ k) % 2 ^ 64 := by simp only [BitVec.shiftLeft_eq', BitVec.toNat_shiftLeft, hb, hk', Nat.shiftLeft_eq]
  exact h
/-! ===== lN to 2^62 under >> and >>> ===== -/
theorem pf_lI {a : Nat} (h : a < 2 ^ 63) : (lN a).toInt = (a : Int) := lg_ofNat_toInt h
theorem pf_shr {a d : Nat} {D : Int64} (hD : (D.toBitVec.smod 64).toNat = d) (h : a < 2 ^ 62) : lN a >>> D = lN (a / 2 ^ d) := by
  have hd : a / 2 ^ d ≤ a := Nat.div_le_self _ _
  apply Int64.toInt_inj.mp
  have e : (lN a >>> D).toInt = (lN a).toInt >>> d := by
    rw [← hD]
    exact BitVec.toInt_sshiftRight ..
  rw [e, Int.shiftRight_eq_div_pow, pf_lI (by omega), pf_lI (by omega)]
  rfl
theorem pf_ushr {a d : Nat} {D : UInt64} (hD : D.toNat % 64 = d) (h : a < 2 ^ 62) : ((lN a).toUInt64 >>> D).toInt64 = lN (a / 2 ^ d) := by
  have hd : a / 2 ^ d ≤ a := Nat.div_le_self _ _
  have e : (lN a).toUInt64 >>> D = UInt64.ofNat (a / 2 ^ d) := UInt64.toNat_inj.mp (by
    rw [UInt64.toNat_shiftRight, hD, Nat.shiftRight_eq_div_pow, UInt64.toNat_ofNat']
    show (UInt64.ofNat a).toNat / 2 ^ d = _
    rw [UInt64.toNat_ofNat', Nat.mod_eq_of_lt (by omega), Nat.mod_eq_of_lt (by omega)])
  rw [e]
  rfl
theorem pf_andw (x : Int64) : ∃ m, m < 2 ^ 32 ∧ x &&& 4294967295 = lN m := ⟨x.toBitVec.toNat % 2 ^ 32, Nat.mod_lt _ (by decide), Int64.toBitVec_inj.mp (BitVec.eq_of_toNat_eq (by
  show (x.toBitVec &&& 4294967295#64).toNat = (BitVec.ofNat 64 (x.toBitVec.toNat % 2 ^ 32)).toNat
  rw [BitVec.toNat_and, show (4294967295#64).toNat = 2 ^ 32 - 1 from by decide, Nat.and_two_pow_sub_one_eq_mod, BitVec.toNat_ofNat]
  omega))⟩
/-! ===== Int64 as an unsigned number: uN x ===== -/
def uN (x : Int64) : Nat := x.toUInt64.toNat
theorem uN_lt (x : Int64) : uN x < 18446744073709551616 := x.toUInt64.toNat_lt
theorem uN_inj {x y : Int64} (h : uN x = uN y) : x = y := congrArg UInt64.toInt64 (UInt64.toNat_inj.mp h)
theorem uN_add (x y : Int64) : uN (x + y) = (uN x + uN y) % 18446744073709551616 := by
  show (x.toUInt64 + y.toUInt64).toNat = _
  exact UInt64.toNat_add _ _
theorem uN_mul (x y : Int64) : uN (x * y) = (uN x * uN y) % 18446744073709551616 := by
  show (x.toUInt64 * y.toUInt64).toNat = _
  exact UInt64.toNat_mul _ _
theorem uN_shl (x : Int64) : uN (x <<< ((1 : Int32).toInt64 &&& 63)) = (2 * uN x) % 18446744073709551616 := by
  have h : (((1 : Int32).toInt64 &&& 63).toBitVec.smod 64).toNat = 1 := by decide
  show (x.toBitVec <<< (((1 : Int32).toInt64 &&& 63).toBitVec.smod 64).toNat).toNat = _
  rw [h, BitVec.toNat_shiftLeft, Nat.shiftLeft_eq, Nat.mul_comm]
  rfl
theorem uN_shr (x : Int64) (s : UInt64) : uN (x.toUInt64 >>> s).toInt64 = uN x / 2 ^ (s.toNat % 64) := by
  show (x.toUInt64 >>> s).toNat = _
  rw [UInt64.toNat_shiftRight, Nat.shiftRight_eq_div_pow]
  rfl
theorem uN_s32 (x : Int64) : uN (x.toUInt64 >>> ((32 : Int32).toInt64.toUInt64 &&& Int64.toUInt64 63)).toInt64 = uN x / 4294967296 := by
  have h : ((32 : Int32).toInt64.toUInt64 &&& Int64.toUInt64 63).toNat % 64 = 32 := by decide
  rw [uN_shr, h]
theorem uN_s63 (x : Int64) : uN (x.toUInt64 >>> ((63 : Int32).toInt64.toUInt64 &&& Int64.toUInt64 63)).toInt64 = uN x / 9223372036854775808 := by
  have h : ((63 : Int32).toInt64.toUInt64 &&& Int64.toUInt64 63).toNat % 64 = 63 := by decide
  rw [uN_shr, h]
theorem uN_lo (x : Int64) : uN (x &&& 4294967295) = uN x % 4294967296 := by
  show (x.toUInt64 &&& Int64.toUInt64 4294967295).toNat = _
  rw [UInt64.toNat_and]
  exact Nat.and_two_pow_sub_one_eq_mod _ 32
theorem uN_bit (x : Int64) : (x &&& 1) = 0 ↔ uN x % 2 = 0 := by
  have h : uN (x &&& 1) = uN x % 2 := by
    show (x.toUInt64 &&& Int64.toUInt64 1).toNat = _
    rw [UInt64.toNat_and]
    exact Nat.and_two_pow_sub_one_eq_mod _ 1
  rw [← h]
  exact ⟨fun z => by rw [z]; rfl, fun z => uN_inj (z.trans rfl)⟩
theorem uN_or {x y : Int64} (hy : uN y < 2) : uN ((x <<< ((1 : Int32).toInt64 &&& 63)) ||| y) = (2 * uN x) % 18446744073709551616 + uN y := by
  have h1 : uN ((x <<< ((1 : Int32).toInt64 &&& 63)) ||| y) = uN (x <<< ((1 : Int32).toInt64 &&& 63)) ||| uN y := UInt64.toNat_or _ _
  have h2 : (2 * uN x) % 18446744073709551616 = 2 ^ 1 * (uN x % 9223372036854775808) := by omega
  rw [h1, uN_shl, h2]
  exact (Nat.two_pow_add_eq_or_of_lt (i := 1) hy _).symm
theorem nat_xor {a : Nat} (h : a < 18446744073709551616) : a ^^^ 2 ^ 63 = (a + 9223372036854775808) % 18446744073709551616 := by
  have h1 : (a ^^^ 2 ^ 63) % 2 ^ 63 = a % 2 ^ 63 := by rw [Nat.xor_mod_two_pow, Nat.mod_self, Nat.xor_zero]
  have h2 : (a ^^^ 2 ^ 63) / 2 ^ 63 = (a / 2 ^ 63) ^^^ 1 := by rw [Nat.xor_div_two_pow, Nat.div_self (Nat.two_pow_pos 63)]
  have h3 : a / 2 ^ 63 = 0 ∨ a / 2 ^ 63 = 1 := by omega
  generalize a ^^^ 2 ^ 63 = t at h1 h2
  rcases h3 with h3 | h3
  · rw [h3] at h2
    have h2 : t / 2 ^ 63 = 1 := h2
    omega
  · rw [h3] at h2
    have h2 : t / 2 ^ 63 = 0 := h2
    omega
theorem uN_xor (x : Int64) : uN (x ^^^ (-9223372036854775808)) = (uN x + 9223372036854775808) % 18446744073709551616 := by
  rw [← nat_xor (uN_lt x)]
  exact UInt64.toNat_xor _ _
theorem uN_int (x : Int64) : x.toInt = if 2 * uN x < 18446744073709551616 then (uN x : Int) else (uN x : Int) - 18446744073709551616 := BitVec.toInt_eq_toNat_cond _
theorem uN_le (x y : Int64) : (x ^^^ (-9223372036854775808)) ≤ (y ^^^ (-9223372036854775808)) ↔ uN x ≤ uN y := by
  have hx := uN_lt x
  have hy := uN_lt y
  rw [Int64.le_iff_toInt_le, uN_int, uN_int, uN_xor, uN_xor]
  omega
theorem uN_sk (x : Int64) {k : Nat} (hk : k < 64) : uN (x.toUInt64 >>> ((nI k).toInt64.toUInt64 &&& Int64.toUInt64 63)).toInt64 = uN x / 2 ^ k := by
  have h : ((nI k).toInt64.toUInt64 &&& Int64.toUInt64 63).toNat % 64 = k := by
    rw [nI_l (by omega), UInt64.toNat_and]
    have e : (lN k).toUInt64.toNat = k % 2 ^ 64 := rfl
    have e2 : (Int64.toUInt64 63).toNat = 2 ^ 6 - 1 := by decide
    rw [e, e2, Nat.and_two_pow_sub_one_eq_mod]
    omega
  rw [uN_shr, h]
/-! ===== unsigned comparison by xor with the least ===== -/
theorem lN_bv (n : Nat) : (lN n).toBitVec = BitVec.ofNat 64 n := rfl
theorem lN_nat {n : Nat} (h : n < 2 ^ 64) : (lN n).toBitVec.toNat = n := by rw [lN_bv, BitVec.toNat_ofNat]; exact Nat.mod_eq_of_lt h
theorem lN_xor (a b : Nat) : lN a ^^^ lN b = lN (a ^^^ b) := by
  apply Int64.toBitVec_inj.mp; rw [Int64.toBitVec_xor, lN_bv, lN_bv, lN_bv]; apply BitVec.eq_of_getLsbD_eq; intro i hi; simp [BitVec.getLsbD_ofNat, Nat.testBit_xor, hi]
theorem lN_ti {m : Nat} (h : m < 2 ^ 64) : (lN m).toInt = if m < 2 ^ 63 then (m : Int) else (m : Int) - 2 ^ 64 := by
  have c := BitVec.toInt_eq_toNat_cond (lN m).toBitVec
  rw [lN_nat h] at c
  show (lN m).toBitVec.toInt = _
  rw [c]
  split <;> split <;> omega
theorem xor63 {x : Nat} (h : x < 2 ^ 63) : x ^^^ 2 ^ 63 = 2 ^ 63 + x := by
  apply Nat.eq_of_testBit_eq
  intro i
  rw [Nat.testBit_xor, Nat.testBit_two_pow]
  rcases Nat.lt_trichotomy i 63 with z | z | z
  · rw [Nat.testBit_two_pow_add_gt z, decide_eq_false (by omega)]; simp
  · subst z; rw [Nat.testBit_two_pow_add_eq]; simp
  · have hp : 2 ^ 64 ≤ 2 ^ i := Nat.pow_le_pow_right (by decide) z
    rw [Nat.testBit_lt_two_pow (show x < 2 ^ i by omega), Nat.testBit_lt_two_pow (show 2 ^ 63 + x < 2 ^ i by omega), decide_eq_false (by omega)]; rfl
theorem xorS {a : Nat} (h : a < 2 ^ 64) : (lN a ^^^ (-9223372036854775808)).toInt = (a : Int) - 2 ^ 63 := by
  rw [show (-9223372036854775808 : Int64) = lN (2 ^ 63) from by decide +kernel, lN_xor]
  rcases Nat.lt_or_ge a (2 ^ 63) with z | z
  · rw [xor63 z, lN_ti (by omega), if_neg (by omega)]; omega
  · obtain ⟨x, rfl⟩ : ∃ x, a = 2 ^ 63 + x := ⟨a - 2 ^ 63, by omega⟩
    rw [← xor63 (by omega), Nat.xor_assoc, Nat.xor_self, Nat.xor_zero, lN_ti (by omega), if_pos (by omega), xor63 (by omega)]; omega
theorem ultL {a b : Nat} (ha : a < 2 ^ 64) (hb : b < 2 ^ 64) : ((lN b ^^^ (-9223372036854775808)) ≤ (lN a ^^^ (-9223372036854775808))) ↔ b ≤ a := by
  rw [Int64.le_iff_toInt_le, xorS ha, xorS hb]; omega
/-! ===== Int64 masks of n low bits ===== -/
theorem cr_bits (W U M : BitVec 64) : ((W &&& U) &&& (U &&& (M ^^^ BitVec.allOnes 64))) = 0#64 ↔ (W &&& U) &&& M = W &&& U := by
  constructor
  · intro h
    apply BitVec.eq_of_getLsbD_eq
    intro i hi
    have e := congrArg (fun x => BitVec.getLsbD x i) h
    simp only [BitVec.getLsbD_and, BitVec.getLsbD_xor, BitVec.getLsbD_allOnes, BitVec.getLsbD_zero, hi, decide_true] at e ⊢
    revert e
    cases W.getLsbD i <;> cases U.getLsbD i <;> cases M.getLsbD i <;> decide
  · intro h
    apply BitVec.eq_of_getLsbD_eq
    intro i hi
    have e := congrArg (fun x => BitVec.getLsbD x i) h
    simp only [BitVec.getLsbD_and, BitVec.getLsbD_xor, BitVec.getLsbD_allOnes, BitVec.getLsbD_zero, hi, decide_true] at e ⊢
    revert e
    cases W.getLsbD i <;> cases U.getLsbD i <;> cases M.getLsbD i <;> decide
theorem cr_mask (w U m : Int64) (n : Nat) (hm : m.toBitVec.toNat = 2 ^ n - 1) : ((w &&& U) &&& (U &&& (m ^^^ (-1)))) = 0 ↔ (w &&& U).toBitVec.toNat < 2 ^ n := by
  have e0 : (-1 : Int64).toBitVec = BitVec.allOnes 64 := by decide
  have z0 : (0 : Int64).toBitVec = 0#64 := by decide
  rw [← Int64.toBitVec_inj, z0, Int64.toBitVec_and, Int64.toBitVec_and, Int64.toBitVec_and, Int64.toBitVec_xor, e0, cr_bits]
  generalize w.toBitVec &&& U.toBitVec = T
  rw [← BitVec.toNat_inj, BitVec.toNat_and, hm, Nat.and_two_pow_sub_one_eq_mod]
  constructor
  · intro h
    have t := Nat.mod_lt T.toNat (Nat.two_pow_pos n)
    rw [h] at t
    exact t
  · exact Nat.mod_eq_of_lt
theorem cr_shr (t : Int64) (x : UInt64) (n : Nat) (hx : x.toNat % 64 = n) : (t.toUInt64 >>> x).toInt64 = 0 ↔ t.toBitVec.toNat < 2 ^ n := by
  rw [← Int64.toBitVec_inj, ← BitVec.toNat_inj]
  show (t.toUInt64 >>> x).toNat = 0 ↔ t.toUInt64.toNat < 2 ^ n
  rw [UInt64.toNat_shiftRight, hx, Nat.shiftRight_eq_div_pow]
  constructor
  · intro h
    have d : t.toUInt64.toNat / 2 ^ n < 1 := by
      rw [h]
      decide
    have e := (Nat.div_lt_iff_lt_mul (Nat.two_pow_pos n)).mp d
    rw [Nat.one_mul] at e
    exact e
  · exact Nat.div_eq_of_lt
theorem cr_amt (s : Int64) : ∃ n, n < 64 ∧ s &&& 63 = lN n ∧ (s.toUInt64 &&& Int64.toUInt64 63).toNat % 64 = n := by
  have e : (s.toUInt64 &&& Int64.toUInt64 63).toNat = s.toUInt64.toNat % 2 ^ 6 := by
    rw [UInt64.toNat_and, show (Int64.toUInt64 63).toNat = 2 ^ 6 - 1 from by decide, Nat.and_two_pow_sub_one_eq_mod]
  refine ⟨s.toUInt64.toNat % 2 ^ 6, by omega, ?_, by omega⟩
  rw [← Int64.toBitVec_inj, ← BitVec.toNat_inj]
  show (s.toUInt64 &&& Int64.toUInt64 63).toNat = (BitVec.ofNat 64 (s.toUInt64.toNat % 2 ^ 6)).toNat
  rw [e, BitVec.toNat_ofNat]
  omega
end
section
/-! numbers, held lists, copied blocks -/
theorem ef_m4 (n : Nat) : (4 : Int32) * nI n = nI (4 * n) := pk_mul 4 n
theorem ef_m5 (n : Nat) : (5 : Int32) * nI n = nI (5 * n) := pk_mul 5 n
theorem ef_m6 (n : Nat) : (6 : Int32) * nI n = nI (6 * n) := pk_mul 6 n
theorem ef_m8 (n : Nat) : (8 : Int32) * nI n = nI (8 * n) := pk_mul 8 n
theorem ef_m16 (n : Nat) : (16 : Int32) * nI n = nI (16 * n) := pk_mul 16 n
theorem ef_m256 (n : Nat) : (256 : Int32) * nI n = nI (256 * n) := pk_mul 256 n
theorem ef_s1 {n : Nat} (h : 0 < n) : nI n - 1 = nI (n - 1) := pk_sub (a := n) (b := 1) h
theorem ef_p1 {n : Nat} (h : 0 < n) : nI n + (-1) = nI (n - 1) := sb_m1 h
theorem ef_t8 {n : Nat} (h : n < 128) : (nI n).toInt8.toInt32 = nI n :=
  lg_i2b_small (by rw [nI_toInt (by omega)]; omega) (by rw [nI_toInt (by omega)]; omega)
theorem ef_t16 {n : Nat} (h : n < 32768) : (nI n).toInt16.toInt32 = nI n :=
  lg_i2s_small (by rw [nI_toInt (by omega)]; omega) (by rw [nI_toInt (by omega)]; omega)
theorem ef_nb {n : Nat} (h : n < 128) : vp_nar .byte (nI n) = nI n := by rw [vp_nar_byte, ef_t8 h]
theorem ef_ns {n : Nat} (h : n < 32768) : vp_nar .short (nI n) = nI n := by rw [vp_nar_short, ef_t16 h]
theorem ef_nbm : vp_nar .byte (-1) = -1 := by rw [vp_nar_byte]; decide
theorem ef_t8m : (-1 : Int32).toInt8.toInt32 = -1 := by decide
theorem ef_nz0 : vp_nar .boolean 0 = 0 := rfl
theorem ef_nz1 : vp_nar .boolean 1 = 1 := rfl
theorem ef_nbv (x : Int32) : vp_nar .byte (vp_nar .byte x) = vp_nar .byte x := by rw [vp_nar_byte, vp_nar_byte]; simp
theorem ef_neg : ¬ (0 : Int32) ≤ -1 := by decide
theorem ef_neg' : (-1 : Int32) < 0 := by decide
theorem ef_nIm {n : Nat} (h : n < 2 ^ 31) : nI n ≠ -1 := fun e => by
  have h1 := nI_pos' h
  rw [e] at h1
  exact ef_neg h1
theorem ef_inj {a b : Nat} (ha : a < 2 ^ 31) (hb : b < 2 ^ 31) (h : nI a = nI b) : a = b := (nI_eq ha hb).mp h

/-- the array a holds the numbers l from o on -/
def ef_Hs (a : Nat → Int32) : Nat → List Nat → Prop
  | _, [] => True
  | o, v :: l => a o = nI v ∧ ef_Hs a (o + 1) l
theorem ef_Hs_app {a : Nat → Int32} : ∀ {l1 l2 : List Nat} {o : Nat}, ef_Hs a o (l1 ++ l2) ↔ ef_Hs a o l1 ∧ ef_Hs a (o + l1.length) l2
  | [], l2, o => by simp [ef_Hs]
  | v :: l1, l2, o => by
    show (a o = nI v ∧ ef_Hs a (o + 1) (l1 ++ l2)) ↔ (a o = nI v ∧ ef_Hs a (o + 1) l1) ∧ _
    rw [ef_Hs_app (l1 := l1), List.length_cons, and_assoc, show o + 1 + l1.length = o + (l1.length + 1) from by omega]
theorem ef_Hs_ext {a a' : Nat → Int32} : ∀ {l : List Nat} {o : Nat}, (∀ j, o ≤ j → j < o + l.length → a' j = a j) → ef_Hs a o l → ef_Hs a' o l
  | [], _, _, _ => trivial
  | v :: l, o, h, hl => ⟨by rw [h o (by omega) (by rw [List.length_cons]; omega)]; exact hl.1,
      ef_Hs_ext (fun j h1 h2 => h j (by omega) (by rw [List.length_cons]; omega)) hl.2⟩
theorem ef_Hs_mv {a a' : Nat → Int32} {g : Int32 → Int32} : ∀ {l : List Nat} {o o' : Nat}, (∀ j, j < l.length → a' (o' + j) = g (a (o + j))) →
    (∀ v ∈ l, g (nI v) = nI v) → ef_Hs a o l → ef_Hs a' o' l
  | [], _, _, _, _, _ => trivial
  | v :: l, o, o', h, hg, hl => by
    refine ⟨?_, ef_Hs_mv (o := o + 1) (g := g) (fun j hj => ?_) (fun w hw => hg w (List.mem_cons_of_mem _ hw)) hl.2⟩
    · have := h 0 (by simp)
      rw [Nat.add_zero, Nat.add_zero, hl.1, hg v (List.mem_cons_self ..)] at this
      exact this
    · have := h (j + 1) (by rw [List.length_cons]; omega)
      rw [show o' + 1 + j = o' + (j + 1) from by omega, show o + 1 + j = o + (j + 1) from by omega]
      exact this
theorem ef_Hs_get {a : Nat → Int32} : ∀ {l : List Nat} {o i : Nat} {v : Nat}, ef_Hs a o l → l[i]? = some v → a (o + i) = nI v
  | [], _, _, _, _, h => by simp at h
  | w :: l, o, 0, v, hl, h => by
    simp at h
    subst h
    exact hl.1
  | w :: l, o, i + 1, v, hl, h => by
    rw [List.getElem?_cons_succ] at h
    have := ef_Hs_get hl.2 h
    rw [show o + (i + 1) = o + 1 + i from by omega]
    exact this
theorem ef_Hs_mid {a : Nat → Int32} {l1 l2 : List Nat} {v o : Nat} (h : ef_Hs a o (l1 ++ v :: l2)) : a (o + l1.length) = nI v :=
  (ef_Hs_app.mp h).2.1

/-- the block of n cells from s on copied to d -/
def ef_cp (g : Int32 → Int32) (a : Nat → Int32) (d s n : Nat) : Nat → Int32 := fun j => if d ≤ j ∧ j < d + n then g (a (s + (j - d))) else a j
theorem ef_cp_in {g : Int32 → Int32} {a : Nat → Int32} {d s n j : Nat} (h : j < n) : ef_cp g a d s n (d + j) = g (a (s + j)) := by
  unfold ef_cp
  rw [if_pos (by omega), Nat.add_sub_cancel_left]
theorem ef_cp_out {g : Int32 → Int32} {a : Nat → Int32} {d s n j : Nat} (h : ¬ (d ≤ j ∧ j < d + n)) : ef_cp g a d s n j = a j := if_neg h
theorem ef_cp_0 {g : Int32 → Int32} {a : Nat → Int32} {d s : Nat} : ef_cp g a d s 0 = a := by
  funext j
  exact if_neg (by omega)
theorem ef_cp_up {g : Int32 → Int32} {a : Nat → Int32} {d s k : Nat} (h : d ≤ s ∨ s + k < d) :
    upd (ef_cp g a d s k) (d + k) (g (ef_cp g a d s k (s + k))) = ef_cp g a d s (k + 1) := by
  funext j
  rw [ef_cp_out (j := s + k) (by omega)]
  unfold upd ef_cp
  by_cases h1 : j = d + k
  · subst h1
    rw [if_pos rfl, if_pos (by omega), Nat.add_sub_cancel_left]
  · rw [if_neg h1]
    by_cases h2 : d ≤ j ∧ j < d + k
    · rw [if_pos h2, if_pos (by omega)]
    · rw [if_neg h2, if_neg (by omega)]
theorem ef_cp_dn {g : Int32 → Int32} {a : Nat → Int32} {d s k : Nat} (h : s < d) :
    upd (ef_cp g a (d + 1) (s + 1) k) d (g (ef_cp g a (d + 1) (s + 1) k s)) = ef_cp g a d s (k + 1) := by
  funext j
  rw [ef_cp_out (j := s) (by omega)]
  unfold upd ef_cp
  by_cases h1 : j = d
  · subst h1
    rw [if_pos rfl, if_pos (by omega), Nat.sub_self, Nat.add_zero]
  · rw [if_neg h1]
    by_cases h2 : d + 1 ≤ j ∧ j < d + 1 + k
    · rw [if_pos h2, if_pos (by omega), show s + 1 + (j - (d + 1)) = s + (j - d) from by omega]
    · rw [if_neg h2, if_neg (by omega)]
theorem ef_Hs_cp {g : Int32 → Int32} {a : Nat → Int32} {d s n : Nat} {l : List Nat} (hl : ef_Hs a s l) (hn : l.length ≤ n) (hg : ∀ v ∈ l, g (nI v) = nI v) :
    ef_Hs (ef_cp g a d s n) d l := ef_Hs_mv (g := g) (o := s) (fun _ hj => ef_cp_in (by omega)) hg hl
theorem ef_Hs_cpo {g : Int32 → Int32} {a : Nat → Int32} {d s n o : Nat} {l : List Nat} (hl : ef_Hs a o l) (h : o + l.length ≤ d ∨ d + n ≤ o) :
    ef_Hs (ef_cp g a d s n) o l := ef_Hs_ext (fun _ _ _ => ef_cp_out (by omega)) hl
theorem ef_Hs_upo {a : Nat → Int32} {i o : Nat} {v : Int32} {l : List Nat} (hl : ef_Hs a o l) (h : i < o ∨ o + l.length ≤ i) :
    ef_Hs (upd a i v) o l := ef_Hs_ext (fun _ _ _ => pk_un (by omega)) hl
theorem ef_upd_same {a : Nat → Int32} {i : Nat} {v : Int32} (h : a i = v) : upd a i v = a := by
  funext j
  unfold upd
  by_cases e : j = i
  · rw [if_pos e, e, h]
  · rw [if_neg e]
end
section
/-! pages, subtrees, contexts -/
abbrev ef_H : Type := (Nat → Int32) × (Nat → Int32) × (Nat → Int32) × (Nat → Int32)
abbrev ef_T : Type := Nat × List (Nat × Nat) × List Nat
/-- page x holds the items K and the pages C below -/
def ef_Pg (H : ef_H) (x : Nat) (K : List (Nat × Nat)) (C : List Nat) : Prop :=
  x < 110 ∧ K.length ≤ 5 ∧ C.length ≤ 6 ∧ (∀ e ∈ K, e.1 < 32768 ∧ e.2 < 32768) ∧ (∀ c ∈ C, c < 110) ∧ H.1 x = nI K.length ∧
  ef_Hs H.2.1 (5 * x) (K.map (·.1)) ∧ ef_Hs H.2.2.1 (5 * x) (K.map (·.2)) ∧ (C = [] → H.2.2.2 (6 * x) = -1) ∧ ef_Hs H.2.2.2 (6 * x) C
/-- page y is the same in both -/
def ef_Ag (H H' : ef_H) (y : Nat) : Prop :=
  H'.1 y = H.1 y ∧ (∀ j, 5 * y ≤ j → j < 5 * y + 5 → H'.2.1 j = H.2.1 j ∧ H'.2.2.1 j = H.2.2.1 j) ∧ (∀ j, 6 * y ≤ j → j < 6 * y + 6 → H'.2.2.2 j = H.2.2.2 j)
theorem ef_Ag_rfl {H : ef_H} {y : Nat} : ef_Ag H H y := ⟨rfl, fun _ _ _ => ⟨rfl, rfl⟩, fun _ _ _ => rfl⟩
theorem ef_Ag_trans {H H' H'' : ef_H} {y : Nat} (h : ef_Ag H H' y) (h' : ef_Ag H' H'' y) : ef_Ag H H'' y :=
  ⟨h'.1.trans h.1, fun j a b => ⟨(h'.2.1 j a b).1.trans (h.2.1 j a b).1, (h'.2.1 j a b).2.trans (h.2.1 j a b).2⟩, fun j a b => (h'.2.2 j a b).trans (h.2.2 j a b)⟩
theorem ef_Pg_ag {H H' : ef_H} {x : Nat} {K : List (Nat × Nat)} {C : List Nat} (a : ef_Ag H H' x) (h : ef_Pg H x K C) : ef_Pg H' x K C := by
  obtain ⟨h1, h2, h3, h4, h5, h6, h7, h8, h9, h10⟩ := h
  refine ⟨h1, h2, h3, h4, h5, a.1.trans h6, ?_, ?_, fun e => ?_, ?_⟩
  · exact ef_Hs_ext (fun j p q => (a.2.1 j p (by rw [List.length_map] at q; omega)).1) h7
  · exact ef_Hs_ext (fun j p q => (a.2.1 j p (by rw [List.length_map] at q; omega)).2) h8
  · rw [a.2.2 _ (by omega) (by omega)]
    exact h9 e
  · exact ef_Hs_ext (fun j p q => a.2.2 j p (by omega)) h10
/-- the same page under another number -/
theorem ef_Pg_mv {H H' : ef_H} {x r : Nat} {K : List (Nat × Nat)} {C : List Nat} (h : ef_Pg H x K C) (hr : r < 110) (hk : H'.1 r = H.1 x)
    (h1 : ∀ i, i < 5 → H'.2.1 (5 * r + i) = vp_nar .short (H.2.1 (5 * x + i)) ∧ H'.2.2.1 (5 * r + i) = vp_nar .short (H.2.2.1 (5 * x + i)))
    (h2 : ∀ i, i < 6 → H'.2.2.2 (6 * r + i) = vp_nar .byte (H.2.2.2 (6 * x + i))) : ef_Pg H' r K C := by
  obtain ⟨a1, a2, a3, a4, a5, a6, a7, a8, a9, a10⟩ := h
  refine ⟨hr, a2, a3, a4, a5, hk.trans a6, ?_, ?_, fun e => ?_, ?_⟩
  · refine ef_Hs_mv (g := vp_nar .short) (fun j hj => (h1 j (by rw [List.length_map] at hj; omega)).1) (fun v hv => ?_) a7
    obtain ⟨e, he, rfl⟩ := List.mem_map.mp hv
    exact ef_ns (a4 e he).1
  · refine ef_Hs_mv (g := vp_nar .short) (fun j hj => (h1 j (by rw [List.length_map] at hj; omega)).2) (fun v hv => ?_) a8
    obtain ⟨e, he, rfl⟩ := List.mem_map.mp hv
    exact ef_ns (a4 e he).2
  · have := h2 0 (by omega)
    rw [Nat.add_zero, Nat.add_zero, a9 e, ef_nbm] at this
    exact this
  · exact ef_Hs_mv (g := vp_nar .byte) (fun j hj => h2 j (by omega)) (fun v hv => ef_nb (by have := a5 v hv; omega)) a10
theorem ef_Pg_key {H : ef_H} {x : Nat} {K1 K2 : List (Nat × Nat)} {e : Nat × Nat} {C : List Nat} (h : ef_Pg H x (K1 ++ e :: K2) C) :
    H.2.1 (5 * x + K1.length) = nI e.1 ∧ H.2.2.1 (5 * x + K1.length) = nI e.2 ∧ e.1 < 32768 ∧ e.2 < 32768 := by
  obtain ⟨h1, h2, h3, h4, h5, h6, h7, h8, h9, h10⟩ := h
  rw [List.map_append, List.map_cons] at h7 h8
  have a := ef_Hs_mid h7
  have b := ef_Hs_mid h8
  rw [List.length_map] at a b
  exact ⟨a, b, h4 e (by simp)⟩
theorem ef_Pg_ch {H : ef_H} {x s : Nat} {K : List (Nat × Nat)} {C1 C2 : List Nat} (h : ef_Pg H x K (C1 ++ s :: C2)) :
    H.2.2.2 (6 * x + C1.length) = nI s ∧ s < 110 := by
  obtain ⟨h1, h2, h3, h4, h5, h6, h7, h8, h9, h10⟩ := h
  exact ⟨ef_Hs_mid h10, h5 s (by simp)⟩
theorem ef_Pg_leaf {H : ef_H} {x : Nat} {K : List (Nat × Nat)} (h : ef_Pg H x K []) : H.2.2.2 (6 * x) = -1 := h.2.2.2.2.2.2.2.2.1 rfl
theorem ef_Pg_inner {H : ef_H} {x : Nat} {K : List (Nat × Nat)} {C : List Nat} (h : ef_Pg H x K C) (hc : C ≠ []) : ∃ s, s < 110 ∧ H.2.2.2 (6 * x) = nI s := by
  cases C with
  | nil => exact absurd rfl hc
  | cons s C => exact ⟨s, (ef_Pg_ch (C1 := []) h).2, (ef_Pg_ch (C1 := []) h).1⟩

def ef_lR : List (Nat × Nat) → List ef_T → List (Nat × Nat)
  | k :: K, c :: cs => k :: (c.2.1 ++ ef_lR K cs)
  | [], _ => []
  | _ :: _, [] => []
def ef_lL : List ef_T → List (Nat × Nat) → List (Nat × Nat)
  | c :: cs, k :: K => c.2.1 ++ k :: ef_lL cs K
  | [], _ => []
  | _ :: _, [] => []
/-- the items of a page with the subtrees below, in order -/
def ef_mx (K : List (Nat × Nat)) : List ef_T → List (Nat × Nat)
  | [] => K
  | c :: cs => c.2.1 ++ ef_lR K cs
def ef_fl (cs : List ef_T) : List Nat := cs.flatMap (fun c => c.2.2)
theorem ef_fl_app {a b : List ef_T} : ef_fl (a ++ b) = ef_fl a ++ ef_fl b := List.flatMap_append
theorem ef_fl_cons {a : ef_T} {b : List ef_T} : ef_fl (a :: b) = a.2.2 ++ ef_fl b := List.flatMap_cons
theorem ef_fl_nil : ef_fl [] = [] := rfl
theorem ef_fl_mem {cs : List ef_T} {y : Nat} {c : ef_T} (hc : c ∈ cs) (h : y ∈ c.2.2) : y ∈ ef_fl cs := List.mem_flatMap.mpr ⟨c, hc, h⟩
theorem ef_lR_app : ∀ {K1 : List (Nat × Nat)} {cs1 : List ef_T} {K2 : List (Nat × Nat)} {cs2 : List ef_T}, K1.length = cs1.length → ef_lR (K1 ++ K2) (cs1 ++ cs2) = ef_lR K1 cs1 ++ ef_lR K2 cs2
  | [], [], _, _, _ => rfl
  | [], _ :: _, _, _, h => by simp at h
  | _ :: _, [], _, _, h => by simp at h
  | k :: K1, c :: cs1, K2, cs2, h => by
    simp only [List.length_cons] at h
    show k :: (c.2.1 ++ ef_lR (K1 ++ K2) (cs1 ++ cs2)) = k :: (c.2.1 ++ ef_lR K1 cs1) ++ ef_lR K2 cs2
    rw [ef_lR_app (by omega), List.cons_append, List.append_assoc]
theorem ef_lL_app : ∀ {cs1 : List ef_T} {K1 : List (Nat × Nat)} {cs2 : List ef_T} {K2 : List (Nat × Nat)}, cs1.length = K1.length → ef_lL (cs1 ++ cs2) (K1 ++ K2) = ef_lL cs1 K1 ++ ef_lL cs2 K2
  | [], [], _, _, _ => rfl
  | [], _ :: _, _, _, h => by simp at h
  | _ :: _, [], _, _, h => by simp at h
  | c :: cs1, k :: K1, cs2, K2, h => by
    simp only [List.length_cons] at h
    show c.2.1 ++ k :: ef_lL (cs1 ++ cs2) (K1 ++ K2) = (c.2.1 ++ k :: ef_lL cs1 K1) ++ ef_lL cs2 K2
    rw [ef_lL_app (by omega), List.append_assoc, List.cons_append]
theorem ef_lR_mx {k : Nat × Nat} {K : List (Nat × Nat)} : ∀ {cs : List ef_T}, cs ≠ [] → ef_lR (k :: K) cs = k :: ef_mx K cs
  | [], h => absurd rfl h
  | _ :: _, _ => rfl
theorem ef_mx_hole : ∀ {cs1 : List ef_T} {K1 : List (Nat × Nat)} {c : ef_T} {cs2 : List ef_T} {K2 : List (Nat × Nat)}, cs1.length = K1.length →
    ef_mx (K1 ++ K2) (cs1 ++ c :: cs2) = ef_lL cs1 K1 ++ (c.2.1 ++ ef_lR K2 cs2)
  | [], [], _, _, _, _ => rfl
  | [], _ :: _, _, _, _, h => by simp at h
  | _ :: _, [], _, _, _, h => by simp at h
  | d :: cs1, k :: K1, c, cs2, K2, h => by
    simp only [List.length_cons] at h
    show d.2.1 ++ ef_lR (k :: (K1 ++ K2)) (cs1 ++ c :: cs2) = (d.2.1 ++ k :: ef_lL cs1 K1) ++ _
    rw [ef_lR_mx (by simp), ef_mx_hole (by omega), List.append_assoc, List.cons_append]
theorem ef_mx_split {cs1 cs2 : List ef_T} {K1 K2 : List (Nat × Nat)} {m : Nat × Nat} (h1 : cs1.length = K1.length + 1) (h2 : cs2 ≠ []) :
    ef_mx (K1 ++ m :: K2) (cs1 ++ cs2) = ef_mx K1 cs1 ++ m :: ef_mx K2 cs2 := by
  cases cs1 with
  | nil => simp at h1
  | cons c cs1 =>
    simp only [List.length_cons] at h1
    show c.2.1 ++ ef_lR (K1 ++ m :: K2) (cs1 ++ cs2) = (c.2.1 ++ ef_lR K1 cs1) ++ _
    rw [ef_lR_app (by omega), ef_lR_mx h2, List.append_assoc]

/-- t is a page with the items K and the subtrees cs -/
def ef_Nd (H : ef_H) (t : ef_T) (K : List (Nat × Nat)) (cs : List ef_T) : Prop :=
  ef_Pg H t.1 K (cs.map (·.1)) ∧ t.2.1 = ef_mx K cs ∧ t.2.2 = t.1 :: ef_fl cs
/-- a subtree of height h whose pages have a to b items -/
def ef_Tr (H : ef_H) (a b : Nat) : Nat → ef_T → Prop
  | 0, t => ∃ K, a ≤ K.length ∧ K.length ≤ b ∧ ef_Nd H t K []
  | h + 1, t => ∃ K cs, a ≤ K.length ∧ K.length ≤ b ∧ ef_Nd H t K cs ∧ cs.length = K.length + 1 ∧ ∀ c ∈ cs, ef_Tr H a b h c
def ef_Ch (H : ef_H) (a b : Nat) : Nat → Nat → List ef_T → Prop
  | 0, _, cs => cs = []
  | h + 1, n, cs => cs.length = n + 1 ∧ ∀ c ∈ cs, ef_Tr H a b h c
theorem ef_Tr_iff {H : ef_H} {a b : Nat} : ∀ {h : Nat} {t : ef_T}, ef_Tr H a b h t ↔ ∃ K cs, a ≤ K.length ∧ K.length ≤ b ∧ ef_Nd H t K cs ∧ ef_Ch H a b h K.length cs
  | 0, t => ⟨fun ⟨K, h1, h2, h3⟩ => ⟨K, [], h1, h2, h3, rfl⟩, fun ⟨K, cs, h1, h2, h3, h4⟩ => ⟨K, h1, h2, by cases h4; exact h3⟩⟩
  | _ + 1, _ => Iff.rfl
theorem ef_Tr_mem {H : ef_H} {a b h : Nat} {t : ef_T} (i : ef_Tr H a b h t) : t.1 ∈ t.2.2 ∧ t.1 < 110 := by
  obtain ⟨K, cs, h1, h2, h3, h4⟩ := ef_Tr_iff.mp i
  rw [h3.2.2]
  exact ⟨List.mem_cons_self .., h3.1.1⟩
theorem ef_Tr_ag {H H' : ef_H} {a b : Nat} : ∀ {h : Nat} {t : ef_T}, (∀ y ∈ t.2.2, ef_Ag H H' y) → ef_Tr H a b h t → ef_Tr H' a b h t
  | 0, t, ha, ⟨K, h1, h2, h3⟩ => ⟨K, h1, h2, ef_Pg_ag (ha _ (by rw [h3.2.2]; exact List.mem_cons_self ..)) h3.1, h3.2⟩
  | h + 1, t, ha, ⟨K, cs, h1, h2, h3, h4, h5⟩ => ⟨K, cs, h1, h2, ⟨ef_Pg_ag (ha _ (by rw [h3.2.2]; exact List.mem_cons_self ..)) h3.1, h3.2⟩, h4,
      fun c hc => ef_Tr_ag (fun y hy => ha y (by rw [h3.2.2]; exact List.mem_cons_of_mem _ (ef_fl_mem hc hy))) (h5 c hc)⟩
theorem ef_Ch_ag {H H' : ef_H} {a b : Nat} : ∀ {h n : Nat} {cs : List ef_T}, (∀ y ∈ ef_fl cs, ef_Ag H H' y) → ef_Ch H a b h n cs → ef_Ch H' a b h n cs
  | 0, _, _, _, h => h
  | _ + 1, _, _, ha, h => ⟨h.1, fun c hc => ef_Tr_ag (fun _ hy => ha _ (ef_fl_mem hc hy)) (h.2 c hc)⟩
theorem ef_Tr_mono {H : ef_H} {a b a' b' : Nat} (h1 : a' ≤ a) (h2 : b ≤ b') : ∀ {h : Nat} {t : ef_T}, ef_Tr H a b h t → ef_Tr H a' b' h t
  | 0, _, ⟨K, p, q, r⟩ => ⟨K, by omega, by omega, r⟩
  | _ + 1, _, ⟨K, cs, p, q, r, s, u⟩ => ⟨K, cs, by omega, by omega, r, s, fun c hc => ef_Tr_mono h1 h2 (u c hc)⟩
theorem ef_Ch_mono {H : ef_H} {a b a' b' : Nat} (h1 : a' ≤ a) (h2 : b ≤ b') : ∀ {h n : Nat} {cs : List ef_T}, ef_Ch H a b h n cs → ef_Ch H a' b' h n cs
  | 0, _, _, h => h
  | _ + 1, _, _, h => ⟨h.1, fun c hc => ef_Tr_mono h1 h2 (h.2 c hc)⟩
theorem ef_Ch_len {H : ef_H} {a b h n : Nat} {cs : List ef_T} (i : ef_Ch H a b h n cs) : (h = 0 ∧ cs = []) ∨ (∃ h', h = h' + 1 ∧ cs.length = n + 1 ∧ cs ≠ [] ∧ ∀ c ∈ cs, ef_Tr H a b h' c) := by
  cases h with
  | zero => exact Or.inl ⟨rfl, i⟩
  | succ h => exact Or.inr ⟨h, rfl, i.1, fun e => by have := i.1; rw [e] at this; simp at this, i.2⟩

/-! counting -/
theorem ef_lR_len : ∀ {K : List (Nat × Nat)} {cs : List ef_T}, K.length = cs.length → (ef_lR K cs).length = K.length + (cs.map (fun c => c.2.1.length)).sum
  | [], [], _ => rfl
  | [], _ :: _, h => by simp at h
  | _ :: _, [], h => by simp at h
  | k :: K, c :: cs, h => by
    simp only [List.length_cons] at h
    have := ef_lR_len (K := K) (cs := cs) (by omega)
    simp only [ef_lR, List.length_cons, List.length_append, List.map_cons, List.sum_cons, this]
    omega
theorem ef_lL_len : ∀ {cs : List ef_T} {K : List (Nat × Nat)}, cs.length = K.length → (ef_lL cs K).length = K.length + (cs.map (fun c => c.2.1.length)).sum
  | [], [], _ => rfl
  | [], _ :: _, h => by simp at h
  | _ :: _, [], h => by simp at h
  | c :: cs, k :: K, h => by
    simp only [List.length_cons] at h
    have := ef_lL_len (cs := cs) (K := K) (by omega)
    simp only [ef_lL, List.length_cons, List.length_append, List.map_cons, List.sum_cons, this]
    omega
theorem ef_fl_len {cs : List ef_T} : (ef_fl cs).length = (cs.map (fun c => c.2.2.length)).sum := List.length_flatMap
theorem ef_sum_le {cs : List ef_T} (h : ∀ c ∈ cs, 2 * c.2.2.length ≤ c.2.1.length) : 2 * (cs.map (fun c => c.2.2.length)).sum ≤ (cs.map (fun c => c.2.1.length)).sum := by
  induction cs with
  | nil => simp
  | cons c cs ih =>
    have h1 := h c (List.mem_cons_self ..)
    have h2 := ih (fun d hd => h d (List.mem_cons_of_mem _ hd))
    simp only [List.map_cons, List.sum_cons]
    omega
theorem ef_mx_len {K : List (Nat × Nat)} {cs : List ef_T} (h : cs = [] ∨ cs.length = K.length + 1) : (ef_mx K cs).length = K.length + (cs.map (fun c => c.2.1.length)).sum := by
  cases cs with
  | nil => simp [ef_mx]
  | cons c cs =>
    have h' : cs.length = K.length := by
      cases h with
      | inl h => simp at h
      | inr h => simp only [List.length_cons] at h; omega
    simp only [ef_mx, List.length_append, ef_lR_len h'.symm, List.map_cons, List.sum_cons]
    omega
theorem ef_Tr_cnt {H : ef_H} : ∀ {h : Nat} {t : ef_T}, ef_Tr H 2 4 h t → 2 * t.2.2.length ≤ t.2.1.length
  | 0, t, ⟨K, h1, h2, h3⟩ => by
    rw [h3.2.1, h3.2.2]
    simp [ef_mx, ef_fl]
    omega
  | h + 1, t, ⟨K, cs, h1, h2, h3, h4, h5⟩ => by
    have := ef_sum_le (cs := cs) (fun c hc => ef_Tr_cnt (h5 c hc))
    rw [h3.2.1, h3.2.2, ef_mx_len (Or.inr h4), List.length_cons, ef_fl_len]
    omega
theorem ef_Ch_cnt {H : ef_H} {h : Nat} {K : List (Nat × Nat)} {cs : List ef_T} (i : ef_Ch H 2 4 h K.length cs) : 2 * (ef_fl cs).length + K.length ≤ (ef_mx K cs).length := by
  rcases ef_Ch_len i with ⟨_, rfl⟩ | ⟨h', _, h4, _, h5⟩
  · simp [ef_fl, ef_mx]
  · have := ef_sum_le (cs := cs) (fun c hc => ef_Tr_cnt (h5 c hc))
    rw [ef_mx_len (Or.inr h4), ef_fl_len]
    omega
theorem ef_Tr_ht {H : ef_H} : ∀ {h : Nat} {t : ef_T}, ef_Tr H 2 4 h t → 2 ^ (h + 1) ≤ t.2.1.length
  | 0, t, ⟨K, h1, h2, h3⟩ => by
    rw [h3.2.1]
    simpa [ef_mx] using h1
  | h + 1, t, ⟨K, cs, h1, h2, h3, h4, h5⟩ => by
    rw [h3.2.1, ef_mx_len (Or.inr h4)]
    match cs, h4, h5 with
    | [], h4, _ => simp at h4
    | [c], h4, _ => simp only [List.length_cons, List.length_nil] at h4; omega
    | c :: d :: cs, _, h5 =>
      have e1 := ef_Tr_ht (h5 c (by simp))
      have e2 := ef_Tr_ht (h5 d (by simp))
      simp only [List.map_cons, List.sum_cons]
      rw [Nat.pow_succ]
      omega
end
section
/-! contexts: the way from the root (nearest page first) with all that hangs beside it -/
def ef_Cx (H : ef_H) (R rt : Nat) : List (Nat × Nat) → Nat → Nat → List (Nat × Nat) → List (Nat × Nat) → List Nat → Prop
  | [], hs, s, A, B, Q => s = rt ∧ hs = R ∧ A = [] ∧ B = [] ∧ Q = []
  | (x, i) :: w, hs, s, A, B, Q => ∃ K1 K2 cs1 cs2 A' B' Q', ef_Pg H x (K1 ++ K2) (cs1.map (·.1) ++ s :: cs2.map (·.1)) ∧ cs1.length = i ∧ K1.length = i ∧ cs2.length = K2.length ∧
      K1.length + K2.length ≤ 4 ∧ 1 ≤ K1.length + K2.length ∧ (hs + 1 ≠ R → 2 ≤ K1.length + K2.length) ∧ (∀ c ∈ cs1, ef_Tr H 2 4 hs c) ∧ (∀ c ∈ cs2, ef_Tr H 2 4 hs c) ∧
      ef_Cx H R rt w (hs + 1) x A' B' Q' ∧ A = A' ++ ef_lL cs1 K1 ∧ B = ef_lR K2 cs2 ++ B' ∧ Q = x :: (ef_fl cs1 ++ ef_fl cs2 ++ Q')
theorem ef_Cx_len {H : ef_H} {R rt : Nat} : ∀ {w : List (Nat × Nat)} {hs s : Nat} {A B : List (Nat × Nat)} {Q : List Nat}, ef_Cx H R rt w hs s A B Q → hs + w.length = R
  | [], _, _, _, _, _, h => by rw [h.2.1]; rfl
  | (x, i) :: w, hs, s, A, B, Q, ⟨K1, K2, cs1, cs2, A', B', Q', _, _, _, _, _, _, _, _, _, h, _⟩ => by
    have := ef_Cx_len h
    rw [List.length_cons]
    omega
theorem ef_Cx_ag {H H' : ef_H} {R rt : Nat} : ∀ {w : List (Nat × Nat)} {hs s : Nat} {A B : List (Nat × Nat)} {Q : List Nat}, (∀ y ∈ Q, ef_Ag H H' y) → ef_Cx H R rt w hs s A B Q → ef_Cx H' R rt w hs s A B Q
  | [], _, _, _, _, _, _, h => h
  | (x, i) :: w, hs, s, A, B, Q, ha, ⟨K1, K2, cs1, cs2, A', B', Q', h1, h2, h3, h4, h5, h6, h7, h8, h9, h, e1, e2, e3⟩ => by
    subst e3
    refine ⟨K1, K2, cs1, cs2, A', B', Q', ef_Pg_ag (ha x (by simp)) h1, h2, h3, h4, h5, h6, h7, fun c hc => ?_, fun c hc => ?_, ef_Cx_ag (fun y hy => ha y (by simp [hy])) h, e1, e2, rfl⟩
    · exact ef_Tr_ag (fun y hy => ha y (by simp [ef_fl_mem hc hy])) (h8 c hc)
    · exact ef_Tr_ag (fun y hy => ha y (by simp [ef_fl_mem hc hy])) (h9 c hc)
theorem ef_Cx_cnt {H : ef_H} {R rt : Nat} : ∀ {w : List (Nat × Nat)} {hs s : Nat} {A B : List (Nat × Nat)} {Q : List Nat}, ef_Cx H R rt w hs s A B Q → 2 * Q.length ≤ A.length + B.length + 1
  | [], _, _, _, _, _, h => by rw [h.2.2.2.2]; simp
  | (x, i) :: w, hs, s, A, B, Q, ⟨K1, K2, cs1, cs2, A', B', Q', h1, h2, h3, h4, h5, h6, h7, h8, h9, h, e1, e2, e3⟩ => by
    have c1 := ef_sum_le (cs := cs1) (fun c hc => ef_Tr_cnt (h8 c hc))
    have c2 := ef_sum_le (cs := cs2) (fun c hc => ef_Tr_cnt (h9 c hc))
    have l1 := ef_lL_len (cs := cs1) (K := K1) (by omega)
    have l2 := ef_lR_len (cs := cs2) (K := K2) (by omega)
    have ih := ef_Cx_cnt h
    have hl := ef_Cx_len h
    subst e1 e2 e3
    simp only [List.length_append, List.length_cons, ef_fl_len]
    by_cases hR : hs + 1 = R
    · have : w = [] := List.eq_nil_of_length_eq_zero (by omega)
      subst this
      obtain ⟨_, _, rfl, rfl, rfl⟩ := h
      simp only [List.length_nil]
      omega
    · have := h7 hR
      omega
theorem ef_Pg_hole {H H' : ef_H} {x s r : Nat} {K : List (Nat × Nat)} {C1 C2 : List Nat} (h : ef_Pg H x K (C1 ++ s :: C2)) (hr : r < 110) (hk : H'.1 x = H.1 x)
    (h1 : ∀ j, 5 * x ≤ j → j < 5 * x + 5 → H'.2.1 j = H.2.1 j ∧ H'.2.2.1 j = H.2.2.1 j) (h2 : ∀ j, 6 * x ≤ j → j < 6 * x + 6 → j ≠ 6 * x + C1.length → H'.2.2.2 j = H.2.2.2 j)
    (h3 : H'.2.2.2 (6 * x + C1.length) = nI r) : ef_Pg H' x K (C1 ++ r :: C2) := by
  obtain ⟨a1, a2, a3, a4, a5, a6, a7, a8, a9, a10⟩ := h
  rw [List.length_append, List.length_cons] at a3
  refine ⟨a1, a2, by rw [List.length_append, List.length_cons]; exact a3, a4, fun c hc => ?_, hk.trans a6, ?_, ?_, fun e => by simp at e, ?_⟩
  · rw [List.mem_append, List.mem_cons] at hc
    rcases hc with hc | rfl | hc
    · exact a5 c (by simp [hc])
    · exact hr
    · exact a5 c (by simp [hc])
  · exact ef_Hs_ext (fun j p q => (h1 j p (by rw [List.length_map] at q; omega)).1) a7
  · exact ef_Hs_ext (fun j p q => (h1 j p (by rw [List.length_map] at q; omega)).2) a8
  · obtain ⟨b1, b2, b3⟩ := ef_Hs_app.mp a10
    exact ef_Hs_app.mpr ⟨ef_Hs_ext (fun j p q => h2 j (by omega) (by omega) (by omega)) b1, h3, ef_Hs_ext (fun j p q => h2 j (by omega) (by omega) (by omega)) b3⟩
/-- another page in the hole -/
theorem ef_Cx_hole {H H' : ef_H} {R rt x i r : Nat} {w : List (Nat × Nat)} {hs s : Nat} {A B : List (Nat × Nat)} {Q : List Nat} (h : ef_Cx H R rt ((x, i) :: w) hs s A B Q) (hn : Q.Nodup) (hr : r < 110)
    (ha : ∀ y ∈ Q, y ≠ x → ef_Ag H H' y) (hk : H'.1 x = H.1 x) (h1 : ∀ j, 5 * x ≤ j → j < 5 * x + 5 → H'.2.1 j = H.2.1 j ∧ H'.2.2.1 j = H.2.2.1 j)
    (h2 : ∀ j, 6 * x ≤ j → j < 6 * x + 6 → j ≠ 6 * x + i → H'.2.2.2 j = H.2.2.2 j) (h3 : H'.2.2.2 (6 * x + i) = nI r) : ef_Cx H' R rt ((x, i) :: w) hs r A B Q := by
  obtain ⟨K1, K2, cs1, cs2, A', B', Q', p1, p2, p3, p4, p5, p6, p7, p8, p9, p, e1, e2, e3⟩ := h
  subst e3
  rw [List.nodup_cons] at hn
  have hne : ∀ y, y ∈ ef_fl cs1 ++ ef_fl cs2 ++ Q' → ef_Ag H H' y := fun y hy => ha y (List.mem_cons_of_mem _ hy) (fun e => hn.1 (e ▸ hy))
  refine ⟨K1, K2, cs1, cs2, A', B', Q', ?_, p2, p3, p4, p5, p6, p7, fun c hc => ?_, fun c hc => ?_, ef_Cx_ag (fun y hy => hne y (by simp [hy])) p, e1, e2, rfl⟩
  · have hl : (cs1.map (·.1)).length = i := by rw [List.length_map]; exact p2
    exact ef_Pg_hole p1 hr hk h1 (by rw [hl]; exact h2) (by rw [hl]; exact h3)
  · exact ef_Tr_ag (fun y hy => hne y (by simp [ef_fl_mem hc hy])) (p8 c hc)
  · exact ef_Tr_ag (fun y hy => hne y (by simp [ef_fl_mem hc hy])) (p9 c hc)
/-- the frame and what is in its hole: a subtree -/
theorem ef_frame {H : ef_H} {x : Nat} {K1 K2 : List (Nat × Nat)} {cs1 cs2 : List ef_T} {t : ef_T} (h : ef_Pg H x (K1 ++ K2) (cs1.map (·.1) ++ t.1 :: cs2.map (·.1))) (h1 : cs1.length = K1.length) :
    ef_Nd H (x, ef_lL cs1 K1 ++ (t.2.1 ++ ef_lR K2 cs2), x :: (ef_fl cs1 ++ (t.2.2 ++ ef_fl cs2))) (K1 ++ K2) (cs1 ++ t :: cs2) := by
  refine ⟨?_, ?_, ?_⟩
  · rw [List.map_append, List.map_cons]
    exact h
  · rw [ef_mx_hole h1]
  · show x :: _ = x :: _
    rw [ef_fl_app, ef_fl_cons]
theorem ef_perm1 {x : Nat} {a b p q : List Nat} : (x :: (a ++ (p ++ b)) ++ q).Perm (p ++ (x :: (a ++ b ++ q))) := by
  rw [List.perm_iff_count]
  intro y
  simp only [List.count_append, List.count_cons]
  omega
theorem ef_plug5 {H : ef_H} {R rt : Nat} : ∀ {w : List (Nat × Nat)} {hs s : Nat} {A B L : List (Nat × Nat)} {P Q : List Nat}, ef_Cx H R rt w hs s A B Q → ef_Tr H 0 5 hs (s, L, P) →
    ∃ P', P'.Perm (P ++ Q) ∧ ef_Tr H 0 5 R (rt, A ++ (L ++ B), P')
  | [], hs, s, A, B, L, P, Q, h, t => by
    obtain ⟨rfl, rfl, rfl, rfl, rfl⟩ := h
    exact ⟨P, by simp, by simpa using t⟩
  | (x, i) :: w, hs, s, A, B, L, P, Q, ⟨K1, K2, cs1, cs2, A', B', Q', h1, h2, h3, h4, h5, h6, h7, h8, h9, h, e1, e2, e3⟩, t => by
    have n := ef_frame (t := (s, L, P)) h1 (by omega)
    have t' : ef_Tr H 0 5 (hs + 1) (x, ef_lL cs1 K1 ++ (L ++ ef_lR K2 cs2), x :: (ef_fl cs1 ++ (P ++ ef_fl cs2))) := by
      refine ⟨K1 ++ K2, cs1 ++ (s, L, P) :: cs2, by omega, by rw [List.length_append]; omega, n, by simp only [List.length_append, List.length_cons]; omega, fun c hc => ?_⟩
      rw [List.mem_append, List.mem_cons] at hc
      rcases hc with hc | rfl | hc
      · exact ef_Tr_mono (by omega) (by omega) (h8 c hc)
      · exact t
      · exact ef_Tr_mono (by omega) (by omega) (h9 c hc)
    obtain ⟨P', q1, q2⟩ := ef_plug5 h t'
    subst e1 e2 e3
    refine ⟨P', q1.trans ef_perm1, ?_⟩
    have e : A' ++ ef_lL cs1 K1 ++ (L ++ (ef_lR K2 cs2 ++ B')) = A' ++ (ef_lL cs1 K1 ++ (L ++ ef_lR K2 cs2) ++ B') := by simp only [List.append_assoc]
    rw [e]
    exact q2
/-- a whole tree: the root has one to four items, the others two to four -/
def ef_Rn (H : ef_H) (R : Nat) (t : ef_T) : Prop := ∃ K cs, 1 ≤ K.length ∧ K.length ≤ 4 ∧ ef_Nd H t K cs ∧ ef_Ch H 2 4 R K.length cs
theorem ef_plug {H : ef_H} {R rt : Nat} : ∀ {w : List (Nat × Nat)} {hs s : Nat} {A B L : List (Nat × Nat)} {P Q : List Nat}, ef_Cx H R rt w hs s A B Q → (hs ≠ R → ef_Tr H 2 4 hs (s, L, P)) →
    (hs = R → ef_Rn H R (s, L, P)) → ∃ P', P'.Perm (P ++ Q) ∧ ef_Rn H R (rt, A ++ (L ++ B), P')
  | [], hs, s, A, B, L, P, Q, h, _, t => by
    obtain ⟨rfl, rfl, rfl, rfl, rfl⟩ := h
    exact ⟨P, by simp, by simpa using t rfl⟩
  | (x, i) :: w, hs, s, A, B, L, P, Q, ⟨K1, K2, cs1, cs2, A', B', Q', h1, h2, h3, h4, h5, h6, h7, h8, h9, h, e1, e2, e3⟩, t, _ => by
    have n := ef_frame (t := (s, L, P)) h1 (by omega)
    have hl := ef_Cx_len h
    have t := t (by omega)
    have hc : ∀ c ∈ cs1 ++ (s, L, P) :: cs2, ef_Tr H 2 4 hs c := fun c hc => by
      rw [List.mem_append, List.mem_cons] at hc
      rcases hc with hc | rfl | hc
      · exact h8 c hc
      · exact t
      · exact h9 c hc
    have hlen : (cs1 ++ (s, L, P) :: cs2).length = (K1 ++ K2).length + 1 := by simp only [List.length_append, List.length_cons]; omega
    have t' : hs + 1 ≠ R → ef_Tr H 2 4 (hs + 1) (x, ef_lL cs1 K1 ++ (L ++ ef_lR K2 cs2), x :: (ef_fl cs1 ++ (P ++ ef_fl cs2))) := fun hR =>
      ⟨K1 ++ K2, cs1 ++ (s, L, P) :: cs2, by rw [List.length_append]; have := h7 hR; omega, by rw [List.length_append]; omega, n, hlen, hc⟩
    have t'' : hs + 1 = R → ef_Rn H R (x, ef_lL cs1 K1 ++ (L ++ ef_lR K2 cs2), x :: (ef_fl cs1 ++ (P ++ ef_fl cs2))) := fun hR => by
      subst hR
      exact ⟨K1 ++ K2, cs1 ++ (s, L, P) :: cs2, by rw [List.length_append]; omega, by rw [List.length_append]; omega, n, hlen, hc⟩
    obtain ⟨P', q1, q2⟩ := ef_plug h t' t''
    subst e1 e2 e3
    refine ⟨P', q1.trans ef_perm1, ?_⟩
    have e : A' ++ ef_lL cs1 K1 ++ (L ++ (ef_lR K2 cs2 ++ B')) = A' ++ (ef_lL cs1 K1 ++ (L ++ ef_lR K2 cs2) ++ B') := by simp only [List.append_assoc]
    rw [e]
    exact q2
theorem ef_Rn_ag {H H' : ef_H} {R : Nat} {t : ef_T} (ha : ∀ y ∈ t.2.2, ef_Ag H H' y) (h : ef_Rn H R t) : ef_Rn H' R t := by
  obtain ⟨K, cs, h1, h2, h3, h4⟩ := h
  refine ⟨K, cs, h1, h2, ⟨ef_Pg_ag (ha _ (by rw [h3.2.2]; exact List.mem_cons_self ..)) h3.1, h3.2⟩, ef_Ch_ag (fun y hy => ha y (by rw [h3.2.2]; exact List.mem_cons_of_mem _ hy)) h4⟩
theorem ef_Rn_cnt {H : ef_H} {R : Nat} {t : ef_T} (h : ef_Rn H R t) : 2 * t.2.2.length ≤ t.2.1.length + 1 := by
  obtain ⟨K, cs, h1, h2, h3, h4⟩ := h
  have := ef_Ch_cnt h4
  rw [h3.2.1, h3.2.2, List.length_cons]
  omega
theorem ef_Rn_5 {H : ef_H} {R : Nat} {t : ef_T} (h : ef_Rn H R t) : ef_Tr H 0 5 R t := by
  obtain ⟨K, cs, h1, h2, h3, h4⟩ := h
  exact ef_Tr_iff.mpr ⟨K, cs, by omega, by omega, h3, ef_Ch_mono (by omega) (by omega) h4⟩
theorem ef_Rn_ht {H : ef_H} {R : Nat} {t : ef_T} (h : ef_Rn H R t) : 2 ^ R ≤ t.2.1.length := by
  obtain ⟨K, cs, h1, h2, h3, h4⟩ := h
  rw [h3.2.1]
  rcases ef_Ch_len h4 with ⟨rfl, rfl⟩ | ⟨h', rfl, h4, _, h5⟩
  · simpa [ef_mx] using h1
  · rw [ef_mx_len (Or.inr h4)]
    match cs, h4, h5 with
    | [], h4, _ => simp at h4
    | c :: cs, _, h5 =>
      have e1 := ef_Tr_ht (h5 c (by simp))
      simp only [List.map_cons, List.sum_cons]
      omega
theorem ef_pow_bd {R n : Nat} (h : 2 ^ R ≤ n) (hn : n < 128) : R ≤ 6 := by
  by_cases h7 : 7 ≤ R
  · have := Nat.pow_le_pow_right (n := 2) (by decide) h7
    omega
  · omega
end
section
/-! the small methods, the walk through a tree, new pages -/
section
variable {rt we wt : Int32} {kc ks vs bl fr nd sr sn sv dk hd wp wi wq : Nat → Int32}
theorem ef_pushWay {post : SX → Prop} {x i l : Nat} (hl : l < 8) (hx : x < 128) (hi : i < 128)
    (K : post (rt, nI (l + 1), wt, kc, ks, vs, bl, fr, nd, sr, sn, sv, dk, hd, upd wp l (nI x), upd wi l (nI i), wq)) : wpX_pushWay post (rt, nI l, wt, kc, ks, vs, bl, fr, nd, sr, sn, sv, dk, hd, wp, wi, wq) (nI x) (nI i) := by
  unfold wpX_pushWay
  simp (disch := omega) only [nI_clamp, ef_t8, ef_nb, nI_1]
  exact ⟨vp_in_nI hl (by decide), nm_e ⟨vp_in_nI hl (by decide), nm_e (nm_e K)⟩⟩
theorem ef_leaf_t {post : Int32 → Prop} {x : Nat} (hx : x < 110) (h : bl (6 * x) = -1) (K : post 1) : wpX_isLeaf post (rt, we, wt, kc, ks, vs, bl, fr, nd, sr, sn, sv, dk, hd, wp, wi, wq) (nI x) := by
  unfold wpX_isLeaf
  simp (disch := omega) only [ef_m6, nI_clamp, h]
  exact ⟨vp_in_nI (by omega) (by decide), br_f ef_neg K⟩
theorem ef_leaf_f {post : Int32 → Prop} {x c : Nat} (hx : x < 110) (h : bl (6 * x) = nI c) (hc : c < 110) (K : post 0) : wpX_isLeaf post (rt, we, wt, kc, ks, vs, bl, fr, nd, sr, sn, sv, dk, hd, wp, wi, wq) (nI x) := by
  unfold wpX_isLeaf
  simp (disch := omega) only [ef_m6, nI_clamp, h]
  exact ⟨vp_in_nI (by omega) (by decide), br_t (nI_pos' (by omega)) K⟩
def ef_vpl (sn sv : Nat → Int32) : Nat := if sv 0 = 0 then 1 else if sv 1 = 0 then 0 else if sn 0 ≤ sn 1 then 1 else 0
theorem ef_vpl_lt (sn sv : Nat → Int32) : ef_vpl sn sv < 2 := by
  unfold ef_vpl
  split
  · omega
  · split
    · omega
    · split <;> omega
theorem ef_validPlace {post : Int32 → Prop} (K : post (nI (ef_vpl sn sv))) : wpX_validPlace post (rt, we, wt, kc, ks, vs, bl, fr, nd, sr, sn, sv, dk, hd, wp, wi, wq) := by
  unfold wpX_validPlace
  unfold ef_vpl at K
  refine br_c (fun h => ?_) (fun h => br_c (fun h2 => ?_) (fun h2 => br_c (fun h3 => ?_) (fun h3 => ?_)))
  · rw [if_pos h] at K
    exact K
  · rw [if_neg h, if_pos h2] at K
    exact K
  · rw [if_neg h, if_neg h2, if_pos h3] at K
    exact K
  · rw [if_neg h, if_neg h2, if_neg h3] at K
    exact K
theorem ef_start_n {post : SX → Prop} (K : post (rt, we, 0, kc, ks, vs, bl, fr, nd, sr, sn, sv, dk, hd, wp, wi, wq)) : wpX_startWalk post (rt, we, wt, kc, ks, vs, bl, fr, nd, sr, sn, sv, dk, hd, wp, wi, wq) (-1) := by
  unfold wpX_startWalk
  exact br_f ef_neg K
theorem ef_start_p {post : SX → Prop} {x : Nat} (hx : x < 110) (K : post (rt, we, 1, kc, ks, vs, bl, fr, nd, sr, sn, sv, dk, hd, wp, wi, upd wq 0 (nI x))) : wpX_startWalk post (rt, we, wt, kc, ks, vs, bl, fr, nd, sr, sn, sv, dk, hd, wp, wi, wq) (nI x) := by
  unfold wpX_startWalk
  simp (disch := omega) only [ef_t8, ef_nb]
  exact br_t (nI_pos' (by omega)) (nm_e K)
theorem ef_walk_lp {post : Int32 → SX → Prop} {x n m : Nat} (hx : x < 110) (hm : m ≤ 5) (hn : n + m + 1 ≤ 110) (hk : kc x = nI m) : ∀ (C2 C1 : List Nat) (wq : Nat → Int32) (f : Nat), C2.length < f →
    C1.length + C2.length = m + 1 → (∀ c ∈ C2, c < 110) → ef_Hs wq n C1 → ef_Hs bl (6 * x + C1.length) C2 →
    (∀ wq', (∀ j, j < n → wq' j = wq j) → ef_Hs wq' n (C1 ++ C2) → post (nI x) (rt, we, nI (n + m + 1), kc, ks, vs, bl, fr, nd, sr, sn, sv, dk, hd, wp, wi, wq')) →
    wX_walk_32 post (nI x) rt we f (nI C1.length) (nI (n + C1.length)) kc ks vs bl fr nd sr sn sv dk hd wp wi wq := by
  intro C2
  induction C2 with
  | nil =>
    intro C1 wq f hf hl _ h1 _ K
    obtain ⟨f, rfl⟩ : ∃ g, f = g + 1 := ⟨f - 1, by omega⟩
    rw [wX_walk_32]
    simp only [List.length_nil, Nat.add_zero] at hl
    simp (disch := omega) only [nI_clamp, hk, hl]
    refine ⟨vp_in_nI hx (by decide), br_t (nI_lt (by omega) (by omega)) ?_⟩
    have := K wq (fun _ _ => rfl) (by simpa using h1)
    exact this
  | cons c C2 ih =>
    intro C1 wq f hf hl hc h1 h2 K
    obtain ⟨f, rfl⟩ : ∃ g, f = g + 1 := ⟨f - 1, by omega⟩
    simp only [List.length_cons] at hl hf
    have hc0 := hc c (List.mem_cons_self ..)
    have hb : bl (6 * x + C1.length) = nI c := h2.1
    rw [wX_walk_32]
    simp (disch := omega) only [nI_clamp, hk, ef_m6, nI_add, nI_1, hb, ef_nb]
    refine ⟨vp_in_nI hx (by decide), br_f (nI_nlt (by omega) (by omega)) ⟨vp_in_nI (by omega) (by decide), vp_in_nI (by omega) (by decide), nm_e (nm_e (nm_e ?_))⟩⟩
    have e := ih (C1 ++ [c]) (upd wq (n + C1.length) (nI c)) f (by omega) (by simp only [List.length_append, List.length_cons, List.length_nil]; omega) (fun d hd => hc d (List.mem_cons_of_mem _ hd))
      (ef_Hs_app.mpr ⟨ef_Hs_upo h1 (by omega), pk_us, trivial⟩) (by rw [List.length_append]; exact h2.2)
      (fun wq' q1 q2 => K wq' (fun j hj => (q1 j hj).trans (pk_un (by omega))) (by rw [List.append_assoc] at q2; exact q2))
    rw [List.length_append] at e
    exact e
theorem ef_fl_ge {cs : List ef_T} (h : ∀ c ∈ cs, c.1 ∈ c.2.2) : cs.length ≤ (ef_fl cs).length := by
  induction cs with
  | nil => simp
  | cons c cs ih =>
    rw [ef_fl_cons, List.length_append, List.length_cons]
    have a1 := ih (fun d hd => h d (List.mem_cons_of_mem _ hd))
    have a2 := List.length_pos_of_mem (h c (List.mem_cons_self ..))
    omega
/-- one step of the walk: the last of the waiting subtrees is taken off, those below it come on -/
theorem ef_walk {post : Int32 → SX → Prop} {h : Nat} {t : ef_T} {TS : List ef_T} (hT : ef_Tr (kc, ks, vs, bl) 0 5 h t) (hq : ef_Hs wq 0 ((TS ++ [t]).map (·.1))) (hb : TS.length + t.2.2.length ≤ 110)
    (K : ∀ KK cs wq', ef_Nd (kc, ks, vs, bl) t KK cs → (cs = [] ∨ cs.length = KK.length + 1) → (∀ c ∈ cs, ∃ h', ef_Tr (kc, ks, vs, bl) 0 5 h' c) → ef_Hs wq' 0 ((TS ++ cs).map (·.1)) → post (nI t.1) (rt, we, nI (TS ++ cs).length, kc, ks, vs, bl, fr, nd, sr, sn, sv, dk, hd, wp, wi, wq')) :
    wpX_walk post (rt, we, nI (TS ++ [t]).length, kc, ks, vs, bl, fr, nd, sr, sn, sv, dk, hd, wp, wi, wq) := by
  obtain ⟨KK, cs, h1, h2, h3, h4⟩ := ef_Tr_iff.mp hT
  have hx := h3.1.1
  have hP : t.2.2.length = (ef_fl cs).length + 1 := by rw [h3.2.2]; rfl
  have hcl : cs.length ≤ (ef_fl cs).length := by
    rcases ef_Ch_len h4 with ⟨_, rfl⟩ | ⟨h', _, _, _, h5⟩
    · simp
    · exact ef_fl_ge (fun c hc => (ef_Tr_mem (h5 c hc)).1)
  rw [List.map_append] at hq
  obtain ⟨q1, q2⟩ := ef_Hs_app.mp hq
  rw [List.length_map, Nat.zero_add] at q2
  have q2 : wq TS.length = nI t.1 := q2.1
  unfold wpX_walk
  simp (disch := omega) only [List.length_append, List.length_cons, List.length_nil, Nat.zero_add, nI_pred]
  refine nm_e ⟨vp_in_nI (by omega) (by decide), ?_⟩
  simp (disch := omega) only [nI_clamp, q2]
  refine nm_e ?_
  rcases ef_Ch_len h4 with ⟨_, rfl⟩ | ⟨h', _, h5, h6, h7⟩
  · refine ef_leaf_t hx (ef_Pg_leaf h3.1) (br_f (by decide) ?_)
    have := K KK [] wq h3 (Or.inl rfl) (fun c hc => by simp at hc) (by simpa using q1)
    rw [List.append_nil] at this
    exact this
  · obtain ⟨c0, hc0, e0⟩ := ef_Pg_inner h3.1 (by simpa using h6)
    refine ef_leaf_f hx e0 hc0 (br_t rfl ⟨cs.length + 1, ?_⟩)
    have hk : kc t.1 = nI KK.length := h3.1.2.2.2.2.2.1
    have e := ef_walk_lp (rt := rt) (we := we) (ks := ks) (vs := vs) (bl := bl) (fr := fr) (nd := nd) (sr := sr) (sn := sn) (sv := sv) (dk := dk) (hd := hd) (wp := wp) (wi := wi) (post := post) (n := TS.length)
      hx h2 (by omega) hk (cs.map (·.1)) [] wq (cs.length + 1) (by rw [List.length_map]; omega) (by rw [List.length_map]; simp; omega) (h3.1.2.2.2.2.1) trivial
      (h3.1.2.2.2.2.2.2.2.2.2) (fun wq' p1 p2 => ?_)
    · exact e
    · have := K KK cs wq' h3 (Or.inr h5) (fun c hc => ⟨h', h7 c hc⟩) (by
        rw [List.map_append]
        refine ef_Hs_app.mpr ⟨ef_Hs_ext (fun j _ hj => p1 j (by rw [List.length_map] at hj; omega)) q1, ?_⟩
        rw [List.length_map, Nat.zero_add]
        exact p2)
      rw [List.length_append, h5] at this
      exact this
theorem ef_mark_lp {post : SX → Prop} : ∀ (N : Nat) (TS : List ef_T) (nd wq : Nat → Int32) (f : Nat), (ef_fl TS).length = N → N < f → N ≤ 110 → ef_Hs wq 0 (TS.map (·.1)) →
    (∀ t ∈ TS, ∃ h, ef_Tr (kc, ks, vs, bl) 0 5 h t) → (∀ nd' wq', (∀ y, nd' y = if y ∈ ef_fl TS then 1 else nd y) → post (rt, we, 0, kc, ks, vs, bl, fr, nd', sr, sn, sv, dk, hd, wp, wi, wq')) →
    wX_markTree_5 post f rt we (nI TS.length) kc ks vs bl fr nd sr sn sv dk hd wp wi wq := by
  intro N
  induction N with
  | zero =>
    intro TS nd wq f hN hf _ hq hT K
    obtain ⟨f, rfl⟩ : ∃ g, f = g + 1 := ⟨f - 1, by omega⟩
    cases TS with
    | nil =>
      rw [wX_markTree_5]
      exact br_t (by decide) (K nd wq (fun y => by simp [ef_fl]))
    | cons t TS =>
      obtain ⟨h, ht⟩ := hT t (List.mem_cons_self ..)
      have := List.length_pos_of_mem (ef_Tr_mem ht).1
      rw [ef_fl_cons, List.length_append] at hN
      omega
  | succ N ih =>
    intro TS nd wq f hN hf hb hq hT K
    obtain ⟨f, rfl⟩ : ∃ g, f = g + 1 := ⟨f - 1, by omega⟩
    rcases List.eq_nil_or_concat TS with rfl | ⟨TS, t, rfl⟩
    · simp [ef_fl] at hN
    · simp only [List.concat_eq_append] at *
      obtain ⟨h, ht⟩ := hT t (by simp)
      have hcl : TS.length ≤ (ef_fl TS).length := ef_fl_ge (fun c hc => by
        obtain ⟨h, hc⟩ := hT c (by simp [hc])
        exact (ef_Tr_mem hc).1)
      have hfl : ef_fl (TS ++ [t]) = ef_fl TS ++ t.2.2 := by rw [ef_fl_app, ef_fl_cons, ef_fl_nil, List.append_nil]
      rw [hfl, List.length_append] at hN
      have htl : (TS ++ [t]).length ≤ 111 := by rw [List.length_append, List.length_singleton]; omega
      rw [wX_markTree_5]
      refine br_f (nI_nle (by rw [List.length_append, List.length_singleton]; omega) (by omega)) ?_
      refine ef_walk ht hq (by omega) (fun KK cs wq' n1 _ n2 n3 => ?_)
      have hx := n1.1.1
      simp (disch := omega) only [nI_clamp, ef_nz1]
      refine ⟨vp_in_nI hx (by decide), nm_e ?_⟩
      have hP : t.2.2 = t.1 :: ef_fl cs := n1.2.2
      refine ih (TS ++ cs) (upd nd t.1 1) wq' f (by rw [ef_fl_app, List.length_append]; rw [hP, List.length_cons] at hN; omega) (by omega) (by omega) n3 (fun c hc => ?_) (fun nd' wq'' q => K nd' wq'' (fun y => ?_))
      · rcases List.mem_append.mp hc with hc | hc
        · exact hT c (by simp [hc])
        · exact n2 c hc
      · rw [q y, hfl, hP, ef_fl_app]
        by_cases e1 : y ∈ ef_fl TS ++ ef_fl cs
        · rw [if_pos e1, if_pos (by rw [List.mem_append] at *; rcases e1 with e | e <;> simp [e])]
        · rw [if_neg e1]
          by_cases e2 : y = t.1
          · rw [if_pos (by simp [e2]), e2, pk_us]
          · rw [pk_un e2, if_neg (fun hm => by
              simp only [List.mem_append, List.mem_cons] at hm e1
              rcases hm with hm | hm | hm
              · exact e1 (Or.inl hm)
              · exact e2 hm
              · exact e1 (Or.inr hm))]
/-- what a walk may start from: nothing, or a tree -/
def ef_Wk (H : ef_H) (r : Int32) (P : List Nat) : Prop := (r = -1 ∧ P = []) ∨ ∃ x L h, r = nI x ∧ ef_Tr H 0 5 h (x, L, P) ∧ P.length ≤ 110
theorem ef_markTree {post : SX → Prop} {r : Int32} {P : List Nat} (hw : ef_Wk (kc, ks, vs, bl) r P)
    (K : ∀ nd' wt' wq', (∀ y, nd' y = if y ∈ P then 1 else nd y) → post (rt, we, wt', kc, ks, vs, bl, fr, nd', sr, sn, sv, dk, hd, wp, wi, wq')) : wpX_markTree post (rt, we, wt, kc, ks, vs, bl, fr, nd, sr, sn, sv, dk, hd, wp, wi, wq) r := by
  unfold wpX_markTree
  rcases hw with ⟨rfl, rfl⟩ | ⟨x, L, h, rfl, ht, hP⟩
  · refine ef_start_n ⟨1, ?_⟩
    rw [wX_markTree_5]
    exact br_t (by decide) (K nd _ wq (fun y => by simp))
  · refine ef_start_p (ef_Tr_mem ht).2 ⟨P.length + 1, ?_⟩
    have hfl : ef_fl [(x, L, P)] = P := by simp [ef_fl]
    refine ef_mark_lp P.length [(x, L, P)] nd _ _ (by rw [hfl]) (by omega) hP ⟨pk_us, trivial⟩ (fun t ht' => ?_) (fun nd' wq' q => K nd' _ wq' (fun y => by rw [q y, hfl]))
    rw [List.mem_singleton] at ht'
    subst ht'
    exact ⟨h, ht⟩
theorem ef_np2 {post : Int32 → SX → Prop} (hf : ∀ y, y < 110 → fr y = 0 ∨ fr y = 1) : ∀ (k i : Nat) (nd : Nat → Int32) (f : Nat), i + k = 110 → k < f → (∀ y, y < i → nd y = fr y) →
    (∀ nd' n, (∀ y, y < 110 → nd' y = fr y) → wX_newPage_2 post rt we wt (n + 1) (nI 110) kc ks vs bl fr nd' sr sn sv dk hd wp wi wq) → wX_newPage_2 post rt we wt f (nI i) kc ks vs bl fr nd sr sn sv dk hd wp wi wq := by
  intro k
  induction k with
  | zero =>
    intro i nd f hi hk hy K
    obtain ⟨f, rfl⟩ : ∃ g, f = g + 1 := ⟨f - 1, by omega⟩
    obtain rfl : i = 110 := by omega
    exact K nd f hy
  | succ k ih =>
    intro i nd f hi hk hy K
    obtain ⟨f, rfl⟩ : ∃ g, f = g + 1 := ⟨f - 1, by omega⟩
    rw [wX_newPage_2]
    refine br_f (nI_ge (b := 110) (by omega) (by decide)) ?_
    simp (disch := omega) only [nI_clamp, nI_1]
    have e : vp_nar .boolean (fr i) = fr i := by
      rcases hf i (by omega) with h | h <;> rw [h] <;> rfl
    rw [e]
    refine ⟨vp_in_nI (by omega) (by decide), vp_in_nI (by omega) (by decide), nm_e (nm_e (ih (i + 1) _ f (by omega) (by omega) (fun y hy' => ?_) K))⟩
    by_cases e : y = i
    · rw [e, pk_us]
    · rw [pk_un e, hy y (by omega)]
theorem ef_np51 {post : Int32 → SX → Prop} (he : ∃ r, r < 110 ∧ nd r = 0) (K : ∀ r, r < 110 → nd r = 0 → wX_newPage_72 post (nI r) rt we wt kc ks vs bl fr nd sr sn sv dk hd wp wi wq) :
    ∀ (k i : Nat) (f : Nat), i + k = 109 → k < f → (∀ y, y < i → nd y ≠ 0) → wX_newPage_51 post rt we wt kc ks vs bl fr nd sr sn sv dk hd wp wi wq f (nI i) := by
  intro k
  induction k with
  | zero =>
    intro i f hi hk hy
    obtain ⟨f, rfl⟩ : ∃ g, f = g + 1 := ⟨f - 1, by omega⟩
    obtain rfl : i = 109 := by omega
    rw [wX_newPage_51]
    refine br_t (by decide) (K 109 (by omega) ?_)
    obtain ⟨r, hr, e⟩ := he
    by_cases h : r = 109
    · rw [← h]; exact e
    · exact absurd e (hy r (by omega))
  | succ k ih =>
    intro i f hi hk hy
    obtain ⟨f, rfl⟩ : ∃ g, f = g + 1 := ⟨f - 1, by omega⟩
    rw [wX_newPage_51]
    refine br_f (nI_ge (b := 109) (by omega) (by decide)) ?_
    simp (disch := omega) only [nI_clamp, nI_1]
    refine ⟨vp_in_nI (by omega) (by decide), br_c (fun h => K i (by omega) h) (fun h => nm_e (ih (i + 1) f (by omega) (by omega) (fun y hy' => ?_)))⟩
    by_cases e : y = i
    · rw [e]; exact h
    · exact hy y (by omega)
theorem ef_pigeon {N : List Nat} {n : Nat} (h : N.length < n) : ∃ r, r < n ∧ r ∉ N := by
  by_cases hc : ∃ r, r < n ∧ r ∉ N
  · exact hc
  · have hs : List.range n ⊆ N := fun r hr => by
      by_cases e : r ∈ N
      · exact e
      · exact absurd ⟨r, List.mem_range.mp hr, e⟩ hc
    have := List.Nodup.length_le_of_subset List.nodup_range hs
    rw [List.length_range] at this
    omega
theorem ef_newPage {post : Int32 → SX → Prop} {P PS N : List Nat} (h1 : ef_Wk (kc, ks, vs, bl) rt P) (h2 : ef_Wk (kc, ks, vs, bl) (sr (ef_vpl sn sv)) PS)
    (hf : ∀ y, y < 110 → fr y = 0 ∨ fr y = 1) (hN : N.length < 110) (hs : ∀ y, y < 110 → (fr y ≠ 0 ∨ y ∈ P ∨ y ∈ PS) → y ∈ N)
    (K : ∀ r nd' wt' wq', r < 110 → fr r = 0 → r ∉ P → r ∉ PS → post (nI r) (rt, we, wt', upd kc r 0, ks, vs, upd bl (6 * r) (-1), upd fr r 1, nd', sr, sn, sv, dk, hd, wp, wi, wq')) : wpX_newPage post (rt, we, wt, kc, ks, vs, bl, fr, nd, sr, sn, sv, dk, hd, wp, wi, wq) := by
  unfold wpX_newPage
  refine ⟨111, ef_np2 hf 110 0 nd 111 (by omega) (by omega) (fun y hy => absurd hy (by omega)) (fun nd1 n q => ?_)⟩
  rw [wX_newPage_2]
  refine br_t (by decide) ?_
  refine ef_validPlace ?_
  refine ef_markTree h1 (fun nd2 wt2 wq2 q2 => ?_)
  refine ⟨vp_in_nI (ef_vpl_lt sn sv) (by decide), ?_⟩
  have hv := ef_vpl_lt sn sv
  simp (disch := omega) only [nI_clamp]
  refine ef_markTree h2 (fun nd3 wt3 wq3 q3 => ?_)
  have hn : ∀ y, y < 110 → nd3 y = 0 → fr y = 0 ∧ y ∉ P ∧ y ∉ PS := fun y hy e => by
    rw [q3 y] at e
    by_cases e1 : y ∈ PS
    · rw [if_pos e1] at e; exact absurd e (by decide)
    · rw [if_neg e1, q2 y] at e
      by_cases e2 : y ∈ P
      · rw [if_pos e2] at e; exact absurd e (by decide)
      · rw [if_neg e2, q y hy] at e
        exact ⟨e, e2, e1⟩
  obtain ⟨r0, hr0, er0⟩ := ef_pigeon hN
  have he : ∃ r, r < 110 ∧ nd3 r = 0 := by
    refine ⟨r0, hr0, ?_⟩
    have e1 : r0 ∉ PS := fun e => er0 (hs r0 hr0 (Or.inr (Or.inr e)))
    have e2 : r0 ∉ P := fun e => er0 (hs r0 hr0 (Or.inr (Or.inl e)))
    rw [q3, if_neg e1, q2, if_neg e2, q r0 hr0]
    rcases hf r0 hr0 with h | h
    · exact h
    · exact absurd (hs r0 hr0 (Or.inl (by rw [h]; decide))) er0
  refine ⟨110, ef_np51 he (fun r hr e => ?_) 109 0 110 (by omega) (by omega) (fun y hy => absurd hy (by omega))⟩
  obtain ⟨f1, f2, f3⟩ := hn r hr e
  unfold wX_newPage_72
  simp (disch := omega) only [nI_clamp, ef_m6, ef_nz1, ef_nbm, show vp_nar .byte 0 = 0 from ef_nb (n := 0) (by omega)]
  exact ⟨vp_in_nI hr (by decide), nm_e ⟨vp_in_nI hr (by decide), nm_e ⟨vp_in_nI (by omega) (by decide), nm_e (K r nd3 wt3 wq3 hr f1 f2 f3)⟩⟩⟩
end
end
section
/-! copying a page, opening and closing places -/
section
variable {rt we wt : Int32} {kc ks vs bl fr nd sr sn sv dk hd wp wi wq : Nat → Int32}
theorem ef_fc83 {post : Int32 → SX → Prop} {x r : Nat} (hx : x < 110) (hr : r < 110) (hne : x ≠ r) : ∀ (k i f : Nat), i + k = 6 → k < f →
    post (nI r) (rt, we, wt, kc, ks, vs, ef_cp (vp_nar .byte) bl (6 * r) (6 * x) 6, fr, nd, sr, sn, sv, dk, hd, wp, wi, wq) →
    wX_freshCopy_83 post (nI x) (nI r) rt we wt f (nI i) kc ks vs (ef_cp (vp_nar .byte) bl (6 * r) (6 * x) i) fr nd sr sn sv dk hd wp wi wq := by
  intro k
  induction k with
  | zero =>
    intro i f hi hf K
    obtain ⟨f, rfl⟩ : ∃ g, f = g + 1 := ⟨f - 1, by omega⟩
    obtain rfl : i = 6 := by omega
    rw [wX_freshCopy_83]
    exact br_t (by decide) K
  | succ k ih =>
    intro i f hi hf K
    obtain ⟨f, rfl⟩ : ∃ g, f = g + 1 := ⟨f - 1, by omega⟩
    rw [wX_freshCopy_83]
    refine br_f (nI_ge (b := 6) (by omega) (by decide)) ?_
    simp (disch := omega) only [ef_m6, nI_add, nI_clamp, nI_1]
    rw [ef_cp_up (g := vp_nar .byte) (a := bl) (d := 6 * r) (s := 6 * x) (k := i) (by omega)]
    exact ⟨vp_in_nI (by omega) (by decide), vp_in_nI (by omega) (by decide), nm_e (nm_e (ih (i + 1) f (by omega) (by omega) K))⟩
theorem ef_fc30 {post : Int32 → SX → Prop} {x r : Nat} (hx : x < 110) (hr : r < 110) (hne : x ≠ r) : ∀ (k i f : Nat), i + k = 5 → k < f →
    post (nI r) (rt, we, wt, kc, ef_cp (vp_nar .short) ks (5 * r) (5 * x) 5, ef_cp (vp_nar .short) vs (5 * r) (5 * x) 5, ef_cp (vp_nar .byte) bl (6 * r) (6 * x) 6, fr, nd, sr, sn, sv, dk, hd, wp, wi, wq) →
    wX_freshCopy_30 post (nI x) (nI r) rt we wt f (nI i) kc (ef_cp (vp_nar .short) ks (5 * r) (5 * x) i) (ef_cp (vp_nar .short) vs (5 * r) (5 * x) i) bl fr nd sr sn sv dk hd wp wi wq := by
  intro k
  induction k with
  | zero =>
    intro i f hi hf K
    obtain ⟨f, rfl⟩ : ∃ g, f = g + 1 := ⟨f - 1, by omega⟩
    obtain rfl : i = 5 := by omega
    rw [wX_freshCopy_30]
    refine br_t (by decide) ⟨7, ?_⟩
    have e := ef_fc83 (rt := rt) (we := we) (wt := wt) (kc := kc) (ks := ef_cp (vp_nar .short) ks (5 * r) (5 * x) 5) (vs := ef_cp (vp_nar .short) vs (5 * r) (5 * x) 5) (bl := bl) (fr := fr) (nd := nd) (sr := sr) (sn := sn) (sv := sv) (dk := dk) (hd := hd) (wp := wp) (wi := wi) (wq := wq) (post := post) hx hr hne 6 0 7 (by omega) (by omega) K
    rw [ef_cp_0] at e
    exact e
  | succ k ih =>
    intro i f hi hf K
    obtain ⟨f, rfl⟩ : ∃ g, f = g + 1 := ⟨f - 1, by omega⟩
    rw [wX_freshCopy_30]
    refine br_f (nI_ge (b := 5) (by omega) (by decide)) ?_
    simp (disch := omega) only [ef_m5, nI_add, nI_clamp, nI_1]
    rw [ef_cp_up (g := vp_nar .short) (a := ks) (d := 5 * r) (s := 5 * x) (k := i) (by omega), ef_cp_up (g := vp_nar .short) (a := vs) (d := 5 * r) (s := 5 * x) (k := i) (by omega)]
    exact ⟨vp_in_nI (by omega) (by decide), vp_in_nI (by omega) (by decide), nm_e ⟨vp_in_nI (by omega) (by decide), vp_in_nI (by omega) (by decide), nm_e (nm_e (ih (i + 1) f (by omega) (by omega) K))⟩⟩
theorem ef_fresh_f {post : Int32 → SX → Prop} {x : Nat} (hx : x < 110) (h : fr x = 1) (K : post (nI x) (rt, we, wt, kc, ks, vs, bl, fr, nd, sr, sn, sv, dk, hd, wp, wi, wq)) : wpX_freshCopy post (rt, we, wt, kc, ks, vs, bl, fr, nd, sr, sn, sv, dk, hd, wp, wi, wq) (nI x) := by
  unfold wpX_freshCopy
  simp (disch := omega) only [nI_clamp, h]
  exact ⟨vp_in_nI hx (by decide), br_f (by decide) K⟩
theorem ef_fresh_n {post : Int32 → SX → Prop} {x n : Nat} {P PS N : List Nat} (hx : x < 110) (hfx : fr x = 0) (hk : kc x = nI n) (hn5 : n ≤ 5) (hxP : x ∈ P ∨ x ∈ PS)
    (h1 : ef_Wk (kc, ks, vs, bl) rt P) (h2 : ef_Wk (kc, ks, vs, bl) (sr (ef_vpl sn sv)) PS)
    (hf : ∀ y, y < 110 → fr y = 0 ∨ fr y = 1) (hN : N.length < 110) (hs : ∀ y, y < 110 → (fr y ≠ 0 ∨ y ∈ P ∨ y ∈ PS) → y ∈ N)
    (K : ∀ r nd' wt' wq' kc' ks' vs' bl', r < 110 → fr r = 0 → r ∉ P → r ∉ PS → (∀ y, y ≠ r → ef_Ag (kc, ks, vs, bl) (kc', ks', vs', bl') y) →
      (∀ KK C, ef_Pg (kc, ks, vs, bl) x KK C → ef_Pg (kc', ks', vs', bl') r KK C) → kc' r = nI n →
      post (nI r) (rt, we, wt', kc', ks', vs', bl', upd fr r 1, nd', sr, sn, sv, dk, hd, wp, wi, wq')) : wpX_freshCopy post (rt, we, wt, kc, ks, vs, bl, fr, nd, sr, sn, sv, dk, hd, wp, wi, wq) (nI x) := by
  unfold wpX_freshCopy
  simp (disch := omega) only [nI_clamp]
  refine ⟨vp_in_nI hx (by decide), br_t hfx (ef_newPage h1 h2 hf hN hs (fun r nd' wt' wq' hr fr0 rP rS => ?_))⟩
  have hne : x ≠ r := fun e => by
    rcases hxP with h | h
    · exact rP (e ▸ h)
    · exact rS (e ▸ h)
  have hkx : upd kc r 0 x = nI n := by rw [pk_un hne]; exact hk
  simp (disch := omega) only [nI_clamp, hkx, ef_nb]
  refine ⟨vp_in_nI hx (by decide), vp_in_nI hr (by decide), nm_e ⟨6, ?_⟩⟩
  have key := K r nd' wt' wq' (upd (upd kc r 0) r (nI n)) (ef_cp (vp_nar .short) ks (5 * r) (5 * x) 5) (ef_cp (vp_nar .short) vs (5 * r) (5 * x) 5) (ef_cp (vp_nar .byte) (upd bl (6 * r) (-1)) (6 * r) (6 * x) 6)
    hr fr0 rP rS (fun y hy => ⟨(pk_un hy).trans (pk_un hy), fun j a b => ⟨ef_cp_out (by omega), ef_cp_out (by omega)⟩, fun j a b => (ef_cp_out (by omega)).trans (pk_un (by omega))⟩)
    (fun KK C h => ef_Pg_mv h hr (by rw [show (upd (upd kc r 0) r (nI n), ef_cp (vp_nar .short) ks (5 * r) (5 * x) 5, ef_cp (vp_nar .short) vs (5 * r) (5 * x) 5, ef_cp (vp_nar .byte) (upd bl (6 * r) (-1)) (6 * r) (6 * x) 6).1 r = nI n from pk_us]; exact hk.symm)
      (fun i hi => ⟨ef_cp_in hi, ef_cp_in hi⟩) (fun i hi => (ef_cp_in hi).trans (by rw [pk_un (by omega)]))) pk_us
  have e := ef_fc30 (rt := rt) (we := we) (wt := wt') (kc := upd (upd kc r 0) r (nI n)) (ks := ks) (vs := vs) (bl := upd bl (6 * r) (-1)) (fr := upd fr r 1) (nd := nd') (sr := sr) (sn := sn) (sv := sv) (dk := dk) (hd := hd) (wp := wp) (wi := wi) (wq := wq') (post := post) hx hr hne 5 0 6 (by omega) (by omega) key
  rw [ef_cp_0, ef_cp_0] at e
  exact e
theorem ef_op7 {post : SX → Prop} {x i n : Nat} (hx : x < 110) (hn : n ≤ 4) (hk : kc x = nI n) : ∀ (k c f : Nat), i + k + c = n → k < f →
    post (rt, we, wt, upd kc x (nI (n + 1)), ef_cp (vp_nar .short) ks (5 * x + i + 1) (5 * x + i) (n - i), ef_cp (vp_nar .short) vs (5 * x + i + 1) (5 * x + i) (n - i), bl, fr, nd, sr, sn, sv, dk, hd, wp, wi, wq) →
    wX_openPlace_7 post (nI x) (nI i) rt we wt f (nI (i + k)) kc (ef_cp (vp_nar .short) ks (5 * x + i + k + 1) (5 * x + i + k) c) (ef_cp (vp_nar .short) vs (5 * x + i + k + 1) (5 * x + i + k) c) bl fr nd sr sn sv dk hd wp wi wq := by
  intro k
  induction k with
  | zero =>
    intro c f hc hf K
    obtain ⟨f, rfl⟩ : ∃ g, f = g + 1 := ⟨f - 1, by omega⟩
    obtain rfl : c = n - i := by omega
    rw [wX_openPlace_7]
    refine br_t (nI_le (by omega) (by omega)) ?_
    simp (disch := omega) only [nI_clamp, hk, nI_1, ef_t8, ef_nb]
    exact ⟨vp_in_nI hx (by decide), vp_in_nI hx (by decide), nm_e K⟩
  | succ k ih =>
    intro c f hc hf K
    obtain ⟨f, rfl⟩ : ∃ g, f = g + 1 := ⟨f - 1, by omega⟩
    rw [wX_openPlace_7]
    refine br_f (nI_ge (by omega) (by omega)) ?_
    simp (disch := omega) only [ef_m5, nI_add, ef_s1, nI_clamp, ef_p1]
    have e1 := ef_cp_dn (g := vp_nar .short) (a := ks) (d := 5 * x + i + k + 1) (s := 5 * x + i + k) (k := c) (by omega)
    have e2 := ef_cp_dn (g := vp_nar .short) (a := vs) (d := 5 * x + i + k + 1) (s := 5 * x + i + k) (k := c) (by omega)
    have t1 : 5 * x + (i + (k + 1)) = 5 * x + i + k + 1 := by omega
    have t2 : 5 * x + i + k + 1 - 1 = 5 * x + i + k := by omega
    have t3 : 5 * x + i + (k + 1) = 5 * x + i + k + 1 := by omega
    have t4 : i + (k + 1) - 1 = i + k := by omega
    simp only [t1, t2, t3, t4, e1, e2]
    exact ⟨vp_in_nI (by omega) (by decide), vp_in_nI (by omega) (by decide), nm_e ⟨vp_in_nI (by omega) (by decide), vp_in_nI (by omega) (by decide), nm_e (nm_e (ih (c + 1) f (by omega) (by omega) K))⟩⟩
theorem ef_openPlace {post : SX → Prop} {x i n : Nat} (hx : x < 110) (hn : n ≤ 4) (hi : i ≤ n) (hk : kc x = nI n)
    (K : post (rt, we, wt, upd kc x (nI (n + 1)), ef_cp (vp_nar .short) ks (5 * x + i + 1) (5 * x + i) (n - i), ef_cp (vp_nar .short) vs (5 * x + i + 1) (5 * x + i) (n - i), bl, fr, nd, sr, sn, sv, dk, hd, wp, wi, wq)) :
    wpX_openPlace post (rt, we, wt, kc, ks, vs, bl, fr, nd, sr, sn, sv, dk, hd, wp, wi, wq) (nI x) (nI i) := by
  unfold wpX_openPlace
  simp (disch := omega) only [nI_clamp, hk]
  refine ⟨vp_in_nI hx (by decide), nm_e ⟨6, ?_⟩⟩
  have e := ef_op7 (rt := rt) (we := we) (wt := wt) (kc := kc) (ks := ks) (vs := vs) (bl := bl) (fr := fr) (nd := nd) (sr := sr) (sn := sn) (sv := sv) (dk := dk) (hd := hd) (wp := wp) (wi := wi) (wq := wq) (post := post) (i := i) hx hn hk (n - i) 0 6 (by omega) (by omega) K
  rw [ef_cp_0, ef_cp_0, show i + (n - i) = n from by omega] at e
  exact e
theorem ef_putAt {post : SX → Prop} {x i k v : Nat} (hx : x < 110) (hi : i < 5) (hk : k < 32768) (hv : v < 32768)
    (K : post (rt, we, wt, kc, upd ks (5 * x + i) (nI k), upd vs (5 * x + i) (nI v), bl, fr, nd, sr, sn, sv, dk, hd, wp, wi, wq)) : wpX_putAt post (rt, we, wt, kc, ks, vs, bl, fr, nd, sr, sn, sv, dk, hd, wp, wi, wq) (nI x) (nI i) (nI k) (nI v) := by
  unfold wpX_putAt
  simp (disch := omega) only [ef_m5, nI_add, nI_clamp, ef_t16, ef_ns]
  exact ⟨vp_in_nI (by omega) (by decide), nm_e ⟨vp_in_nI (by omega) (by decide), nm_e K⟩⟩
theorem ef_cl13 {post : SX → Prop} {x i n : Nat} (hx : x < 110) (hn : n ≤ 4) (hk : kc x = nI n) : ∀ (k c f : Nat), i + c + k = n → k < f →
    post (rt, we, wt, kc, ef_cp (vp_nar .short) ks (5 * x + i) (5 * x + i + 1) (n - i), ef_cp (vp_nar .short) vs (5 * x + i) (5 * x + i + 1) (n - i), bl, fr, nd, sr, sn, sv, dk, hd, wp, wi, wq) →
    wX_closePlace_13 post (nI x) rt we wt f (nI (i + c)) kc (ef_cp (vp_nar .short) ks (5 * x + i) (5 * x + i + 1) c) (ef_cp (vp_nar .short) vs (5 * x + i) (5 * x + i + 1) c) bl fr nd sr sn sv dk hd wp wi wq := by
  intro k
  induction k with
  | zero =>
    intro c f hc hf K
    obtain ⟨f, rfl⟩ : ∃ g, f = g + 1 := ⟨f - 1, by omega⟩
    obtain rfl : c = n - i := by omega
    rw [wX_closePlace_13]
    simp (disch := omega) only [nI_clamp, hk]
    exact ⟨vp_in_nI hx (by decide), br_t (nI_le (by omega) (by omega)) K⟩
  | succ k ih =>
    intro c f hc hf K
    obtain ⟨f, rfl⟩ : ∃ g, f = g + 1 := ⟨f - 1, by omega⟩
    rw [wX_closePlace_13]
    simp (disch := omega) only [nI_clamp, hk]
    refine ⟨vp_in_nI hx (by decide), br_f (nI_ge (by omega) (by omega)) ?_⟩
    simp (disch := omega) only [ef_m5, nI_add, nI_clamp, nI_1]
    have e1 := ef_cp_up (g := vp_nar .short) (a := ks) (d := 5 * x + i) (s := 5 * x + i + 1) (k := c) (by omega)
    have e2 := ef_cp_up (g := vp_nar .short) (a := vs) (d := 5 * x + i) (s := 5 * x + i + 1) (k := c) (by omega)
    have t1 : 5 * x + (i + c) = 5 * x + i + c := by omega
    have t2 : 5 * x + i + c + 1 = 5 * x + i + 1 + c := by omega
    simp only [t1, t2, e1, e2]
    exact ⟨vp_in_nI (by omega) (by decide), vp_in_nI (by omega) (by decide), nm_e ⟨vp_in_nI (by omega) (by decide), vp_in_nI (by omega) (by decide), nm_e (nm_e (ih (c + 1) f (by omega) (by omega) K))⟩⟩
theorem ef_closePlace {post : SX → Prop} {x i n : Nat} (hx : x < 110) (hn : n ≤ 4) (hi : i ≤ n) (hk : kc x = nI (n + 1))
    (K : post (rt, we, wt, upd kc x (nI n), ef_cp (vp_nar .short) ks (5 * x + i) (5 * x + i + 1) (n - i), ef_cp (vp_nar .short) vs (5 * x + i) (5 * x + i + 1) (n - i), bl, fr, nd, sr, sn, sv, dk, hd, wp, wi, wq)) :
    wpX_closePlace post (rt, we, wt, kc, ks, vs, bl, fr, nd, sr, sn, sv, dk, hd, wp, wi, wq) (nI x) (nI i) := by
  unfold wpX_closePlace
  simp (disch := omega) only [nI_clamp, hk, nI_pred, ef_t8, ef_nb]
  refine ⟨vp_in_nI hx (by decide), vp_in_nI hx (by decide), nm_e ⟨6, ?_⟩⟩
  have e := ef_cl13 (rt := rt) (we := we) (wt := wt) (kc := upd kc x (nI n)) (ks := ks) (vs := vs) (bl := bl) (fr := fr) (nd := nd) (sr := sr) (sn := sn) (sv := sv) (dk := dk) (hd := hd) (wp := wp) (wi := wi) (wq := wq) (post := post) (i := i) hx hn pk_us (n - i) 0 6 (by omega) (by omega) K
  rw [ef_cp_0, ef_cp_0] at e
  exact e
end
/-! the same at pages -/
theorem ef_map_lt {K : List (Nat × Nat)} (h : ∀ e ∈ K, e.1 < 32768 ∧ e.2 < 32768) : (∀ v ∈ K.map (·.1), vp_nar .short (nI v) = nI v) ∧ (∀ v ∈ K.map (·.2), vp_nar .short (nI v) = nI v) := by
  refine ⟨fun v hv => ?_, fun v hv => ?_⟩
  · obtain ⟨e, he, rfl⟩ := List.mem_map.mp hv
    exact ef_ns (h e he).1
  · obtain ⟨e, he, rfl⟩ := List.mem_map.mp hv
    exact ef_ns (h e he).2
theorem ef_Pg_ins {kc ks vs bl : Nat → Int32} {x k v : Nat} {K1 K2 : List (Nat × Nat)} {C : List Nat} (h : ef_Pg (kc, ks, vs, bl) x (K1 ++ K2) C) (hl : K1.length + K2.length ≤ 4) (hk : k < 32768) (hv : v < 32768) :
    ef_Pg (upd kc x (nI (K1.length + K2.length + 1)), upd (ef_cp (vp_nar .short) ks (5 * x + K1.length + 1) (5 * x + K1.length) K2.length) (5 * x + K1.length) (nI k),
      upd (ef_cp (vp_nar .short) vs (5 * x + K1.length + 1) (5 * x + K1.length) K2.length) (5 * x + K1.length) (nI v), bl) x (K1 ++ (k, v) :: K2) C := by
  obtain ⟨a1, a2, a3, a4, a5, a6, a7, a8, a9, a10⟩ := h
  have hb : ∀ e ∈ K2, e.1 < 32768 ∧ e.2 < 32768 := fun e he => a4 e (List.mem_append_right _ he)
  dsimp only at a7 a8
  rw [List.map_append] at a7 a8
  obtain ⟨b1, b2⟩ := ef_Hs_app.mp a7
  obtain ⟨c1, c2⟩ := ef_Hs_app.mp a8
  rw [List.length_map] at b2 c2
  refine ⟨a1, by simp only [List.length_append, List.length_cons]; omega, a3, fun e he => ?_, a5, ?_, ?_, ?_, a9, a10⟩
  · rw [List.mem_append, List.mem_cons] at he
    rcases he with he | rfl | he
    · exact a4 e (List.mem_append_left _ he)
    · exact ⟨hk, hv⟩
    · exact hb e he
  · show upd kc x _ x = _
    rw [pk_us, List.length_append, List.length_cons]
    exact congrArg nI (by omega)
  · dsimp only
    rw [List.map_append, List.map_cons]
    refine ef_Hs_app.mpr ⟨ef_Hs_upo (ef_Hs_cpo b1 (by rw [List.length_map]; omega)) (by rw [List.length_map]; omega), ?_, ?_⟩
    · rw [List.length_map]; exact pk_us
    · rw [List.length_map]
      exact ef_Hs_upo (ef_Hs_cp b2 (by rw [List.length_map]; omega) (ef_map_lt hb).1) (by omega)
  · dsimp only
    rw [List.map_append, List.map_cons]
    refine ef_Hs_app.mpr ⟨ef_Hs_upo (ef_Hs_cpo c1 (by rw [List.length_map]; omega)) (by rw [List.length_map]; omega), ?_, ?_⟩
    · rw [List.length_map]; exact pk_us
    · rw [List.length_map]
      exact ef_Hs_upo (ef_Hs_cp c2 (by rw [List.length_map]; omega) (ef_map_lt hb).2) (by omega)
theorem ef_Pg_del {kc ks vs bl : Nat → Int32} {x : Nat} {e0 : Nat × Nat} {K1 K2 : List (Nat × Nat)} {C : List Nat} (h : ef_Pg (kc, ks, vs, bl) x (K1 ++ e0 :: K2) C) :
    ef_Pg (upd kc x (nI (K1.length + K2.length)), ef_cp (vp_nar .short) ks (5 * x + K1.length) (5 * x + K1.length + 1) K2.length,
      ef_cp (vp_nar .short) vs (5 * x + K1.length) (5 * x + K1.length + 1) K2.length, bl) x (K1 ++ K2) C := by
  obtain ⟨a1, a2, a3, a4, a5, a6, a7, a8, a9, a10⟩ := h
  have hb : ∀ e ∈ K2, e.1 < 32768 ∧ e.2 < 32768 := fun e he => a4 e (List.mem_append_right _ (List.mem_cons_of_mem _ he))
  dsimp only at a7 a8
  rw [List.map_append, List.map_cons] at a7 a8
  obtain ⟨b1, b2, b3⟩ := ef_Hs_app.mp a7
  obtain ⟨c1, c2, c3⟩ := ef_Hs_app.mp a8
  rw [List.length_map] at b3 c3
  simp only [List.length_append, List.length_cons] at a2
  refine ⟨a1, by simp only [List.length_append]; omega, a3, fun e he => ?_, a5, ?_, ?_, ?_, a9, a10⟩
  · rw [List.mem_append] at he
    rcases he with he | he
    · exact a4 e (List.mem_append_left _ he)
    · exact hb e he
  · show upd kc x _ x = _
    rw [pk_us, List.length_append]
  · dsimp only
    rw [List.map_append]
    refine ef_Hs_app.mpr ⟨ef_Hs_cpo b1 (by rw [List.length_map]; omega), ?_⟩
    rw [List.length_map]
    exact ef_Hs_cp b3 (by rw [List.length_map]; omega) (ef_map_lt hb).1
  · dsimp only
    rw [List.map_append]
    refine ef_Hs_app.mpr ⟨ef_Hs_cpo c1 (by rw [List.length_map]; omega), ?_⟩
    rw [List.length_map]
    exact ef_Hs_cp c3 (by rw [List.length_map]; omega) (ef_map_lt hb).2
theorem ef_Pg_set {kc ks vs bl : Nat → Int32} {x k v : Nat} {e0 : Nat × Nat} {K1 K2 : List (Nat × Nat)} {C : List Nat} (h : ef_Pg (kc, ks, vs, bl) x (K1 ++ e0 :: K2) C) (hk : k < 32768) (hv : v < 32768) :
    ef_Pg (kc, upd ks (5 * x + K1.length) (nI k), upd vs (5 * x + K1.length) (nI v), bl) x (K1 ++ (k, v) :: K2) C := by
  obtain ⟨a1, a2, a3, a4, a5, a6, a7, a8, a9, a10⟩ := h
  dsimp only at a7 a8
  rw [List.map_append, List.map_cons] at a7 a8
  obtain ⟨b1, b2, b3⟩ := ef_Hs_app.mp a7
  obtain ⟨c1, c2, c3⟩ := ef_Hs_app.mp a8
  rw [List.length_map] at b3 c3
  simp only [List.length_append, List.length_cons] at a2
  refine ⟨a1, by simp only [List.length_append, List.length_cons]; omega, a3, fun e he => ?_, a5, ?_, ?_, ?_, a9, a10⟩
  · rw [List.mem_append, List.mem_cons] at he
    rcases he with he | rfl | he
    · exact a4 e (List.mem_append_left _ he)
    · exact ⟨hk, hv⟩
    · exact a4 e (List.mem_append_right _ (List.mem_cons_of_mem _ he))
  · have a6 : kc x = nI (K1 ++ e0 :: K2).length := a6
    show kc x = _
    rw [a6, List.length_append, List.length_append]
    rfl
  · dsimp only
    rw [List.map_append, List.map_cons]
    refine ef_Hs_app.mpr ⟨ef_Hs_upo b1 (by rw [List.length_map]; omega), ?_, ?_⟩
    · rw [List.length_map]; exact pk_us
    · rw [List.length_map]
      exact ef_Hs_upo b3 (by omega)
  · dsimp only
    rw [List.map_append, List.map_cons]
    refine ef_Hs_app.mpr ⟨ef_Hs_upo c1 (by rw [List.length_map]; omega), ?_, ?_⟩
    · rw [List.length_map]; exact pk_us
    · rw [List.length_map]
      exact ef_Hs_upo c3 (by omega)
end
section
/-! going down -/
def ef_Wy (wp wi : Nat → Int32) : List (Nat × Nat) → Prop
  | [] => True
  | (x, i) :: w => wp w.length = nI x ∧ wi w.length = nI i ∧ ef_Wy wp wi w
theorem ef_Wy_ext {wp wi wp' wi' : Nat → Int32} : ∀ {w : List (Nat × Nat)}, (∀ j, j < w.length → wp' j = wp j ∧ wi' j = wi j) → ef_Wy wp wi w → ef_Wy wp' wi' w
  | [], _, _ => trivial
  | (x, i) :: w, h, hw => by
    have := h w.length (by simp)
    exact ⟨this.1.trans hw.1, this.2.trans hw.2.1, ef_Wy_ext (fun j hj => h j (by rw [List.length_cons]; omega)) hw.2.2⟩
theorem ef_Wy_push {wp wi : Nat → Int32} {w : List (Nat × Nat)} {x i : Nat} (h : ef_Wy wp wi w) : ef_Wy (upd wp w.length (nI x)) (upd wi w.length (nI i)) ((x, i) :: w) :=
  ⟨pk_us, pk_us, ef_Wy_ext (fun j hj => ⟨pk_un (by omega), pk_un (by omega)⟩) h⟩
def ef_So (L : List (Nat × Nat)) : Prop := L.Pairwise (fun a b => a.1 < b.1)
theorem ef_So_app {A B : List (Nat × Nat)} : ef_So (A ++ B) ↔ ef_So A ∧ ef_So B ∧ ∀ a ∈ A, ∀ b ∈ B, a.1 < b.1 := List.pairwise_append
theorem ef_So_cons {a : Nat × Nat} {B : List (Nat × Nat)} : ef_So (a :: B) ↔ (∀ b ∈ B, a.1 < b.1) ∧ ef_So B := List.pairwise_cons
/-- a page on the way: its context, its items and subtrees -/
def ef_At (H : ef_H) (R rt : Nat) (w : List (Nat × Nat)) (h x : Nat) (A B : List (Nat × Nat)) (Q : List Nat) (K : List (Nat × Nat)) (cs : List ef_T) (P : List Nat) : Prop :=
  ef_Cx H R rt w h x A B Q ∧ ef_Nd H (x, ef_mx K cs, P) K cs ∧ ef_Ch H 2 4 h K.length cs ∧ (h ≠ R → 2 ≤ K.length) ∧ 1 ≤ K.length ∧ K.length ≤ 4
theorem ef_At_root {H : ef_H} {R x : Nat} {L : List (Nat × Nat)} {P : List Nat} (h : ef_Rn H R (x, L, P)) : ∃ K cs, ef_At H R x [] R x [] [] [] K cs P ∧ L = ef_mx K cs := by
  obtain ⟨K, cs, h1, h2, h3, h4⟩ := h
  have e : L = ef_mx K cs := h3.2.1
  subst e
  exact ⟨K, cs, ⟨⟨rfl, rfl, rfl, rfl, rfl⟩, h3, h4, fun h => absurd rfl h, h1, h2⟩, rfl⟩
theorem ef_perm2 {x : Nat} {a b p q : List Nat} : (p ++ (x :: (a ++ b ++ q))).Perm (x :: (a ++ (p ++ b)) ++ q) := ef_perm1.symm
theorem ef_cut {cs : List ef_T} {n m : Nat} (h : cs.length = n + m + 1) : ∃ cs1 c cs2, cs = cs1 ++ c :: cs2 ∧ cs1.length = n ∧ cs2.length = m := by
  have h1 : (cs.drop n).length = m + 1 := by rw [List.length_drop]; omega
  cases e : cs.drop n with
  | nil => rw [e] at h1; simp at h1
  | cons c cs2 =>
    refine ⟨cs.take n, c, cs2, ?_, by rw [List.length_take]; omega, by rw [e, List.length_cons] at h1; omega⟩
    rw [← e, List.take_append_drop]
theorem ef_At_down {H : ef_H} {R rt h x : Nat} {w A B Q K1 K2 cs P} (i : ef_At H R rt w (h + 1) x A B Q (K1 ++ K2) cs P) : ∃ c Kc csc cs1 cs2, cs = cs1 ++ c :: cs2 ∧ cs1.length = K1.length ∧ cs2.length = K2.length ∧
    H.2.2.2 (6 * x + K1.length) = nI c.1 ∧ ef_At H R rt ((x, K1.length) :: w) h c.1 (A ++ ef_lL cs1 K1) (ef_lR K2 cs2 ++ B) (x :: (ef_fl cs1 ++ ef_fl cs2 ++ Q)) Kc csc c.2.2 ∧
    ef_mx (K1 ++ K2) cs = ef_lL cs1 K1 ++ (ef_mx Kc csc ++ ef_lR K2 cs2) ∧ (c.2.2 ++ x :: (ef_fl cs1 ++ ef_fl cs2 ++ Q)).Perm (P ++ Q) := by
  obtain ⟨i1, i2, i3, i4, i5, i6⟩ := i
  have hl := i3.1
  rw [List.length_append] at hl i4 i5 i6
  obtain ⟨cs1, c, cs2, rfl, l1, l2⟩ := ef_cut hl
  have hc := i3.2 c (by simp)
  obtain ⟨Kc, csc, c1, c2, c3, c4⟩ := ef_Tr_iff.mp hc
  have hp := i2.1
  rw [List.map_append, List.map_cons] at hp
  have hb := ef_Pg_ch hp
  rw [List.length_map, l1] at hb
  have hlen := ef_Cx_len i1
  refine ⟨c, Kc, csc, cs1, cs2, rfl, l1, l2, hb.1, ⟨?_, ⟨c3.1, rfl, c3.2.2⟩, c4, fun _ => c1, by omega, c2⟩, ?_, ?_⟩
  · exact ⟨K1, K2, cs1, cs2, A, B, Q, hp, l1, rfl, l2, i6, i5, i4, fun d hd => i3.2 d (by simp [hd]), fun d hd => i3.2 d (by simp [hd]), i1, rfl, rfl, rfl⟩
  · rw [ef_mx_hole l1, c3.2.1]
  · have e : P = x :: ef_fl (cs1 ++ c :: cs2) := i2.2.2
    rw [e, ef_fl_app, ef_fl_cons]
    exact ef_perm2
theorem ef_lR_sub : ∀ {K : List (Nat × Nat)} {cs : List ef_T}, K.length = cs.length → K.Sublist (ef_lR K cs)
  | [], _, _ => List.nil_sublist _
  | _ :: _, [], h => by simp at h
  | k :: K, c :: cs, h => by
    simp only [List.length_cons] at h
    exact ((ef_lR_sub (K := K) (cs := cs) (by omega)).trans (List.sublist_append_right _ _)).cons_cons k
theorem ef_mx_sub {K : List (Nat × Nat)} {cs : List ef_T} (h : cs = [] ∨ cs.length = K.length + 1) : K.Sublist (ef_mx K cs) := by
  cases cs with
  | nil => exact List.Sublist.refl _
  | cons c cs =>
    have h' : cs.length = K.length := by
      cases h with
      | inl h => simp at h
      | inr h => simp only [List.length_cons] at h; omega
    exact (ef_lR_sub h'.symm).trans (List.sublist_append_right _ _)
theorem ef_lL_all {k : Nat} : ∀ {cs : List ef_T} {K : List (Nat × Nat)}, cs.length = K.length → ef_So (ef_lL cs K) → (∀ e ∈ K, e.1 ≤ k) → ∀ e ∈ ef_lL cs K, e.1 ≤ k
  | [], [], _, _, _, e, he => by simp [ef_lL] at he
  | [], _ :: _, h, _, _, _, _ => by simp at h
  | _ :: _, [], h, _, _, _, _ => by simp at h
  | c :: cs, q :: K, h, hs, hk, e, he => by
    simp only [List.length_cons] at h
    have hs : ef_So (c.2.1 ++ q :: ef_lL cs K) := hs
    have he : e ∈ c.2.1 ++ q :: ef_lL cs K := he
    obtain ⟨s1, s2, s3⟩ := ef_So_app.mp hs
    have hq := hk q (List.mem_cons_self ..)
    rw [List.mem_append, List.mem_cons] at he
    rcases he with he | rfl | he
    · have := s3 e he q (List.mem_cons_self ..)
      omega
    · exact hq
    · exact ef_lL_all (by omega) (ef_So_cons.mp s2).2 (fun d hd => hk d (List.mem_cons_of_mem _ hd)) e he
theorem ef_lR_all {k : Nat} : ∀ {cs : List ef_T} {K : List (Nat × Nat)}, cs.length = K.length → ef_So (ef_lR K cs) → (∀ e ∈ K, k < e.1) → ∀ e ∈ ef_lR K cs, k < e.1
  | [], [], _, _, _, e, he => by simp [ef_lR] at he
  | [], _ :: _, h, _, _, _, _ => by simp at h
  | _ :: _, [], h, _, _, _, _ => by simp at h
  | c :: cs, q :: K, h, hs, hk, e, he => by
    simp only [List.length_cons] at h
    have hs : ef_So (q :: (c.2.1 ++ ef_lR K cs)) := hs
    have he : e ∈ q :: (c.2.1 ++ ef_lR K cs) := he
    obtain ⟨s1, s2⟩ := ef_So_cons.mp hs
    have hq := hk q (List.mem_cons_self ..)
    rw [List.mem_cons] at he
    rcases he with rfl | he
    · exact hq
    · have := s1 e he
      omega
/-- the way's end: the key is there -/
def ef_Fd1 (H : ef_H) (R rt k : Nat) (Lt : List (Nat × Nat)) (Pt : List Nat) (wp wi : Nat → Int32) (we : Int32) : Prop :=
  ∃ w h x A B Q K1 v K2 cs P, ef_At H R rt w h x A B Q (K1 ++ (k, v) :: K2) cs P ∧ Lt = A ++ (ef_mx (K1 ++ (k, v) :: K2) cs ++ B) ∧ (P ++ Q).Perm Pt ∧
    ef_Wy wp wi ((x, K1.length) :: w) ∧ we = nI (w.length + 1)
/-- the way's end: the key is not there, its place in a leaf is -/
def ef_Fd0 (H : ef_H) (R rt k : Nat) (Lt : List (Nat × Nat)) (Pt : List Nat) (wp wi : Nat → Int32) (we : Int32) : Prop :=
  ∃ w x A B Q K1 K2 P, ef_At H R rt w 0 x A B Q (K1 ++ K2) [] P ∧ Lt = A ++ (K1 ++ K2 ++ B) ∧ (P ++ Q).Perm Pt ∧
    ef_Wy wp wi ((x, K1.length) :: w) ∧ we = nI (w.length + 1) ∧ (∀ e ∈ A ++ K1, e.1 < k) ∧ (∀ e ∈ K2 ++ B, k < e.1)
section
variable {rt we wt : Int32} {kc ks vs bl fr nd sr sn sv dk hd wp wi wq : Nat → Int32}
theorem ef_find16 {post : Int32 → SX → Prop} {J : Int32 → Int32 → Int32 → Int32 → (Nat → Int32) → (Nat → Int32) → (Nat → Int32) → (Nat → Int32) → (Nat → Int32) → (Nat → Int32) → (Nat → Int32) → (Nat → Int32) → (Nat → Int32) → (Nat → Int32) → (Nat → Int32) → (Nat → Int32) → (Nat → Int32) → (Nat → Int32) → Prop}
    {x k : Nat} {K : List (Nat × Nat)} {C : List Nat} (hP : ef_Pg (kc, ks, vs, bl) x K C) (hk : k < 32768)
    (G : ∀ K1 K2, K = K1 ++ K2 → (∀ e ∈ K1, e.1 < k) → (∀ e K', K2 = e :: K' → k ≤ e.1) → wX_find_46 post J (nI k) (nI x) (nI K1.length) rt we wt kc ks vs bl fr nd sr sn sv dk hd wp wi wq) :
    ∀ (K2 K1 : List (Nat × Nat)) (f : Nat), K = K1 ++ K2 → K2.length < f → (∀ e ∈ K1, e.1 < k) → wX_find_16 post J (nI k) (nI x) rt we wt kc ks vs bl fr nd sr sn sv dk hd wp wi wq f (nI K1.length) := by
  have hx := hP.1
  have hK5 := hP.2.1
  have hkc : kc x = nI K.length := hP.2.2.2.2.2.1
  intro K2
  induction K2 with
  | nil =>
    intro K1 f e hf h1
    obtain ⟨f, rfl⟩ : ∃ g, f = g + 1 := ⟨f - 1, by omega⟩
    rw [wX_find_16]
    simp (disch := omega) only [nI_clamp, hkc]
    refine ⟨vp_in_nI hx (by decide), br_t (nI_le (by rw [e]; simp) (by rw [List.append_nil] at e; rw [← e]; omega)) (G K1 [] e h1 (fun e K' h => by simp at h))⟩
  | cons q K2 ih =>
    intro K1 f e hf h1
    obtain ⟨f, rfl⟩ : ∃ g, f = g + 1 := ⟨f - 1, by omega⟩
    have hl : K.length = K1.length + (K2.length + 1) := by rw [e, List.length_append, List.length_cons]
    rw [List.length_cons] at hf
    have hq := hP
    rw [e] at hq
    obtain ⟨q1, _, q3, _⟩ := ef_Pg_key hq
    have q1 : ks (5 * x + K1.length) = nI q.1 := q1
    rw [wX_find_16]
    simp (disch := omega) only [nI_clamp, hkc, ef_m5, nI_add, q1, nI_1]
    refine ⟨vp_in_nI hx (by decide), br_f (nI_ge (by omega) (by omega)) ⟨vp_in_nI (by omega) (by decide), br_c (fun h => ?_) (fun h => nm_e ?_)⟩⟩
    · rw [nI_leI (by omega) (by omega)] at h
      exact G K1 (q :: K2) e h1 (fun e' K' h' => by cases h'; exact h)
    · rw [nI_leI (by omega) (by omega)] at h
      have := ih (K1 ++ [q]) f (by rw [e]; simp) (by omega) (fun d hd => by
        rw [List.mem_append, List.mem_singleton] at hd
        rcases hd with hd | rfl
        · exact h1 d hd
        · omega)
      rw [List.length_append] at this
      exact this
theorem ef_find_lp {post : Int32 → SX → Prop} {R r k : Nat} (hk : k < 32768) (hR : R ≤ 6) {Lt : List (Nat × Nat)} {Pt : List Nat}
    (G1 : ∀ we' wp' wi', ef_Fd1 (kc, ks, vs, bl) R r k Lt Pt wp' wi' we' → post 1 (rt, we', wt, kc, ks, vs, bl, fr, nd, sr, sn, sv, dk, hd, wp', wi', wq))
    (G0 : ∀ we' wp' wi', ef_Fd0 (kc, ks, vs, bl) R r k Lt Pt wp' wi' we' → post 0 (rt, we', wt, kc, ks, vs, bl, fr, nd, sr, sn, sv, dk, hd, wp', wi', wq)) :
    ∀ (h : Nat) (w : List (Nat × Nat)) (x : Nat) (A B : List (Nat × Nat)) (Q : List Nat) (K : List (Nat × Nat)) (cs : List ef_T) (P : List Nat) (wp wi : Nat → Int32) (f : Nat),
    ef_At (kc, ks, vs, bl) R r w h x A B Q K cs P → ef_So (A ++ (ef_mx K cs ++ B)) → (∀ e ∈ A, e.1 < k) → (∀ e ∈ B, k < e.1) → Lt = A ++ (ef_mx K cs ++ B) → (P ++ Q).Perm Pt → ef_Wy wp wi w → h + 1 < f →
    wX_find_10 post (nI k) f (nI x) rt (nI w.length) wt kc ks vs bl fr nd sr sn sv dk hd wp wi wq := by
  intro h
  induction h with
  | zero =>
    intro w x A B Q K cs P wp wi f hA hS hlo hhi hL hQ hW hf
    obtain ⟨f, rfl⟩ : ∃ g, f = g + 2 := ⟨f - 2, by omega⟩
    have hA' := hA
    obtain ⟨i1, i2, i3, i4, i5, i6⟩ := hA
    have hlen := ef_Cx_len i1
    cases i3
    have hx := i2.1.1
    rw [wX_find_10]
    refine br_f (nI_pos (by omega)) ⟨6, ef_find16 i2.1 hk (fun K1 K2 e g1 g2 => ?_) K [] 6 rfl (by omega) (fun e he => by simp at he)⟩
    subst e
    have hkc : kc x = nI (K1 ++ K2).length := i2.1.2.2.2.2.2.1
    rw [List.length_append] at i4 i5 i6 hkc
    unfold wX_find_46
    refine ef_pushWay (by omega) (by omega) (by omega) ?_
    have hb : bl (6 * x) = -1 := ef_Pg_leaf i2.1
    have hW' := ef_Wy_push (x := x) (i := K1.length) hW
    have hsk : ef_So (K1 ++ K2) := by
      obtain ⟨s1, s2, s3⟩ := ef_So_app.mp hS
      exact (ef_So_app.mp s2).1
    have fin : (∀ e ∈ K2, k < e.1) → wX_find_78 post (wX_find_10 post (nI k) (f + 1)) (nI k) (nI x) (nI K1.length) rt (nI (w.length + 1)) wt kc ks vs bl fr nd sr sn sv dk hd (upd wp w.length (nI x)) (upd wi w.length (nI K1.length)) wq := fun g3 => by
      unfold wX_find_78
      refine ef_leaf_t hx hb (br_f (by decide) ?_)
      rw [wX_find_10]
      refine br_t ef_neg' (G0 _ _ _ ⟨w, x, A, B, Q, K1, K2, P, hA', hL, hQ, hW', rfl, fun e he => ?_, fun e he => ?_⟩)
      · rcases List.mem_append.mp he with he | he
        · exact hlo e he
        · exact g1 e he
      · rcases List.mem_append.mp he with he | he
        · exact g3 e he
        · exact hhi e he
    simp (disch := omega) only [nI_clamp, hkc]
    refine ⟨vp_in_nI hx (by decide), ?_⟩
    cases K2 with
    | nil => exact br_t (nI_le (by simp) (by simp only [List.length_nil] at *; omega)) (fin (fun e he => by simp at he))
    | cons q K2 =>
      obtain ⟨q1, _, q3, _⟩ := ef_Pg_key i2.1
      have q1 : ks (5 * x + K1.length) = nI q.1 := q1
      simp only [List.length_cons] at *
      refine br_f (nI_ge (by omega) (by omega)) ?_
      simp (disch := omega) only [nI_clamp, ef_m5, nI_add, q1]
      refine ⟨vp_in_nI (by omega) (by decide), br_c (fun h => ?_) (fun h => ?_)⟩
      · rw [nI_eq (by omega) (by omega)] at h
        obtain ⟨q, v⟩ := q
        cases h
        exact G1 _ _ _ ⟨w, 0, x, A, B, Q, K1, v, K2, [], P, hA', hL, hQ, hW', rfl⟩
      · rw [nI_eq (by omega) (by omega)] at h
        refine fin (fun e he => ?_)
        have g4 := g2 q K2 rfl
        rw [List.mem_cons] at he
        rcases he with rfl | he
        · omega
        · have := (ef_So_cons.mp (ef_So_app.mp hsk).2.1).1 e he
          omega
  | succ h ih =>
    intro w x A B Q K cs P wp wi f hA hS hlo hhi hL hQ hW hf
    obtain ⟨f, rfl⟩ : ∃ g, f = g + 1 := ⟨f - 1, by omega⟩
    have hA' := hA
    obtain ⟨i1, i2, i3, i4, i5, i6⟩ := hA
    have hlen := ef_Cx_len i1
    have hx := i2.1.1
    rw [wX_find_10]
    refine br_f (nI_pos (by omega)) ⟨6, ef_find16 i2.1 hk (fun K1 K2 e g1 g2 => ?_) K [] 6 rfl (by omega) (fun e he => by simp at he)⟩
    subst e
    have hkc : kc x = nI (K1 ++ K2).length := i2.1.2.2.2.2.2.1
    have hsk : ef_So (K1 ++ K2) := by
      obtain ⟨s1, s2, s3⟩ := ef_So_app.mp hS
      exact (ef_So_app.mp s2).1.sublist (ef_mx_sub (Or.inr i3.1))
    rw [List.length_append] at i4 i5 i6 hkc
    unfold wX_find_46
    refine ef_pushWay (by omega) (by omega) (by omega) ?_
    have hW' := ef_Wy_push (x := x) (i := K1.length) hW
    have fin : (∀ e ∈ K2, k < e.1) → wX_find_78 post (wX_find_10 post (nI k) f) (nI k) (nI x) (nI K1.length) rt (nI (w.length + 1)) wt kc ks vs bl fr nd sr sn sv dk hd (upd wp w.length (nI x)) (upd wi w.length (nI K1.length)) wq := fun g3 => by
      obtain ⟨c, Kc, csc, cs1, cs2, rfl, l1, l2, hb, hAt, hmx, hpm⟩ := ef_At_down hA'
      obtain ⟨c0, hc0, e0⟩ := ef_Pg_inner i2.1 (by simp)
      have hb : bl (6 * x + K1.length) = nI c.1 := hb
      unfold wX_find_78
      refine ef_leaf_f hx e0 hc0 (br_t rfl ?_)
      simp (disch := omega) only [nI_clamp, ef_m6, nI_add, hb]
      refine ⟨vp_in_nI (by omega) (by decide), nm_e ?_⟩
      have eL : A ++ ef_lL cs1 K1 ++ (ef_mx Kc csc ++ (ef_lR K2 cs2 ++ B)) = A ++ (ef_mx (K1 ++ K2) (cs1 ++ c :: cs2) ++ B) := by rw [hmx]; simp only [List.append_assoc]
      have hS' := hS
      rw [← eL] at hS'
      obtain ⟨s1, s2, s3⟩ := ef_So_app.mp hS'
      obtain ⟨t1, t2, t3⟩ := ef_So_app.mp s1
      obtain ⟨u1, u2, u3⟩ := ef_So_app.mp s2
      obtain ⟨v1, v2, v3⟩ := ef_So_app.mp u2
      refine ih ((x, K1.length) :: w) c.1 (A ++ ef_lL cs1 K1) (ef_lR K2 cs2 ++ B) _ Kc csc c.2.2 _ _ f hAt hS' (fun e he => ?_) (fun e he => ?_) (by rw [eL]; exact hL) (hpm.trans hQ) hW' (by omega)
      · rcases List.mem_append.mp he with he | he
        · exact hlo e he
        · cases K1 with
          | nil =>
            cases cs1 with
            | nil => simp [ef_lL] at he
            | cons _ _ => simp at l1
          | cons q K1' =>
            have hpos : 0 < k := by have := g1 q (List.mem_cons_self ..); omega
            have := ef_lL_all (k := k - 1) l1 t2 (fun d hd => by have := g1 d hd; omega) e he
            omega
      · rcases List.mem_append.mp he with he | he
        · exact ef_lR_all l2 v1 g3 e he
        · exact hhi e he
    simp (disch := omega) only [nI_clamp, hkc]
    refine ⟨vp_in_nI hx (by decide), ?_⟩
    cases K2 with
    | nil => exact br_t (nI_le (by simp) (by simp only [List.length_nil] at *; omega)) (fin (fun e he => by simp at he))
    | cons q K2 =>
      obtain ⟨q1, _, q3, _⟩ := ef_Pg_key i2.1
      have q1 : ks (5 * x + K1.length) = nI q.1 := q1
      simp only [List.length_cons] at i4 i5 i6 hkc
      refine br_f (nI_ge (by simp only [List.length_cons]; omega) (by simp only [List.length_cons]; omega)) ?_
      simp (disch := omega) only [nI_clamp, ef_m5, nI_add, q1]
      refine ⟨vp_in_nI (by omega) (by decide), br_c (fun h => ?_) (fun h => ?_)⟩
      · rw [nI_eq (by omega) (by omega)] at h
        obtain ⟨q, v⟩ := q
        cases h
        exact G1 _ _ _ ⟨w, _, x, A, B, Q, K1, v, K2, cs, P, hA', hL, hQ, hW', rfl⟩
      · rw [nI_eq (by omega) (by omega)] at h
        refine fin (fun e he => ?_)
        have g4 := g2 q K2 rfl
        rw [List.mem_cons] at he
        rcases he with rfl | he
        · omega
        · have := (ef_So_cons.mp (ef_So_app.mp hsk).2.1).1 e he
          omega
theorem ef_find {post : Int32 → SX → Prop} {R r k : Nat} {Lt : List (Nat × Nat)} {Pt : List Nat} (hk : k < 32768) (hT : ef_Rn (kc, ks, vs, bl) R (r, Lt, Pt)) (hS : ef_So Lt) (hl : Lt.length < 128) (hr : rt = nI r)
    (G1 : ∀ we' wp' wi', ef_Fd1 (kc, ks, vs, bl) R r k Lt Pt wp' wi' we' → post 1 (rt, we', wt, kc, ks, vs, bl, fr, nd, sr, sn, sv, dk, hd, wp', wi', wq))
    (G0 : ∀ we' wp' wi', ef_Fd0 (kc, ks, vs, bl) R r k Lt Pt wp' wi' we' → post 0 (rt, we', wt, kc, ks, vs, bl, fr, nd, sr, sn, sv, dk, hd, wp', wi', wq)) : wpX_find post (rt, we, wt, kc, ks, vs, bl, fr, nd, sr, sn, sv, dk, hd, wp, wi, wq) (nI k) := by
  subst hr
  have hR := ef_pow_bd (ef_Rn_ht hT) hl
  obtain ⟨K, cs, hA, rfl⟩ := ef_At_root hT
  unfold wpX_find
  exact ⟨R + 2, ef_find_lp hk hR G1 G0 R [] r [] [] [] K cs Pt wp wi (R + 2) hA (by simpa using hS) (fun e he => by simp at he) (fun e he => by simp at he) (by simp) (by simp) trivial (by omega)⟩
end
end
section
/-! the next key, the last key -/
def ef_hd : List (Nat × Nat) → Int32
  | [] => -1
  | e :: _ => nI e.1
def ef_la (A : List (Nat × Nat)) : Int32 := match A.getLast? with
  | none => -1
  | some e => nI e.1
theorem ef_la_nil : ef_la [] = -1 := rfl
theorem ef_la_app {A B : List (Nat × Nat)} {e : Nat × Nat} : ef_la (A ++ (B ++ [e])) = nI e.1 := by
  unfold ef_la
  rw [← List.append_assoc, List.getLast?_concat]
theorem ef_lL_last : ∀ {cs : List ef_T} {K : List (Nat × Nat)} {e : Nat × Nat}, cs.length = (K ++ [e]).length → ∃ B, ef_lL cs (K ++ [e]) = B ++ [e]
  | [], K, e, h => by simp at h
  | c :: cs, [], e, h => by
    have : cs = [] := by simpa using h
    subst this
    exact ⟨c.2.1, rfl⟩
  | c :: cs, q :: K, e, h => by
    obtain ⟨B, hB⟩ := ef_lL_last (cs := cs) (K := K) (e := e) (by simpa using h)
    refine ⟨c.2.1 ++ q :: B, ?_⟩
    show c.2.1 ++ q :: ef_lL cs (K ++ [e]) = _
    rw [hB]
    simp
section
variable {rt we wt : Int32} {kc ks vs bl fr nd sr sn sv dk hd wp wi wq : Nat → Int32}
theorem ef_nk14 {post : Int32 → Prop} {J : Int32 → Int32 → Prop} {b : Int32} {x k : Nat} {K : List (Nat × Nat)} {C : List Nat} (hP : ef_Pg (kc, ks, vs, bl) x K C) (hk : k < 32768)
    (G : ∀ K1 K2, K = K1 ++ K2 → (∀ e ∈ K1, e.1 ≤ k) → (∀ e K', K2 = e :: K' → k < e.1) → wX_nextKey_46 post J (nI k) b (nI x) (nI K1.length) rt we wt kc ks vs bl fr nd sr sn sv dk hd wp wi wq) :
    ∀ (K2 K1 : List (Nat × Nat)) (f : Nat), K = K1 ++ K2 → K2.length < f → (∀ e ∈ K1, e.1 ≤ k) → wX_nextKey_14 post J (nI k) b (nI x) rt we wt kc ks vs bl fr nd sr sn sv dk hd wp wi wq f (nI K1.length) := by
  have hx := hP.1
  have hK5 := hP.2.1
  have hkc : kc x = nI K.length := hP.2.2.2.2.2.1
  intro K2
  induction K2 with
  | nil =>
    intro K1 f e hf h1
    obtain ⟨f, rfl⟩ : ∃ g, f = g + 1 := ⟨f - 1, by omega⟩
    rw [wX_nextKey_14]
    simp (disch := omega) only [nI_clamp, hkc]
    refine ⟨vp_in_nI hx (by decide), br_t (nI_le (by rw [e]; simp) (by rw [List.append_nil] at e; rw [← e]; omega)) (G K1 [] e h1 (fun e K' h => by simp at h))⟩
  | cons q K2 ih =>
    intro K1 f e hf h1
    obtain ⟨f, rfl⟩ : ∃ g, f = g + 1 := ⟨f - 1, by omega⟩
    have hl : K.length = K1.length + (K2.length + 1) := by rw [e, List.length_append, List.length_cons]
    rw [List.length_cons] at hf
    have hq := hP
    rw [e] at hq
    obtain ⟨q1, _, q3, _⟩ := ef_Pg_key hq
    have q1 : ks (5 * x + K1.length) = nI q.1 := q1
    rw [wX_nextKey_14]
    simp (disch := omega) only [nI_clamp, hkc, ef_m5, nI_add, q1, nI_1]
    refine ⟨vp_in_nI hx (by decide), br_f (nI_ge (by omega) (by omega)) ⟨vp_in_nI (by omega) (by decide), br_c (fun h => ?_) (fun h => nm_e ?_)⟩⟩
    · rw [nI_ltI (by omega) (by omega)] at h
      exact G K1 (q :: K2) e h1 (fun e' K' h' => by cases h'; exact h)
    · rw [nI_ltI (by omega) (by omega)] at h
      have := ih (K1 ++ [q]) f (by rw [e]; simp) (by omega) (fun d hd => by
        rw [List.mem_append, List.mem_singleton] at hd
        rcases hd with hd | rfl
        · exact h1 d hd
        · omega)
      rw [List.length_append] at this
      exact this
theorem ef_nk_lp {post : Int32 → Prop} {R r k : Nat} (hk : k < 32768) {Lt : List (Nat × Nat)}
    (G : ∀ A B, Lt = A ++ B → (∀ e ∈ A, e.1 ≤ k) → (∀ e ∈ B, k < e.1) → post (ef_hd B)) :
    ∀ (h : Nat) (w : List (Nat × Nat)) (x : Nat) (A B : List (Nat × Nat)) (Q : List Nat) (K : List (Nat × Nat)) (cs : List ef_T) (P : List Nat) (f : Nat),
    ef_At (kc, ks, vs, bl) R r w h x A B Q K cs P → ef_So (A ++ (ef_mx K cs ++ B)) → (∀ e ∈ A, e.1 ≤ k) → (∀ e ∈ B, k < e.1) → Lt = A ++ (ef_mx K cs ++ B) → h + 1 < f →
    wX_nextKey_7 post (nI k) rt we wt kc ks vs bl fr nd sr sn sv dk hd wp wi wq f (ef_hd B) (nI x) := by
  intro h
  induction h with
  | zero =>
    intro w x A B Q K cs P f hA hS hlo hhi hL hf
    obtain ⟨f, rfl⟩ : ∃ g, f = g + 2 := ⟨f - 2, by omega⟩
    obtain ⟨i1, i2, i3, i4, i5, i6⟩ := hA
    cases i3
    have hx := i2.1.1
    rw [wX_nextKey_7]
    refine br_f (nI_pos (by omega)) ⟨6, ef_nk14 i2.1 hk (fun K1 K2 e g1 g2 => ?_) K [] 6 rfl (by omega) (fun e he => by simp at he)⟩
    subst e
    have hkc : kc x = nI (K1 ++ K2).length := i2.1.2.2.2.2.2.1
    rw [List.length_append] at i4 i5 i6 hkc
    have hb : bl (6 * x) = -1 := ef_Pg_leaf i2.1
    have hsk : ef_So (K1 ++ K2) := by
      obtain ⟨s1, s2, s3⟩ := ef_So_app.mp hS
      exact (ef_So_app.mp s2).1
    have g3 : ∀ e ∈ K2, k < e.1 := fun e he => by
      cases K2 with
      | nil => simp at he
      | cons q K2 =>
        have g4 := g2 q K2 rfl
        rw [List.mem_cons] at he
        rcases he with rfl | he
        · omega
        · have := (ef_So_cons.mp (ef_So_app.mp hsk).2.1).1 e he
          omega
    have fin : wX_nextKey_69 post (wX_nextKey_7 post (nI k) rt we wt kc ks vs bl fr nd sr sn sv dk hd wp wi wq (f + 1)) (nI k) (ef_hd (K2 ++ B)) (nI x) (nI K1.length) rt we wt kc ks vs bl fr nd sr sn sv dk hd wp wi wq := by
      unfold wX_nextKey_69
      refine ef_leaf_t hx hb (br_f (by decide) ?_)
      rw [wX_nextKey_7]
      refine br_t ef_neg' (G (A ++ K1) (K2 ++ B) (by rw [hL]; simp [ef_mx]) (fun e he => ?_) (fun e he => ?_))
      · rcases List.mem_append.mp he with he | he
        · exact hlo e he
        · exact g1 e he
      · rcases List.mem_append.mp he with he | he
        · exact g3 e he
        · exact hhi e he
    unfold wX_nextKey_46
    simp (disch := omega) only [nI_clamp, hkc]
    refine ⟨vp_in_nI hx (by decide), ?_⟩
    cases K2 with
    | nil => exact br_t (nI_le (by simp) (by simp only [List.length_nil] at *; omega)) fin
    | cons q K2 =>
      obtain ⟨q1, _, q3, _⟩ := ef_Pg_key i2.1
      have q1 : ks (5 * x + K1.length) = nI q.1 := q1
      simp only [List.length_cons] at i4 i5 i6 hkc
      refine br_f (nI_ge (by simp only [List.length_cons]; omega) (by simp only [List.length_cons]; omega)) ?_
      simp (disch := omega) only [nI_clamp, ef_m5, nI_add, q1]
      exact ⟨vp_in_nI (by omega) (by decide), nm_e fin⟩
  | succ h ih =>
    intro w x A B Q K cs P f hA hS hlo hhi hL hf
    obtain ⟨f, rfl⟩ : ∃ g, f = g + 1 := ⟨f - 1, by omega⟩
    have hA' := hA
    obtain ⟨i1, i2, i3, i4, i5, i6⟩ := hA
    have hx := i2.1.1
    rw [wX_nextKey_7]
    refine br_f (nI_pos (by omega)) ⟨6, ef_nk14 i2.1 hk (fun K1 K2 e g1 g2 => ?_) K [] 6 rfl (by omega) (fun e he => by simp at he)⟩
    subst e
    have hkc : kc x = nI (K1 ++ K2).length := i2.1.2.2.2.2.2.1
    have hsk : ef_So (K1 ++ K2) := by
      obtain ⟨s1, s2, s3⟩ := ef_So_app.mp hS
      exact (ef_So_app.mp s2).1.sublist (ef_mx_sub (Or.inr i3.1))
    rw [List.length_append] at i4 i5 i6 hkc
    have g3 : ∀ e ∈ K2, k < e.1 := fun e he => by
      cases K2 with
      | nil => simp at he
      | cons q K2 =>
        have g4 := g2 q K2 rfl
        rw [List.mem_cons] at he
        rcases he with rfl | he
        · omega
        · have := (ef_So_cons.mp (ef_So_app.mp hsk).2.1).1 e he
          omega
    obtain ⟨c, Kc, csc, cs1, cs2, rfl, l1, l2, hb, hAt, hmx, hpm⟩ := ef_At_down hA'
    have fin : wX_nextKey_69 post (wX_nextKey_7 post (nI k) rt we wt kc ks vs bl fr nd sr sn sv dk hd wp wi wq f) (nI k) (ef_hd (ef_lR K2 cs2 ++ B)) (nI x) (nI K1.length) rt we wt kc ks vs bl fr nd sr sn sv dk hd wp wi wq := by
      obtain ⟨c0, hc0, e0⟩ := ef_Pg_inner i2.1 (by simp)
      have hb : bl (6 * x + K1.length) = nI c.1 := hb
      unfold wX_nextKey_69
      refine ef_leaf_f hx e0 hc0 (br_t rfl ?_)
      simp (disch := omega) only [nI_clamp, ef_m6, nI_add, hb]
      refine ⟨vp_in_nI (by omega) (by decide), nm_e ?_⟩
      have eL : A ++ ef_lL cs1 K1 ++ (ef_mx Kc csc ++ (ef_lR K2 cs2 ++ B)) = A ++ (ef_mx (K1 ++ K2) (cs1 ++ c :: cs2) ++ B) := by rw [hmx]; simp only [List.append_assoc]
      have hS' := hS
      rw [← eL] at hS'
      obtain ⟨s1, s2, s3⟩ := ef_So_app.mp hS'
      obtain ⟨t1, t2, t3⟩ := ef_So_app.mp s1
      obtain ⟨u1, u2, u3⟩ := ef_So_app.mp s2
      obtain ⟨v1, v2, v3⟩ := ef_So_app.mp u2
      refine ih ((x, K1.length) :: w) c.1 (A ++ ef_lL cs1 K1) (ef_lR K2 cs2 ++ B) _ Kc csc c.2.2 f hAt hS' (fun e he => ?_) (fun e he => ?_) (by rw [eL]; exact hL) (by omega)
      · rcases List.mem_append.mp he with he | he
        · exact hlo e he
        · exact ef_lL_all l1 t2 g1 e he
      · rcases List.mem_append.mp he with he | he
        · exact ef_lR_all l2 v1 g3 e he
        · exact hhi e he
    unfold wX_nextKey_46
    simp (disch := omega) only [nI_clamp, hkc]
    refine ⟨vp_in_nI hx (by decide), ?_⟩
    cases K2 with
    | nil =>
      have : cs2 = [] := List.eq_nil_of_length_eq_zero (by simpa using l2)
      subst this
      exact br_t (nI_le (by simp) (by simp only [List.length_nil] at i6 ⊢; omega)) fin
    | cons q K2 =>
      obtain ⟨q1, _, q3, _⟩ := ef_Pg_key i2.1
      have q1 : ks (5 * x + K1.length) = nI q.1 := q1
      simp only [List.length_cons] at i4 i5 i6 hkc
      refine br_f (nI_ge (by simp only [List.length_cons]; omega) (by simp only [List.length_cons]; omega)) ?_
      simp (disch := omega) only [nI_clamp, ef_m5, nI_add, q1]
      cases cs2 with
      | nil => simp at l2
      | cons c2 cs2 => exact ⟨vp_in_nI (by omega) (by decide), nm_e fin⟩
theorem ef_nextKey {post : Int32 → Prop} {R r k : Nat} {Lt : List (Nat × Nat)} {Pt : List Nat} (hk : k < 32768) (hT : ef_Rn (kc, ks, vs, bl) R (r, Lt, Pt)) (hS : ef_So Lt) (hr : rt = nI r)
    (G : ∀ A B, Lt = A ++ B → (∀ e ∈ A, e.1 ≤ k) → (∀ e ∈ B, k < e.1) → post (ef_hd B)) : wpX_nextKey post (rt, we, wt, kc, ks, vs, bl, fr, nd, sr, sn, sv, dk, hd, wp, wi, wq) (nI k) := by
  subst hr
  obtain ⟨K, cs, hA, rfl⟩ := ef_At_root hT
  unfold wpX_nextKey
  exact ⟨R + 2, ef_nk_lp hk G R [] r [] [] [] K cs Pt (R + 2) hA (by simpa using hS) (fun e he => by simp at he) (fun e he => by simp at he) (by simp) (by omega)⟩
theorem ef_lk14 {post : Int32 → Prop} {J : Int32 → Int32 → Prop} {b : Int32} {x k : Nat} {K : List (Nat × Nat)} {C : List Nat} (hP : ef_Pg (kc, ks, vs, bl) x K C) (hk : k < 32768)
    (G : ∀ K1 K2, K = K1 ++ K2 → (∀ e ∈ K1, e.1 ≤ k) → (∀ e K', K2 = e :: K' → k < e.1) → wX_lastKey_46 post J (nI k) b (nI x) (nI K1.length) rt we wt kc ks vs bl fr nd sr sn sv dk hd wp wi wq) :
    ∀ (K2 K1 : List (Nat × Nat)) (f : Nat), K = K1 ++ K2 → K2.length < f → (∀ e ∈ K1, e.1 ≤ k) → wX_lastKey_14 post J (nI k) b (nI x) rt we wt kc ks vs bl fr nd sr sn sv dk hd wp wi wq f (nI K1.length) := by
  have hx := hP.1
  have hK5 := hP.2.1
  have hkc : kc x = nI K.length := hP.2.2.2.2.2.1
  intro K2
  induction K2 with
  | nil =>
    intro K1 f e hf h1
    obtain ⟨f, rfl⟩ : ∃ g, f = g + 1 := ⟨f - 1, by omega⟩
    rw [wX_lastKey_14]
    simp (disch := omega) only [nI_clamp, hkc]
    refine ⟨vp_in_nI hx (by decide), br_t (nI_le (by rw [e]; simp) (by rw [List.append_nil] at e; rw [← e]; omega)) (G K1 [] e h1 (fun e K' h => by simp at h))⟩
  | cons q K2 ih =>
    intro K1 f e hf h1
    obtain ⟨f, rfl⟩ : ∃ g, f = g + 1 := ⟨f - 1, by omega⟩
    have hl : K.length = K1.length + (K2.length + 1) := by rw [e, List.length_append, List.length_cons]
    rw [List.length_cons] at hf
    have hq := hP
    rw [e] at hq
    obtain ⟨q1, _, q3, _⟩ := ef_Pg_key hq
    have q1 : ks (5 * x + K1.length) = nI q.1 := q1
    rw [wX_lastKey_14]
    simp (disch := omega) only [nI_clamp, hkc, ef_m5, nI_add, q1, nI_1]
    refine ⟨vp_in_nI hx (by decide), br_f (nI_ge (by omega) (by omega)) ⟨vp_in_nI (by omega) (by decide), br_c (fun h => ?_) (fun h => nm_e ?_)⟩⟩
    · rw [nI_ltI (by omega) (by omega)] at h
      exact G K1 (q :: K2) e h1 (fun e' K' h' => by cases h'; exact h)
    · rw [nI_ltI (by omega) (by omega)] at h
      have := ih (K1 ++ [q]) f (by rw [e]; simp) (by omega) (fun d hd => by
        rw [List.mem_append, List.mem_singleton] at hd
        rcases hd with hd | rfl
        · exact h1 d hd
        · omega)
      rw [List.length_append] at this
      exact this
theorem ef_lk_lp {post : Int32 → Prop} {R r k : Nat} (hk : k < 32768) {Lt : List (Nat × Nat)}
    (G : ∀ A B, Lt = A ++ B → (∀ e ∈ A, e.1 ≤ k) → (∀ e ∈ B, k < e.1) → post (ef_la A)) :
    ∀ (h : Nat) (w : List (Nat × Nat)) (x : Nat) (A B : List (Nat × Nat)) (Q : List Nat) (K : List (Nat × Nat)) (cs : List ef_T) (P : List Nat) (f : Nat),
    ef_At (kc, ks, vs, bl) R r w h x A B Q K cs P → ef_So (A ++ (ef_mx K cs ++ B)) → (∀ e ∈ A, e.1 ≤ k) → (∀ e ∈ B, k < e.1) → Lt = A ++ (ef_mx K cs ++ B) → h + 1 < f →
    wX_lastKey_7 post (nI k) rt we wt kc ks vs bl fr nd sr sn sv dk hd wp wi wq f (ef_la A) (nI x) := by
  intro h
  induction h with
  | zero =>
    intro w x A B Q K cs P f hA hS hlo hhi hL hf
    obtain ⟨f, rfl⟩ : ∃ g, f = g + 2 := ⟨f - 2, by omega⟩
    obtain ⟨i1, i2, i3, i4, i5, i6⟩ := hA
    cases i3
    have hx := i2.1.1
    rw [wX_lastKey_7]
    refine br_f (nI_pos (by omega)) ⟨6, ef_lk14 i2.1 hk (fun K1 K2 e g1 g2 => ?_) K [] 6 rfl (by omega) (fun e he => by simp at he)⟩
    subst e
    have hkc : kc x = nI (K1 ++ K2).length := i2.1.2.2.2.2.2.1
    rw [List.length_append] at i4 i5 i6 hkc
    have hb : bl (6 * x) = -1 := ef_Pg_leaf i2.1
    have hsk : ef_So (K1 ++ K2) := by
      obtain ⟨s1, s2, s3⟩ := ef_So_app.mp hS
      exact (ef_So_app.mp s2).1
    have g3 : ∀ e ∈ K2, k < e.1 := fun e he => by
      cases K2 with
      | nil => simp at he
      | cons q K2 =>
        have g4 := g2 q K2 rfl
        rw [List.mem_cons] at he
        rcases he with rfl | he
        · omega
        · have := (ef_So_cons.mp (ef_So_app.mp hsk).2.1).1 e he
          omega
    have fin : wX_lastKey_65 post (wX_lastKey_7 post (nI k) rt we wt kc ks vs bl fr nd sr sn sv dk hd wp wi wq (f + 1)) (nI k) (ef_la (A ++ K1)) (nI x) (nI K1.length) rt we wt kc ks vs bl fr nd sr sn sv dk hd wp wi wq := by
      unfold wX_lastKey_65
      refine ef_leaf_t hx hb (br_f (by decide) ?_)
      rw [wX_lastKey_7]
      refine br_t ef_neg' (G (A ++ K1) (K2 ++ B) (by rw [hL]; simp [ef_mx]) (fun e he => ?_) (fun e he => ?_))
      · rcases List.mem_append.mp he with he | he
        · exact hlo e he
        · exact g1 e he
      · rcases List.mem_append.mp he with he | he
        · exact g3 e he
        · exact hhi e he
    unfold wX_lastKey_46
    rcases List.eq_nil_or_concat K1 with rfl | ⟨K1, q, rfl⟩
    · rw [List.append_nil] at fin
      exact br_t (by decide) fin
    · rw [List.concat_eq_append] at *
      have hP := i2.1
      rw [List.append_assoc] at hP
      obtain ⟨q1, _, q3, _⟩ := ef_Pg_key hP
      have q1 : ks (5 * x + K1.length) = nI q.1 := q1
      rw [List.length_append, List.length_singleton] at i6
      refine br_f (nI_nle (by simp) (by rw [List.length_append, List.length_singleton]; omega)) ?_
      have t : 5 * x + (K1.length + 1) - 1 = 5 * x + K1.length := by omega
      simp (disch := omega) only [List.length_append, List.length_cons, List.length_nil, Nat.zero_add, nI_clamp, ef_m5, nI_add, ef_s1, t, q1]
      rw [ef_la_app] at fin
      simp only [List.length_append, List.length_cons, List.length_nil, Nat.zero_add] at fin
      exact ⟨vp_in_nI (by omega) (by decide), nm_e fin⟩
  | succ h ih =>
    intro w x A B Q K cs P f hA hS hlo hhi hL hf
    obtain ⟨f, rfl⟩ : ∃ g, f = g + 1 := ⟨f - 1, by omega⟩
    have hA' := hA
    obtain ⟨i1, i2, i3, i4, i5, i6⟩ := hA
    have hx := i2.1.1
    rw [wX_lastKey_7]
    refine br_f (nI_pos (by omega)) ⟨6, ef_lk14 i2.1 hk (fun K1 K2 e g1 g2 => ?_) K [] 6 rfl (by omega) (fun e he => by simp at he)⟩
    subst e
    have hkc : kc x = nI (K1 ++ K2).length := i2.1.2.2.2.2.2.1
    have hsk : ef_So (K1 ++ K2) := by
      obtain ⟨s1, s2, s3⟩ := ef_So_app.mp hS
      exact (ef_So_app.mp s2).1.sublist (ef_mx_sub (Or.inr i3.1))
    rw [List.length_append] at i4 i5 i6 hkc
    have g3 : ∀ e ∈ K2, k < e.1 := fun e he => by
      cases K2 with
      | nil => simp at he
      | cons q K2 =>
        have g4 := g2 q K2 rfl
        rw [List.mem_cons] at he
        rcases he with rfl | he
        · omega
        · have := (ef_So_cons.mp (ef_So_app.mp hsk).2.1).1 e he
          omega
    obtain ⟨c, Kc, csc, cs1, cs2, rfl, l1, l2, hb, hAt, hmx, hpm⟩ := ef_At_down hA'
    have fin : wX_lastKey_65 post (wX_lastKey_7 post (nI k) rt we wt kc ks vs bl fr nd sr sn sv dk hd wp wi wq f) (nI k) (ef_la (A ++ ef_lL cs1 K1)) (nI x) (nI K1.length) rt we wt kc ks vs bl fr nd sr sn sv dk hd wp wi wq := by
      obtain ⟨c0, hc0, e0⟩ := ef_Pg_inner i2.1 (by simp)
      have hb : bl (6 * x + K1.length) = nI c.1 := hb
      unfold wX_lastKey_65
      refine ef_leaf_f hx e0 hc0 (br_t rfl ?_)
      simp (disch := omega) only [nI_clamp, ef_m6, nI_add, hb]
      refine ⟨vp_in_nI (by omega) (by decide), nm_e ?_⟩
      have eL : A ++ ef_lL cs1 K1 ++ (ef_mx Kc csc ++ (ef_lR K2 cs2 ++ B)) = A ++ (ef_mx (K1 ++ K2) (cs1 ++ c :: cs2) ++ B) := by rw [hmx]; simp only [List.append_assoc]
      have hS' := hS
      rw [← eL] at hS'
      obtain ⟨s1, s2, s3⟩ := ef_So_app.mp hS'
      obtain ⟨t1, t2, t3⟩ := ef_So_app.mp s1
      obtain ⟨u1, u2, u3⟩ := ef_So_app.mp s2
      obtain ⟨v1, v2, v3⟩ := ef_So_app.mp u2
      refine ih ((x, K1.length) :: w) c.1 (A ++ ef_lL cs1 K1) (ef_lR K2 cs2 ++ B) _ Kc csc c.2.2 f hAt hS' (fun e he => ?_) (fun e he => ?_) (by rw [eL]; exact hL) (by omega)
      · rcases List.mem_append.mp he with he | he
        · exact hlo e he
        · exact ef_lL_all l1 t2 g1 e he
      · rcases List.mem_append.mp he with he | he
        · exact ef_lR_all l2 v1 g3 e he
        · exact hhi e he
    unfold wX_lastKey_46
    rcases List.eq_nil_or_concat K1 with rfl | ⟨K1, q, rfl⟩
    · have : cs1 = [] := List.eq_nil_of_length_eq_zero (by simpa using l1)
      subst this
      rw [show A ++ ef_lL [] [] = A from List.append_nil A] at fin
      exact br_t (by decide) fin
    · rw [List.concat_eq_append] at *
      have hP := i2.1
      rw [List.append_assoc] at hP
      obtain ⟨q1, _, q3, _⟩ := ef_Pg_key hP
      have q1 : ks (5 * x + K1.length) = nI q.1 := q1
      rw [List.length_append, List.length_singleton] at i6
      refine br_f (nI_nle (by simp) (by rw [List.length_append, List.length_singleton]; omega)) ?_
      have t : 5 * x + (K1.length + 1) - 1 = 5 * x + K1.length := by omega
      simp (disch := omega) only [List.length_append, List.length_cons, List.length_nil, Nat.zero_add, nI_clamp, ef_m5, nI_add, ef_s1, t, q1]
      obtain ⟨BB, hBB⟩ := ef_lL_last l1
      rw [hBB, ef_la_app] at fin
      simp only [List.length_append, List.length_cons, List.length_nil, Nat.zero_add] at fin
      exact ⟨vp_in_nI (by omega) (by decide), nm_e fin⟩
theorem ef_lastKey {post : Int32 → Prop} {R r k : Nat} {Lt : List (Nat × Nat)} {Pt : List Nat} (hk : k < 32768) (hT : ef_Rn (kc, ks, vs, bl) R (r, Lt, Pt)) (hS : ef_So Lt) (hr : rt = nI r)
    (G : ∀ A B, Lt = A ++ B → (∀ e ∈ A, e.1 ≤ k) → (∀ e ∈ B, k < e.1) → post (ef_la A)) : wpX_lastKey post (rt, we, wt, kc, ks, vs, bl, fr, nd, sr, sn, sv, dk, hd, wp, wi, wq) (nI k) := by
  subst hr
  obtain ⟨K, cs, hA, rfl⟩ := ef_At_root hT
  unfold wpX_lastKey
  exact ⟨R + 2, ef_lk_lp hk G R [] r [] [] [] K cs Pt (R + 2) hA (by simpa using hS) (fun e he => by simp at he) (fun e he => by simp at he) (by simp) (by omega)⟩
end
end
section
/-! ownership of pages, new pages in a tree, copying the way -/
def ef_Ow (fr : Nat → Int32) (Pt PS : List Nat) : Prop :=
  (∀ y, y < 110 → fr y = 0 ∨ fr y = 1) ∧ (∀ y ∈ Pt, fr y = 1 ∨ y ∈ PS) ∧ (∀ y ∈ PS, fr y = 0) ∧ (∀ y, y < 110 → fr y = 1 → y ∈ Pt)
def ef_Sd (H : ef_H) (r : Int32) (LS : List (Nat × Nat)) (PS : List Nat) : Prop :=
  LS.length ≤ 80 ∧ ef_So LS ∧ PS.Nodup ∧ (∀ y ∈ PS, y < 110) ∧ ((r = -1 ∧ LS = [] ∧ PS = []) ∨ ∃ x R, r = nI x ∧ ef_Rn H R (x, LS, PS))
theorem ef_Sd_ag {H H' : ef_H} {r : Int32} {LS : List (Nat × Nat)} {PS : List Nat} (ha : ∀ y ∈ PS, ef_Ag H H' y) (h : ef_Sd H r LS PS) : ef_Sd H' r LS PS := by
  obtain ⟨h1, h2, h4, h5, h3⟩ := h
  refine ⟨h1, h2, h4, h5, ?_⟩
  rcases h3 with h3 | ⟨x, R, e, h3⟩
  · exact Or.inl h3
  · exact Or.inr ⟨x, R, e, ef_Rn_ag ha h3⟩
theorem ef_Sd_wk {H : ef_H} {r : Int32} {LS : List (Nat × Nat)} {PS : List Nat} (h : ef_Sd H r LS PS) : ef_Wk H r PS ∧ PS.length ≤ 41 := by
  obtain ⟨h1, h2, h4, h5, h3⟩ := h
  rcases h3 with ⟨e, _, e2⟩ | ⟨x, R, e, h3⟩
  · exact ⟨Or.inl ⟨e, e2⟩, by rw [e2]; simp⟩
  · have := ef_Rn_cnt h3
    dsimp only at this
    exact ⟨Or.inr ⟨x, LS, R, e, ef_Rn_5 h3, by omega⟩, by omega⟩
def ef_Inv (kc ks vs bl fr sr sn sv : Nat → Int32) (LS : List (Nat × Nat)) (PS Pt : List Nat) : Prop :=
  ef_Ow fr Pt PS ∧ Pt.Nodup ∧ (∀ y ∈ Pt, y < 110) ∧ ef_Sd (kc, ks, vs, bl) (sr (ef_vpl sn sv)) LS PS
theorem ef_Inv_perm {kc ks vs bl fr sr sn sv : Nat → Int32} {LS : List (Nat × Nat)} {PS Pt Pt' : List Nat} (p : Pt.Perm Pt') (h : ef_Inv kc ks vs bl fr sr sn sv LS PS Pt) : ef_Inv kc ks vs bl fr sr sn sv LS PS Pt' := by
  obtain ⟨⟨a, b, c, d⟩, e, f, g⟩ := h
  exact ⟨⟨a, fun y hy => b y (p.mem_iff.mpr hy), c, fun y h1 h2 => p.mem_iff.mp (d y h1 h2)⟩, p.nodup e, fun y hy => f y (p.mem_iff.mpr hy), g⟩
/-- the other arrays may change outside of the saved tree -/
theorem ef_Inv_ag {kc ks vs bl fr sr sn sv kc' ks' vs' bl' : Nat → Int32} {LS : List (Nat × Nat)} {PS Pt : List Nat} (ha : ∀ y ∈ PS, ef_Ag (kc, ks, vs, bl) (kc', ks', vs', bl') y)
    (h : ef_Inv kc ks vs bl fr sr sn sv LS PS Pt) : ef_Inv kc' ks' vs' bl' fr sr sn sv LS PS Pt := ⟨h.1, h.2.1, h.2.2.1, ef_Sd_ag ha h.2.2.2⟩
/-- a page that is not fresh may leave -/
theorem ef_Inv_drop {kc ks vs bl fr sr sn sv : Nat → Int32} {LS : List (Nat × Nat)} {PS Pt : List Nat} {x : Nat} (h : ef_Inv kc ks vs bl fr sr sn sv LS PS (x :: Pt)) (hx : fr x = 0) : ef_Inv kc ks vs bl fr sr sn sv LS PS Pt := by
  obtain ⟨⟨a, b, c, d⟩, e, f, g⟩ := h
  refine ⟨⟨a, fun y hy => b y (List.mem_cons_of_mem _ hy), c, fun y h1 h2 => ?_⟩, (List.nodup_cons.mp e).2, fun y hy => f y (List.mem_cons_of_mem _ hy), g⟩
  rcases List.mem_cons.mp (d y h1 h2) with rfl | h
  · rw [hx] at h2
    exact absurd h2 (by decide)
  · exact h
/-- a fresh page leaves and is no longer fresh -/
theorem ef_Inv_free {kc ks vs bl fr sr sn sv : Nat → Int32} {LS : List (Nat × Nat)} {PS Pt : List Nat} {x : Nat} (h : ef_Inv kc ks vs bl fr sr sn sv LS PS (x :: Pt)) : ef_Inv kc ks vs bl (upd fr x 0) sr sn sv LS PS Pt := by
  obtain ⟨⟨a, b, c, d⟩, e, f, g⟩ := h
  have hn := List.nodup_cons.mp e
  refine ⟨⟨fun y hy => ?_, fun y hy => ?_, fun y hy => ?_, fun y h1 h2 => ?_⟩, hn.2, fun y hy => f y (List.mem_cons_of_mem _ hy), g⟩
  · by_cases e : y = x
    · rw [e, pk_us]; exact Or.inl rfl
    · rw [pk_un e]; exact a y hy
  · rw [pk_un (fun e : y = x => hn.1 (e ▸ hy))]
    exact b y (List.mem_cons_of_mem _ hy)
  · by_cases e : y = x
    · rw [e, pk_us]
    · rw [pk_un e]; exact c y hy
  · by_cases e : y = x
    · rw [e, pk_us] at h2
      exact absurd h2 (by decide)
    · rw [pk_un e] at h2
      rcases List.mem_cons.mp (d y h1 h2) with rfl | h
      · exact absurd rfl e
      · exact h
theorem ef_Inv_fr {kc ks vs bl fr sr sn sv : Nat → Int32} {LS : List (Nat × Nat)} {PS Pt : List Nat} {x : Nat} (h : ef_Inv kc ks vs bl fr sr sn sv LS PS Pt) (hx : fr x = 1) : x ∉ PS := fun hs => by
  have := h.1.2.2.1 x hs
  rw [hx] at this
  exact absurd this (by decide)
section
variable {rt we wt : Int32} {kc ks vs bl fr nd sr sn sv dk hd wp wi wq : Nat → Int32}
theorem ef_newP {post : Int32 → SX → Prop} {P PS Pt : List Nat} {LS : List (Nat × Nat)} (hI : ef_Inv kc ks vs bl fr sr sn sv LS PS Pt) (hw : ef_Wk (kc, ks, vs, bl) rt P) (hP : ∀ y ∈ P, y ∈ Pt) (hl : Pt.length ≤ 60)
    (K : ∀ r nd' wt' wq', r < 110 → r ∉ Pt → r ∉ PS → (∀ y, y ≠ r → ef_Ag (kc, ks, vs, bl) (upd kc r 0, ks, vs, upd bl (6 * r) (-1)) y) →
      ef_Inv (upd kc r 0) ks vs (upd bl (6 * r) (-1)) (upd fr r 1) sr sn sv LS PS (r :: Pt) →
      post (nI r) (rt, we, wt', upd kc r 0, ks, vs, upd bl (6 * r) (-1), upd fr r 1, nd', sr, sn, sv, dk, hd, wp, wi, wq')) : wpX_newPage post (rt, we, wt, kc, ks, vs, bl, fr, nd, sr, sn, sv, dk, hd, wp, wi, wq) := by
  have hI' := hI
  obtain ⟨⟨a, b, c, d⟩, e, f, g⟩ := hI
  obtain ⟨w1, w2⟩ := ef_Sd_wk g
  refine ef_newPage (N := Pt ++ PS) hw w1 a (by rw [List.length_append]; omega) (fun y hy h => ?_) (fun r nd' wt' wq' hr hfr h1 h2 => ?_)
  · rw [List.mem_append]
    rcases h with h | h | h
    · rcases a y hy with h0 | h0
      · exact absurd h0 h
      · exact Or.inl (d y hy h0)
    · exact Or.inl (hP y h)
    · exact Or.inr h
  · have hrt : r ∉ Pt := fun h => by
      rcases b r h with h | h
      · rw [hfr] at h; exact absurd h (by decide)
      · exact h2 h
    have hag : ∀ y, y ≠ r → ef_Ag (kc, ks, vs, bl) (upd kc r 0, ks, vs, upd bl (6 * r) (-1)) y := fun y hy => ⟨pk_un hy, fun _ _ _ => ⟨rfl, rfl⟩, fun _ _ _ => pk_un (by omega)⟩
    refine K r nd' wt' wq' hr hrt h2 hag ⟨⟨fun y hy => ?_, fun y hy => ?_, fun y hy => ?_, fun y h3 h4 => ?_⟩, List.nodup_cons.mpr ⟨hrt, e⟩, fun y hy => ?_, ef_Sd_ag (fun y hy => hag y (fun e => h2 (e ▸ hy))) g⟩
    · by_cases e : y = r
      · rw [e, pk_us]; exact Or.inr rfl
      · rw [pk_un e]; exact a y hy
    · rcases List.mem_cons.mp hy with rfl | hy
      · exact Or.inl pk_us
      · rw [pk_un (fun e : y = r => hrt (e ▸ hy))]
        exact b y hy
    · rw [pk_un (fun e : y = r => h2 (e ▸ hy))]
      exact c y hy
    · by_cases e : y = r
      · rw [e]; exact List.mem_cons_self ..
      · rw [pk_un e] at h4
        exact List.mem_cons_of_mem _ (d y h3 h4)
    · rcases List.mem_cons.mp hy with rfl | hy
      · exact hr
      · exact f y hy
theorem ef_freshC {post : Int32 → SX → Prop} {x n : Nat} {P PS Pt : List Nat} {LS : List (Nat × Nat)} (hI : ef_Inv kc ks vs bl fr sr sn sv LS PS Pt) (hw : ef_Wk (kc, ks, vs, bl) rt P) (hP : ∀ y ∈ P, y ∈ Pt) (hl : Pt.length ≤ 60)
    (hx : x ∈ Pt) (hk : kc x = nI n) (hn : n ≤ 5)
    (K1 : fr x = 1 → post (nI x) (rt, we, wt, kc, ks, vs, bl, fr, nd, sr, sn, sv, dk, hd, wp, wi, wq))
    (K2 : ∀ r nd' wt' wq' kc' ks' vs' bl', fr x = 0 → r < 110 → r ∉ Pt → r ∉ PS → (∀ y, y ≠ r → ef_Ag (kc, ks, vs, bl) (kc', ks', vs', bl') y) → (∀ KK C, ef_Pg (kc, ks, vs, bl) x KK C → ef_Pg (kc', ks', vs', bl') r KK C) → kc' r = nI n →
      ef_Inv kc' ks' vs' bl' (upd fr r 1) sr sn sv LS PS (r :: Pt) →
      post (nI r) (rt, we, wt', kc', ks', vs', bl', upd fr r 1, nd', sr, sn, sv, dk, hd, wp, wi, wq')) : wpX_freshCopy post (rt, we, wt, kc, ks, vs, bl, fr, nd, sr, sn, sv, dk, hd, wp, wi, wq) (nI x) := by
  obtain ⟨⟨a, b, c, d⟩, e, f, g⟩ := hI
  obtain ⟨w1, w2⟩ := ef_Sd_wk g
  have hx1 := f x hx
  rcases a x hx1 with hfx | hfx
  · have hxs : x ∈ PS := by
      rcases b x hx with h | h
      · rw [hfx] at h; exact absurd h (by decide)
      · exact h
    refine ef_fresh_n (N := Pt ++ PS) hx1 hfx hk hn (Or.inr hxs) hw w1 a (by rw [List.length_append]; omega) (fun y hy h => ?_) (fun r nd' wt' wq' kc' ks' vs' bl' hr hfr h1 h2 hag hpg hkr => ?_)
    · rw [List.mem_append]
      rcases h with h | h | h
      · rcases a y hy with h0 | h0
        · exact absurd h0 h
        · exact Or.inl (d y hy h0)
      · exact Or.inl (hP y h)
      · exact Or.inr h
    · have hrt : r ∉ Pt := fun h => by
        rcases b r h with h | h
        · rw [hfr] at h; exact absurd h (by decide)
        · exact h2 h
      refine K2 r nd' wt' wq' kc' ks' vs' bl' hfx hr hrt h2 hag hpg hkr ⟨⟨fun y hy => ?_, fun y hy => ?_, fun y hy => ?_, fun y h3 h4 => ?_⟩, List.nodup_cons.mpr ⟨hrt, e⟩, fun y hy => ?_, ef_Sd_ag (fun y hy => hag y (fun e => h2 (e ▸ hy))) g⟩
      · by_cases e : y = r
        · rw [e, pk_us]; exact Or.inr rfl
        · rw [pk_un e]; exact a y hy
      · rcases List.mem_cons.mp hy with rfl | hy
        · exact Or.inl pk_us
        · rw [pk_un (fun e : y = r => hrt (e ▸ hy))]
          exact b y hy
      · rw [pk_un (fun e : y = r => h2 (e ▸ hy))]
        exact c y hy
      · by_cases e : y = r
        · rw [e]; exact List.mem_cons_self ..
        · rw [pk_un e] at h4
          exact List.mem_cons_of_mem _ (d y h3 h4)
      · rcases List.mem_cons.mp hy with rfl | hy
        · exact hr
        · exact f y hy
  · exact ef_fresh_f hx1 hfx (K1 hfx)
end
theorem ef_Cx_mem {H : ef_H} {R rt : Nat} : ∀ {w : List (Nat × Nat)} {hs s : Nat} {A B : List (Nat × Nat)} {Q : List Nat}, ef_Cx H R rt w hs s A B Q → ∀ e ∈ w, e.1 ∈ Q
  | [], _, _, _, _, _, _, e, he => by simp at he
  | (x, i) :: w, hs, s, A, B, Q, ⟨K1, K2, cs1, cs2, A', B', Q', _, _, _, _, _, _, _, _, _, h, _, _, e3⟩, e, he => by
    rw [e3]
    rcases List.mem_cons.mp he with rfl | he
    · exact List.mem_cons_self ..
    · have := ef_Cx_mem h e he
      simp [this]
/-- another page in the hole of a way: the page above points to it, or it is the root -/
def ef_Lk (H H' : ef_H) (r r2 r' : Nat) : List (Nat × Nat) → Prop
  | [] => r2 = r'
  | (z, j) :: _ => r2 = r ∧ H'.1 z = H.1 z ∧ (∀ q, 5 * z ≤ q → q < 5 * z + 5 → H'.2.1 q = H.2.1 q ∧ H'.2.2.1 q = H.2.2.1 q) ∧ (∀ q, 6 * z ≤ q → q < 6 * z + 6 → q ≠ 6 * z + j → H'.2.2.2 q = H.2.2.2 q) ∧ H'.2.2.2 (6 * z + j) = nI r'
theorem ef_Cx_top {H H' : ef_H} {R r r2 r' : Nat} {w : List (Nat × Nat)} {hs s : Nat} {A B : List (Nat × Nat)} {Q : List Nat} (h : ef_Cx H R r w hs s A B Q) (hn : Q.Nodup) (hr : r' < 110)
    (ha : ∀ q ∈ Q, (∀ j w', w ≠ (q, j) :: w') → ef_Ag H H' q) (hl : ef_Lk H H' r r2 r' w) : ef_Cx H' R r2 w hs r' A B Q := by
  cases w with
  | nil =>
    obtain ⟨rfl, rfl, rfl, rfl, rfl⟩ := h
    exact ⟨hl.symm, rfl, rfl, rfl, rfl⟩
  | cons e w =>
    obtain ⟨z, j⟩ := e
    obtain ⟨rfl, l1, l2, l3, l4⟩ := hl
    exact ef_Cx_hole h hn hr (fun y hy hyz => ha y hy (fun j' w' e => hyz (by cases e; rfl))) l1 l2 l3 l4
theorem ef_perm3 {y r : Nat} {Q0 Q0' a b : List Nat} {x : Nat} (h : (y :: Q0').Perm (r :: Q0)) : (y :: x :: (a ++ b ++ Q0')).Perm (r :: x :: (a ++ b ++ Q0)) := by
  rw [List.perm_iff_count] at *
  intro q
  have := h q
  simp only [List.count_append, List.count_cons] at *
  omega
theorem ef_Cx_mid {H H' : ef_H} {R r r2 r' y j : Nat} {w2 : List (Nat × Nat)} (hr : r' < 110) (hpg : ∀ K C, ef_Pg H y K C → ef_Pg H' r' K C) (hl : ef_Lk H H' r r2 r' w2) :
    ∀ {w1 : List (Nat × Nat)} {hs s : Nat} {A B : List (Nat × Nat)} {Q : List Nat}, ef_Cx H R r (w1 ++ (y, j) :: w2) hs s A B Q → Q.Nodup → (∀ q ∈ Q, (∀ j w', w2 ≠ (q, j) :: w') → ef_Ag H H' q) →
    ∃ Q', (y :: Q').Perm (r' :: Q) ∧ ef_Cx H' R r2 (w1 ++ (r', j) :: w2) hs s A B Q'
  | [], hs, s, A, B, Q, ⟨K1, K2, cs1, cs2, A', B', Q', p1, p2, p3, p4, p5, p6, p7, p8, p9, p, e1, e2, e3⟩, hn, ha => by
    subst e3
    have hn' := List.nodup_cons.mp hn
    have hn2 := List.nodup_append.mp hn'.2
    have hz : ∀ q ∈ ef_fl cs1 ++ ef_fl cs2, ef_Ag H H' q := fun q hq => ha q (by simp only [List.mem_cons, List.mem_append] at *; exact Or.inr (Or.inl hq)) (fun j' w' e => by
      have := ef_Cx_mem p (q, j') (by rw [e]; exact List.mem_cons_self ..)
      exact hn2.2.2 q hq q this rfl)
    refine ⟨r' :: (ef_fl cs1 ++ ef_fl cs2 ++ Q'), List.Perm.swap .., K1, K2, cs1, cs2, A', B', Q', hpg _ _ p1, p2, p3, p4, p5, p6, p7, fun c hc => ?_, fun c hc => ?_, ?_, e1, e2, rfl⟩
    · exact ef_Tr_ag (fun q hq => hz q (by simp [ef_fl_mem hc hq])) (p8 c hc)
    · exact ef_Tr_ag (fun q hq => hz q (by simp [ef_fl_mem hc hq])) (p9 c hc)
    · exact ef_Cx_top p hn2.2.1 hr (fun q hq hne => ha q (by simp [hq]) hne) hl
  | (x, i) :: w1, hs, s, A, B, Q, ⟨K1, K2, cs1, cs2, A', B', Q', p1, p2, p3, p4, p5, p6, p7, p8, p9, p, e1, e2, e3⟩, hn, ha => by
    subst e3
    have hn' := List.nodup_cons.mp hn
    have hn2 := List.nodup_append.mp hn'.2
    obtain ⟨Q0', q1, q2⟩ := ef_Cx_mid hr hpg hl p hn2.2.1 (fun q hq hne => ha q (by simp [hq]) hne)
    have hz : ∀ q, q ∈ x :: (ef_fl cs1 ++ ef_fl cs2) → ef_Ag H H' q := fun q hq => ha q (by simp only [List.mem_cons, List.mem_append] at *; rcases hq with hq | hq; exact Or.inl hq; exact Or.inr (Or.inl hq)) (fun j' w' e => by
      have hm := ef_Cx_mem p (q, j') (by rw [e]; simp)
      rcases List.mem_cons.mp hq with rfl | hq
      · exact hn'.1 (List.mem_append_right _ hm)
      · exact hn2.2.2 q hq q hm rfl)
    refine ⟨x :: (ef_fl cs1 ++ ef_fl cs2 ++ Q0'), ef_perm3 q1, K1, K2, cs1, cs2, A', B', Q0', ef_Pg_ag (hz x (by simp)) p1, p2, p3, p4, p5, p6, p7, fun c hc => ?_, fun c hc => ?_, q2, e1, e2, rfl⟩
    · exact ef_Tr_ag (fun q hq => hz q (by simp [ef_fl_mem hc hq])) (p8 c hc)
    · exact ef_Tr_ag (fun q hq => hz q (by simp [ef_fl_mem hc hq])) (p9 c hc)
theorem ef_Wy_app {wp wi : Nat → Int32} : ∀ {a b : List (Nat × Nat)}, ef_Wy wp wi (a ++ b) → ef_Wy wp wi b
  | [], _, h => h
  | _ :: _, _, h => ef_Wy_app h.2.2
theorem ef_Wy_mid {wp wi : Nat → Int32} {y j r : Nat} {b : List (Nat × Nat)} : ∀ {a : List (Nat × Nat)}, ef_Wy wp wi (a ++ (y, j) :: b) → ef_Wy (upd wp b.length (nI r)) wi (a ++ (r, j) :: b)
  | [], h => ⟨pk_us, h.2.1, ef_Wy_ext (fun q hq => ⟨pk_un (by omega), rfl⟩) h.2.2⟩
  | (x, i) :: a, h => by
    obtain ⟨h1, h2, h3⟩ := h
    have e : (a ++ (y, j) :: b).length = (a ++ (r, j) :: b).length := by simp
    refine ⟨?_, ?_, ef_Wy_mid h3⟩
    · show upd wp b.length (nI r) (a ++ (r, j) :: b).length = nI x
      rw [← e, pk_un (by simp only [List.length_append, List.length_cons]; omega)]
      exact h1
    · show wi (a ++ (r, j) :: b).length = nI i
      rw [← e]
      exact h2
theorem ef_At_wk {H : ef_H} {R r h x : Nat} {w A B Q K cs P} (i : ef_At H R r w h x A B Q K cs P) (hl : (A ++ (ef_mx K cs ++ B)).length ≤ 80) : (P ++ Q).length ≤ 41 ∧ ∃ P', P'.Perm (P ++ Q) ∧ ef_Wk H (nI r) P' := by
  obtain ⟨i1, i2, i3, i4, i5, i6⟩ := i
  have c1 := ef_Cx_cnt i1
  have c2 := ef_Ch_cnt i3
  have e : P = x :: ef_fl cs := i2.2.2
  have hb : (P ++ Q).length ≤ 41 := by
    rw [e]
    simp only [List.length_append, List.length_cons] at *
    omega
  obtain ⟨P', p1, p2⟩ := ef_plug5 i1 (ef_Tr_iff.mpr ⟨K, cs, by omega, by omega, i2, ef_Ch_mono (by omega) (by omega) i3⟩)
  exact ⟨hb, P', p1, Or.inr ⟨r, _, R, rfl, p2, by rw [p1.length_eq]; omega⟩⟩
end
section
/-! the way is copied -/
theorem ef_Cx_sub {H : ef_H} {R r y j : Nat} {w2 : List (Nat × Nat)} : ∀ {w1 : List (Nat × Nat)} {hs s : Nat} {A B : List (Nat × Nat)} {Q : List Nat}, ef_Cx H R r (w1 ++ (y, j) :: w2) hs s A B Q →
    (∃ K C, ef_Pg H y K C) ∧ ∃ hs' A' B' Q', ef_Cx H R r w2 hs' y A' B' Q'
  | [], _, _, _, _, _, ⟨K1, K2, cs1, cs2, A', B', Q', p1, _, _, _, _, _, _, _, _, p, _⟩ => ⟨⟨_, _, p1⟩, _, A', B', Q', p⟩
  | (_, _) :: _, _, _, _, _, _, ⟨_, _, _, _, _, _, _, _, _, _, _, _, _, _, _, _, p, _⟩ => ef_Cx_sub p
theorem ef_Cx_ptr {H : ef_H} {R r z j : Nat} {w : List (Nat × Nat)} {hs s : Nat} {A B : List (Nat × Nat)} {Q : List Nat} (h : ef_Cx H R r ((z, j) :: w) hs s A B Q) : z < 110 ∧ j ≤ 4 ∧ s < 110 ∧ H.2.2.2 (6 * z + j) = nI s := by
  obtain ⟨K1, K2, cs1, cs2, A', B', Q', p1, p2, p3, p4, p5, _⟩ := h
  have := ef_Pg_ch p1
  rw [List.length_map, p2] at this
  exact ⟨p1.1, by omega, this.2, this.1⟩
theorem ef_cw_step {H H2 : ef_H} {R r r2 r' h x y j i : Nat} {w A B Q K cs P} {F1 F2 : List (Nat × Nat)} (hA : ef_At H R r w h x A B Q K cs P) (hn : (P ++ Q).Nodup) (hr : r' < 110) (hF : F1 ++ (y, j) :: F2 = (x, i) :: w)
    (hl : ef_Lk H H2 r r2 r' F2) (hag : ∀ q ∈ P ++ Q, (∀ j w', F2 ≠ (q, j) :: w') → ef_Ag H H2 q) (hpg : ∀ K C, ef_Pg H y K C → ef_Pg H2 r' K C) :
    ∃ w' x' Q' P', ef_At H2 R r2 w' h x' A B Q' K cs P' ∧ F1 ++ (r', j) :: F2 = (x', i) :: w' ∧ (y :: (P' ++ Q')).Perm (r' :: (P ++ Q)) ∧ w'.map (·.2) = w.map (·.2) ∧ w'.length = w.length := by
  obtain ⟨i1, i2, i3, i4, i5, i6⟩ := hA
  have eP : P = x :: ef_fl cs := i2.2.2
  subst eP
  have hn2 := List.nodup_append.mp hn
  have hz : ∀ q ∈ x :: ef_fl cs, (∀ e ∈ F2, e ∈ w) → ef_Ag H H2 q := fun q hq hs => hag q (List.mem_append_left _ hq) (fun j' w' e => by
    have := ef_Cx_mem i1 (q, j') (hs _ (by rw [e]; exact List.mem_cons_self ..))
    exact hn2.2.2 q hq q this rfl)
  cases F1 with
  | nil =>
    simp only [List.nil_append, List.cons.injEq, Prod.mk.injEq] at hF
    obtain ⟨⟨rfl, rfl⟩, rfl⟩ := hF
    refine ⟨F2, r', Q, r' :: ef_fl cs, ⟨?_, ⟨hpg _ _ i2.1, rfl, rfl⟩, ef_Ch_ag (fun q hq => hz q (List.mem_cons_of_mem _ hq) (fun _ h => h)) i3, i4, i5, i6⟩, rfl, List.Perm.swap .., rfl, rfl⟩
    exact ef_Cx_top i1 hn2.2.1 hr (fun q hq hne => hag q (List.mem_append_right _ hq) hne) hl
  | cons e F1 =>
    simp only [List.cons_append, List.cons.injEq] at hF
    obtain ⟨rfl, rfl⟩ := hF
    obtain ⟨Q', q1, q2⟩ := ef_Cx_mid hr hpg hl i1 hn2.2.1 (fun q hq hne => hag q (List.mem_append_right _ hq) hne)
    have hs : ∀ e ∈ F2, e ∈ F1 ++ (y, j) :: F2 := fun e he => by simp [he]
    refine ⟨F1 ++ (r', j) :: F2, x, Q', x :: ef_fl cs, ⟨q2, ⟨ef_Pg_ag (hz x (List.mem_cons_self ..) hs) i2.1, rfl, rfl⟩, ef_Ch_ag (fun q hq => hz q (List.mem_cons_of_mem _ hq) hs) i3, i4, i5, i6⟩, rfl, ?_, by simp, by simp⟩
    rw [List.perm_iff_count] at *
    intro q
    have := q1 q
    simp only [List.count_append, List.count_cons] at *
    omega
section
variable {rt we wt : Int32} {kc ks vs bl fr nd sr sn sv dk hd wp wi wq : Nat → Int32}
theorem ef_cw_lp {post : SX → Prop} {R h i l0 : Nat} {A B K : List (Nat × Nat)} {cs : List ef_T} {LS : List (Nat × Nat)} {PS ids : List Nat} (hl : (A ++ (ef_mx K cs ++ B)).length ≤ 80) (hl0 : l0 ≤ 7)
    (G : ∀ r w x Q P wt kc ks vs bl fr nd wp wq, ef_At (kc, ks, vs, bl) R r w h x A B Q K cs P → ef_Wy wp wi ((x, i) :: w) → w.map (·.2) = ids → w.length + 1 = l0 → (∀ e ∈ (x, i) :: w, fr e.1 = 1) →
      ef_Inv kc ks vs bl fr sr sn sv LS PS (P ++ Q) → post (nI r, nI l0, wt, kc, ks, vs, bl, fr, nd, sr, sn, sv, dk, hd, wp, wi, wq)) :
    ∀ (k : Nat) (F1 F2 : List (Nat × Nat)) (r : Nat) (w : List (Nat × Nat)) (x : Nat) (Q P : List Nat) (wt : Int32) (kc ks vs bl fr nd wp wq : Nat → Int32) (f : Nat), F1.length = k → k < f → F1 ++ F2 = (x, i) :: w →
      ef_At (kc, ks, vs, bl) R r w h x A B Q K cs P → ef_Wy wp wi ((x, i) :: w) → w.map (·.2) = ids → w.length + 1 = l0 → (∀ e ∈ F2, fr e.1 = 1) → ef_Inv kc ks vs bl fr sr sn sv LS PS (P ++ Q) →
      wX_copyWay_2 post f (nI F2.length) (nI r) (nI l0) wt kc ks vs bl fr nd sr sn sv dk hd wp wi wq := by
  intro k
  induction k with
  | zero =>
    intro F1 F2 r w x Q P wt kc ks vs bl fr nd wp wq f hk hf hF hA hW hid hlw hfr hI
    obtain ⟨f, rfl⟩ : ∃ g, f = g + 1 := ⟨f - 1, by omega⟩
    obtain rfl : F1 = [] := List.eq_nil_of_length_eq_zero hk
    rw [List.nil_append] at hF
    subst hF
    rw [wX_copyWay_2]
    refine br_t (nI_le (by rw [List.length_cons]; omega) (by rw [List.length_cons]; omega)) ?_
    exact G r w x Q P wt kc ks vs bl fr nd wp wq hA hW hid hlw hfr hI
  | succ k ih =>
    intro F1 F2 r w x Q P wt kc ks vs bl fr nd wp wq f hk hf hF hA hW hid hlw hfr hI
    obtain ⟨f, rfl⟩ : ∃ g, f = g + 1 := ⟨f - 1, by omega⟩
    rcases List.eq_nil_or_concat F1 with rfl | ⟨F1, ⟨y, j⟩, rfl⟩
    · simp at hk
    rw [List.concat_eq_append] at *
    rw [List.length_append, List.length_singleton] at hk
    rw [List.append_assoc, List.singleton_append] at hF
    have hlF : F1.length + (F2.length + 1) = l0 := by
      have := congrArg List.length hF
      simp only [List.length_append, List.length_cons] at this
      omega
    have hW' := hW
    rw [← hF] at hW'
    have hy : wp F2.length = nI y := (ef_Wy_app hW').1
    obtain ⟨hb, P', p1, p2⟩ := ef_At_wk hA hl
    -- the page and the context above it
    have hsub : (∃ KK C, ef_Pg (kc, ks, vs, bl) y KK C) ∧ y ∈ P ++ Q ∧ ∃ hs' A' B' Q', ef_Cx (kc, ks, vs, bl) R r F2 hs' y A' B' Q' := by
      cases F1 with
      | nil =>
        simp only [List.nil_append, List.cons.injEq, Prod.mk.injEq] at hF
        obtain ⟨⟨rfl, rfl⟩, rfl⟩ := hF
        refine ⟨⟨_, _, hA.2.1.1⟩, List.mem_append_left _ ?_, _, _, _, _, hA.1⟩
        rw [show P = y :: ef_fl cs from hA.2.1.2.2]
        exact List.mem_cons_self ..
      | cons e F1 =>
        simp only [List.cons_append, List.cons.injEq] at hF
        obtain ⟨rfl, rfl⟩ := hF
        have := ef_Cx_sub hA.1
        exact ⟨this.1, List.mem_append_right _ (ef_Cx_mem hA.1 (y, j) (by simp)), this.2⟩
    obtain ⟨⟨KK, C, hpg⟩, hyP, hs', A', B', Q0, hcx⟩ := hsub
    have hy1 := hpg.1
    have hkc : kc y = nI KK.length := hpg.2.2.2.2.2.1
    rw [wX_copyWay_2]
    refine br_f (nI_ge (by omega) (by omega)) ?_
    simp (disch := omega) only [nI_clamp, hy]
    refine ⟨vp_in_nI (by omega) (by decide), ?_⟩
    refine ef_freshC hI p2 (fun q hq => p1.mem_iff.mp hq) (by omega) hyP hkc hpg.2.1 (fun hfy => ?_) (fun r' nd' wt' wq' kc' ks' vs' bl' hfy hr hrP hrS hag hpg' hkr hI' => ?_)
    · -- it is fresh already
      simp (disch := omega) only [nI_clamp, ef_t8, ef_nb, ef_upd_same hy]
      refine ⟨vp_in_nI (by omega) (by decide), nm_e ?_⟩
      have hfr' : ∀ e ∈ (y, j) :: F2, fr e.1 = 1 := fun e he => by
        rcases List.mem_cons.mp he with rfl | he
        · exact hfy
        · exact hfr e he
      have next := ih F1 ((y, j) :: F2) r w x Q P wt kc ks vs bl fr nd wp wq f (by omega) (by omega) hF hA hW hid hlw hfr' hI
      cases F2 with
      | nil =>
        obtain ⟨rfl, _⟩ := hcx
        exact br_t rfl (nm_e next)
      | cons e F2 =>
        obtain ⟨z, jz⟩ := e
        obtain ⟨z1, z2, z3, z4⟩ := ef_Cx_ptr hcx
        obtain ⟨wz1, wz2, _⟩ := (ef_Wy_app hW').2.2
        have z4 : bl (6 * z + jz) = nI y := z4
        simp only [List.length_cons] at *
        refine br_f (nI_ne0 (by omega) (by omega)) ?_
        simp (disch := omega) only [nI_pred, nI_clamp, wz1, wz2, ef_m6, nI_add, nI_1, ef_upd_same z4]
        exact ⟨vp_in_nI (by omega) (by decide), vp_in_nI (by omega) (by decide), vp_in_nI (by omega) (by decide), nm_e (nm_e next)⟩
    · -- a copy
      simp (disch := omega) only [nI_clamp, ef_t8, ef_nb]
      refine ⟨vp_in_nI (by omega) (by decide), nm_e ?_⟩
      have hWn := ef_Wy_mid (r := r') hW'
      have hne : ∀ q ∈ P ++ Q, q ≠ r' := fun q hq e => hrP (e ▸ hq)
      have hfr' : ∀ e ∈ (r', j) :: F2, upd fr r' 1 e.1 = 1 := fun e he => by
        rcases List.mem_cons.mp he with rfl | he
        · exact pk_us
        · by_cases e1 : e.1 = r'
          · rw [e1, pk_us]
          · rw [pk_un e1]; exact hfr e he
      have hfy' : upd fr r' 1 y = 0 := by rw [pk_un (hne y hyP)]; exact hfy
      cases F2 with
      | nil =>
        obtain ⟨w', x', Q', P2, s1, s2, s3, s4, s5⟩ := ef_cw_step (r2 := r') hA hI.2.1 hr hF rfl (fun q hq _ => hag q (hne q hq)) hpg'
        rw [s2] at hWn
        exact br_t rfl (nm_e (ih F1 [(r', j)] r' w' x' Q' P2 _ _ _ _ _ _ _ _ _ f (by omega) (by omega) s2 s1 hWn (s4.trans hid) (by omega) hfr' (ef_Inv_drop (ef_Inv_perm s3.symm hI') hfy')))
      | cons e F2 =>
        obtain ⟨z, jz⟩ := e
        obtain ⟨z1, z2, z3, z4⟩ := ef_Cx_ptr hcx
        obtain ⟨wz1, wz2, _⟩ := (ef_Wy_app hW').2.2
        have hzF : z ∈ P ++ Q := List.mem_append_right _ (ef_Cx_mem hA.1 (z, jz) (by
          cases F1 with
          | nil =>
            simp only [List.nil_append, List.cons.injEq] at hF
            rw [← hF.2]
            simp
          | cons e F1 =>
            simp only [List.cons_append, List.cons.injEq] at hF
            rw [← hF.2]
            simp))
        have hzr := hne z hzF
        have hzS : z ∉ PS := ef_Inv_fr hI (hfr (z, jz) (List.mem_cons_self ..))
        have wz1' : upd wp (F2.length + 1) (nI r') F2.length = nI z := by rw [pk_un (by omega)]; exact wz1
        simp only [List.length_cons] at *
        refine br_f (nI_ne0 (by omega) (by omega)) ?_
        simp (disch := omega) only [nI_pred, nI_clamp, wz1', wz2, ef_m6, nI_add, nI_1]
        have hag2 : ∀ q, q ≠ z → ef_Ag (kc', ks', vs', bl') (kc', ks', vs', upd bl' (6 * z + jz) (nI r')) q := fun q hq => ⟨rfl, fun _ _ _ => ⟨rfl, rfl⟩, fun _ _ _ => pk_un (by omega)⟩
        obtain ⟨a1, a2, a3⟩ := hag z hzr
        obtain ⟨w', x', Q', P2, s1, s2, s3, s4, s5⟩ := ef_cw_step (H2 := (kc', ks', vs', upd bl' (6 * z + jz) (nI r'))) (r2 := r) hA hI.2.1 hr hF ⟨rfl, a1, a2, fun q h1 h2 h3 => (pk_un h3).trans (a3 q h1 h2), pk_us⟩
          (fun q hq hn => ef_Ag_trans (hag q (hne q hq)) (hag2 q (fun e => hn jz F2 (by rw [e])))) (fun KK C h => ef_Pg_ag (hag2 r' (fun e => hzr e.symm)) (hpg' KK C h))
        rw [s2] at hWn
        refine ⟨vp_in_nI (by omega) (by decide), vp_in_nI (by omega) (by decide), vp_in_nI (by omega) (by decide), nm_e (nm_e ?_)⟩
        exact ih F1 ((r', j) :: (z, jz) :: F2) r w' x' Q' P2 _ _ _ _ _ _ _ _ _ f (by omega) (by omega) s2 s1 hWn (s4.trans hid) (by omega) hfr'
          (ef_Inv_drop (ef_Inv_perm s3.symm (ef_Inv_ag (fun q hq => hag2 q (fun e => hzS (e ▸ hq))) hI')) hfy')
theorem ef_copyWay {post : SX → Prop} {R r h x i : Nat} {A B K : List (Nat × Nat)} {cs : List ef_T} {LS : List (Nat × Nat)} {w : List (Nat × Nat)} {PS P Q : List Nat} (hl : (A ++ (ef_mx K cs ++ B)).length ≤ 80) (hl0 : w.length ≤ 6)
    (hA : ef_At (kc, ks, vs, bl) R r w h x A B Q K cs P) (hW : ef_Wy wp wi ((x, i) :: w)) (hI : ef_Inv kc ks vs bl fr sr sn sv LS PS (P ++ Q))
    (G : ∀ r w' x Q P wt kc ks vs bl fr nd wp wq, ef_At (kc, ks, vs, bl) R r w' h x A B Q K cs P → ef_Wy wp wi ((x, i) :: w') → w'.map (·.2) = w.map (·.2) → w'.length = w.length → (∀ e ∈ (x, i) :: w', fr e.1 = 1) →
      ef_Inv kc ks vs bl fr sr sn sv LS PS (P ++ Q) → post (nI r, nI (w.length + 1), wt, kc, ks, vs, bl, fr, nd, sr, sn, sv, dk, hd, wp, wi, wq)) :
    wpX_copyWay post (nI r, nI (w.length + 1), wt, kc, ks, vs, bl, fr, nd, sr, sn, sv, dk, hd, wp, wi, wq) := by
  unfold wpX_copyWay
  exact ⟨w.length + 2, ef_cw_lp (l0 := w.length + 1) (ids := w.map (·.2)) hl (by omega) (fun r w' x Q P wt kc ks vs bl fr nd wp wq g1 g2 g3 g4 g5 g6 => G r w' x Q P wt kc ks vs bl fr nd wp wq g1 g2 g3 (by omega) g5 g6)
    (w.length + 1) ((x, i) :: w) [] r w x Q P wt kc ks vs bl fr nd wp wq _ rfl (by omega) (by simp) hA hW rfl rfl (fun e he => by simp at he) hI⟩
end
end
section
/-! splitting a page -/
theorem ef_un2 {f : Nat → Int32} {i j k : Nat} {v w : Int32} (h1 : k ≠ i) (h2 : k ≠ j) : upd (upd f i v) j w k = f k := (pk_un h2).trans (pk_un h1)
theorem ef_un3 {f : Nat → Int32} {i j l k : Nat} {v w z : Int32} (h1 : k ≠ i) (h2 : k ≠ j) (h3 : k ≠ l) : upd (upd (upd f i v) j w) l z k = f k := (pk_un h3).trans (ef_un2 h1 h2)
theorem ef_Ag_mk {kc ks vs bl kc' ks' vs' bl' : Nat → Int32} {y : Nat} (h1 : kc' y = kc y) (h2 : ∀ j, 5 * y ≤ j → j < 5 * y + 5 → ks' j = ks j) (h3 : ∀ j, 5 * y ≤ j → j < 5 * y + 5 → vs' j = vs j)
    (h4 : ∀ j, 6 * y ≤ j → j < 6 * y + 6 → bl' j = bl j) : ef_Ag (kc, ks, vs, bl) (kc', ks', vs', bl') y := ⟨h1, fun j a b => ⟨h2 j a b, h3 j a b⟩, h4⟩
theorem ef_Pg_bl {kc ks vs bl bl' : Nat → Int32} {x : Nat} {K : List (Nat × Nat)} {C C' : List Nat} (h : ef_Pg (kc, ks, vs, bl) x K C) (hl : C'.length ≤ 6) (hc : ∀ c ∈ C', c < 110) (he : C' = [] → bl' (6 * x) = -1) (hs : ef_Hs bl' (6 * x) C') :
    ef_Pg (kc, ks, vs, bl') x K C' := ⟨h.1, h.2.1, hl, h.2.2.2.1, hc, h.2.2.2.2.2.1, h.2.2.2.2.2.2.1, h.2.2.2.2.2.2.2.1, he, hs⟩
theorem ef_Pg_kc {kc ks vs bl : Nat → Int32} {x : Nat} {K : List (Nat × Nat)} {C : List Nat} (h : ef_Pg (kc, ks, vs, bl) x K C) : kc x = nI K.length := h.2.2.2.2.2.1
theorem ef_Pg_Hb {kc ks vs bl : Nat → Int32} {x : Nat} {K : List (Nat × Nat)} {C : List Nat} (h : ef_Pg (kc, ks, vs, bl) x K C) : ef_Hs bl (6 * x) C := h.2.2.2.2.2.2.2.2.2
/-- the first items of a page alone -/
theorem ef_Pg_cut {kc ks vs bl kc' : Nat → Int32} {x : Nat} {K1 K2 : List (Nat × Nat)} {C1 C2 : List Nat} (h : ef_Pg (kc, ks, vs, bl) x (K1 ++ K2) (C1 ++ C2)) (hc : C1 = [] → C2 = []) (hk : kc' x = nI K1.length) :
    ef_Pg (kc', ks, vs, bl) x K1 C1 := by
  obtain ⟨a1, a2, a3, a4, a5, a6, a7, a8, a9, a10⟩ := h
  rw [List.length_append] at a2 a3
  dsimp only at a7 a8 a9 a10
  rw [List.map_append] at a7 a8
  refine ⟨a1, by omega, by omega, fun e he => a4 e (List.mem_append_left _ he), fun c hc => a5 c (List.mem_append_left _ hc), hk, (ef_Hs_app.mp a7).1, (ef_Hs_app.mp a8).1, fun e => ?_, (ef_Hs_app.mp a10).1⟩
  exact a9 (by rw [e, hc e]; rfl)
section
variable {rt we wt : Int32} {kc ks vs bl fr nd sr sn sv dk hd wp wi wq : Nat → Int32}
theorem ef_sp71 {post : SX → Prop} {x1 : Int32} {x y : Nat} (hx : x < 110) (hy : y < 110) (hne : x ≠ y) : ∀ (k i f : Nat), i + k = 3 → k < f →
    wX_split_109 post x1 (nI x) (nI y) rt we wt kc ks vs (ef_cp (vp_nar .byte) bl (6 * y) (6 * x + 3) 3) fr nd sr sn sv dk hd wp wi wq →
    wX_split_71 post x1 (nI x) (nI y) rt we wt f (nI i) kc ks vs (ef_cp (vp_nar .byte) bl (6 * y) (6 * x + 3) i) fr nd sr sn sv dk hd wp wi wq := by
  intro k
  induction k with
  | zero =>
    intro i f hi hf K
    obtain ⟨f, rfl⟩ : ∃ g, f = g + 1 := ⟨f - 1, by omega⟩
    obtain rfl : i = 3 := by omega
    rw [wX_split_71]
    exact br_t (by decide) K
  | succ k ih =>
    intro i f hi hf K
    obtain ⟨f, rfl⟩ : ∃ g, f = g + 1 := ⟨f - 1, by omega⟩
    rw [wX_split_71]
    refine br_f (nI_ge (b := 3) (by omega) (by decide)) ?_
    have e3 : ∀ n, nI n + 3 = nI (n + 3) := fun n => nI_add n 3
    simp (disch := omega) only [ef_m6, nI_add, nI_clamp, nI_1, e3]
    rw [ef_cp_up (g := vp_nar .byte) (a := bl) (d := 6 * y) (s := 6 * x + 3) (k := i) (by omega)]
    exact ⟨vp_in_nI (by omega) (by decide), vp_in_nI (by omega) (by decide), nm_e (nm_e (ih (i + 1) f (by omega) (by omega) K))⟩
/-- the upper half of a page with five items goes to a new page -/
theorem ef_split_a {post : SX → Prop} {l x : Nat} {e0 e1 e2 e3 e4 : Nat × Nat} {C1 C2 P PS Pt : List Nat} {LS : List (Nat × Nat)} (hl : l < 8) (hwp : wp l = nI x)
    (hI : ef_Inv kc ks vs bl fr sr sn sv LS PS Pt) (hw : ef_Wk (kc, ks, vs, bl) rt P) (hP : ∀ y ∈ P, y ∈ Pt) (hPt : Pt.length ≤ 60) (hxP : x ∈ Pt) (hxS : x ∉ PS)
    (hx : ef_Pg (kc, ks, vs, bl) x [e0, e1, e2, e3, e4] (C1 ++ C2)) (hC : (C1 = [] ∧ C2 = []) ∨ (C1.length = 3 ∧ C2.length = 3))
    (K : ∀ y wt' kc' ks' vs' bl' fr' nd' wq', y < 110 → y ∉ Pt → y ∉ PS → ef_Pg (upd (upd kc' y (nI 2)) x (nI 2), ks', vs', bl') x [e0, e1] C1 → ef_Pg (upd (upd kc' y (nI 2)) x (nI 2), ks', vs', bl') y [e3, e4] C2 →
      (∀ q, q ≠ x → q ≠ y → ef_Ag (kc, ks, vs, bl) (upd (upd kc' y (nI 2)) x (nI 2), ks', vs', bl') q) → ks' (5 * x + 2) = nI e2.1 → vs' (5 * x + 2) = nI e2.2 →
      ef_Inv (upd (upd kc' y (nI 2)) x (nI 2)) ks' vs' bl' fr' sr sn sv LS PS (y :: Pt) → (∀ q, q ≠ y → fr' q = fr q) → fr' y = 1 →
      wX_split_109 post (nI l) (nI x) (nI y) rt we wt' kc' ks' vs' bl' fr' nd' sr sn sv dk hd wp wi wq') :
    wpX_split post (rt, we, wt, kc, ks, vs, bl, fr, nd, sr, sn, sv, dk, hd, wp, wi, wq) (nI l) := by
  have hx1 := hx.1
  obtain ⟨k3, v3, _⟩ := ef_Pg_key (K1 := [e0, e1, e2]) hx
  obtain ⟨k4, v4, _⟩ := ef_Pg_key (K1 := [e0, e1, e2, e3]) hx
  obtain ⟨k2, v2, _⟩ := ef_Pg_key (K1 := [e0, e1]) hx
  have k3 : ks (5 * x + 3) = nI e3.1 := k3
  have v3 : vs (5 * x + 3) = nI e3.2 := v3
  have k4 : ks (5 * x + 4) = nI e4.1 := k4
  have v4 : vs (5 * x + 4) = nI e4.2 := v4
  have k2 : ks (5 * x + 2) = nI e2.1 := k2
  have v2 : vs (5 * x + 2) = nI e2.2 := v2
  have b3 := hx.2.2.2.1 e3 (by simp)
  have b4 := hx.2.2.2.1 e4 (by simp)
  unfold wpX_split
  simp (disch := omega) only [nI_clamp, hwp]
  refine ⟨vp_in_nI hl (by decide), nm_e (ef_newP hI hw hP hPt (fun y nd' wt' wq' hy hyP hyS hag hI' => ⟨3, ?_⟩))⟩
  have hne : x ≠ y := fun e => hyP (e ▸ hxP)
  have t3 : ∀ n, nI n + 3 = nI (n + 3) := fun n => nI_add n 3
  rw [wX_split_15]
  refine br_f (by decide) ?_
  simp (disch := omega) only [ef_m5, nI_add, t3, nI_clamp, Int32.add_zero, k3, v3]
  refine ⟨vp_in_nI (by omega) (by decide), vp_in_nI (by omega) (by decide), ef_putAt (i := 0) hy (by omega) b3.1 b3.2 ?_⟩
  dsimp only
  refine nm_r (e' := nI 1) rfl ?_
  have k4' : upd ks (5 * y + 0) (nI e3.1) (5 * x + 4) = nI e4.1 := by rw [pk_un (by omega)]; exact k4
  have v4' : upd vs (5 * y + 0) (nI e3.2) (5 * x + 4) = nI e4.2 := by rw [pk_un (by omega)]; exact v4
  rw [wX_split_15]
  refine br_f (nI_ge (b := 2) (by omega) (by decide)) ?_
  have t4 : 5 * x + 3 + 1 = 5 * x + 4 := by omega
  simp (disch := omega) only [ef_m5, nI_add, t3, nI_clamp, t4, k4', v4']
  refine ⟨vp_in_nI (by omega) (by decide), vp_in_nI (by omega) (by decide), ef_putAt hy (by omega) b4.1 b4.2 ?_⟩
  dsimp only
  refine nm_r (e' := nI 2) rfl ?_
  rw [wX_split_15]
  refine br_t (by decide) ?_
  -- the arrays now
  have hyk : ef_Hs (upd (upd ks (5 * y + 0) (nI e3.1)) (5 * y + 1) (nI e4.1)) (5 * y) [e3.1, e4.1] := ⟨by rw [pk_un (by omega)]; exact pk_us, pk_us, trivial⟩
  have hyv : ef_Hs (upd (upd vs (5 * y + 0) (nI e3.2)) (5 * y + 1) (nI e4.2)) (5 * y) [e3.2, e4.2] := ⟨by rw [pk_un (by omega)]; exact pk_us, pk_us, trivial⟩
  have fin : ∀ bl', ef_Hs bl' (6 * y) C2 → (C2 = [] → bl' (6 * y) = -1) → (∀ j, ¬ (6 * y ≤ j ∧ j < 6 * y + 6) → bl' j = bl j) → wX_split_109 post (nI l) (nI x) (nI y) rt we wt' (upd kc y 0) (upd (upd ks (5 * y + 0) (nI e3.1)) (5 * y + 1) (nI e4.1)) (upd (upd vs (5 * y + 0) (nI e3.2)) (5 * y + 1) (nI e4.2)) bl' (upd fr y 1) nd' sr sn sv dk hd wp wi wq' := fun bl' hb1 hb2 hb3 => by
    have hag2 : ∀ q, q ≠ x → q ≠ y → ef_Ag (kc, ks, vs, bl) (upd (upd (upd kc y 0) y (nI 2)) x (nI 2), upd (upd ks (5 * y + 0) (nI e3.1)) (5 * y + 1) (nI e4.1), upd (upd vs (5 * y + 0) (nI e3.2)) (5 * y + 1) (nI e4.2), bl') q := fun q q1 q2 =>
      ef_Ag_mk (ef_un3 q2 q2 q1) (fun j j1 j2 => ef_un2 (by omega) (by omega)) (fun j j1 j2 => ef_un2 (by omega) (by omega)) (fun j j1 j2 => hb3 j (by omega))
    have hIa : ef_Inv (upd (upd (upd kc y 0) y (nI 2)) x (nI 2)) (upd (upd ks (5 * y + 0) (nI e3.1)) (5 * y + 1) (nI e4.1)) (upd (upd vs (5 * y + 0) (nI e3.2)) (5 * y + 1) (nI e4.2)) bl' (upd fr y 1) sr sn sv LS PS (y :: Pt) := by
      refine ⟨hI'.1, hI'.2.1, hI'.2.2.1, ef_Sd_ag (fun q hq => hag2 q (fun e => hxS (e ▸ hq)) (fun e => hyS (e ▸ hq))) hI.2.2.2⟩
    refine K y wt' (upd kc y 0) _ _ bl' (upd fr y 1) nd' wq' hy hyP hyS ?_ ?_ hag2 ?_ ?_ hIa (fun q hq => pk_un hq) pk_us
    · have hxx : ef_Pg (kc, upd (upd ks (5 * y + 0) (nI e3.1)) (5 * y + 1) (nI e4.1), upd (upd vs (5 * y + 0) (nI e3.2)) (5 * y + 1) (nI e4.2), bl') x ([e0, e1] ++ [e2, e3, e4]) (C1 ++ C2) :=
        ef_Pg_ag (ef_Ag_mk rfl (fun j j1 j2 => ef_un2 (by omega) (by omega)) (fun j j1 j2 => ef_un2 (by omega) (by omega)) (fun j j1 j2 => hb3 j (by omega))) hx
      refine ef_Pg_cut hxx (fun e => ?_) pk_us
      rcases hC with ⟨_, h⟩ | ⟨h, _⟩
      · exact h
      · rw [e] at h; simp at h
    · refine ⟨hy, by simp, ?_, fun e he => hx.2.2.2.1 e ?_, fun c hc => hx.2.2.2.2.1 c (List.mem_append_right _ hc), ?_, hyk, hyv, hb2, hb1⟩
      · rcases hC with ⟨_, h⟩ | ⟨_, h⟩
        · rw [h]; simp
        · omega
      · simp only [List.mem_cons, List.not_mem_nil, or_false] at he
        rcases he with rfl | rfl <;> simp
      · show upd (upd (upd kc y 0) y (nI 2)) x (nI 2) y = nI 2
        rw [pk_un hne.symm, pk_us]
    · rw [pk_un (by omega), pk_un (by omega)]; exact k2
    · rw [pk_un (by omega), pk_un (by omega)]; exact v2
  have hHb : ef_Hs bl (6 * x) (C1 ++ C2) := ef_Pg_Hb hx
  rcases hC with ⟨rfl, rfl⟩ | ⟨c1, c2⟩
  · have hb : bl (6 * x) = -1 := ef_Pg_leaf hx
    refine ef_leaf_t hx1 (by rw [pk_un (by omega)]; exact hb) (br_f (by decide) ?_)
    exact fin _ trivial (fun _ => pk_us) (fun j hj => pk_un (by omega))
  · obtain ⟨c0, hc0, e0'⟩ := ef_Pg_inner hx (by intro e; have := congrArg List.length e; rw [List.length_append, List.length_nil] at this; omega)
    have e0' : bl (6 * x) = nI c0 := e0'
    refine ef_leaf_f hx1 (by rw [pk_un (by omega)]; exact e0') hc0 (br_t rfl ⟨4, ?_⟩)
    have hb2 := (ef_Hs_app.mp hHb).2
    rw [c1] at hb2
    have e := ef_sp71 (rt := rt) (we := we) (wt := wt') (kc := upd kc y 0) (ks := upd (upd ks (5 * y + 0) (nI e3.1)) (5 * y + 1) (nI e4.1)) (vs := upd (upd vs (5 * y + 0) (nI e3.2)) (5 * y + 1) (nI e4.2)) (bl := upd bl (6 * y) (-1)) (fr := upd fr y 1) (nd := nd') (sr := sr) (sn := sn) (sv := sv) (dk := dk) (hd := hd) (wp := wp) (wi := wi) (wq := wq') (post := post) (x1 := nI l) hx1 hy hne 3 0 4 (by omega) (by omega)
      (fin _ (ef_Hs_cp (ef_Hs_upo hb2 (by omega)) (by omega) (fun v hv => ef_nb (by have := hx.2.2.2.2.1 v (List.mem_append_right _ hv); omega))) (fun e => by rw [e] at c2; simp at c2)
        (fun j hj => (ef_cp_out (by omega)).trans (pk_un (by omega))))
    rw [ef_cp_0] at e
    exact e
end
end
section
/-! the page above takes the middle item -/
/-- as ef_At, with up to five items -/
def ef_O5 (H : ef_H) (R rt : Nat) (w : List (Nat × Nat)) (h x : Nat) (A B : List (Nat × Nat)) (Q : List Nat) (K : List (Nat × Nat)) (cs : List ef_T) (P : List Nat) : Prop :=
  ef_Cx H R rt w h x A B Q ∧ ef_Nd H (x, ef_mx K cs, P) K cs ∧ ef_Ch H 2 4 h K.length cs ∧ (h ≠ R → 2 ≤ K.length) ∧ 1 ≤ K.length ∧ K.length ≤ 5
theorem ef_O5_wk {H : ef_H} {R r h x : Nat} {w A B Q K cs P} (i : ef_O5 H R r w h x A B Q K cs P) (hl : (A ++ (ef_mx K cs ++ B)).length ≤ 80) : (P ++ Q).length ≤ 41 ∧ ∃ P', P'.Perm (P ++ Q) ∧ ef_Wk H (nI r) P' := by
  obtain ⟨i1, i2, i3, i4, i5, i6⟩ := i
  have c1 := ef_Cx_cnt i1
  have c2 := ef_Ch_cnt i3
  have e : P = x :: ef_fl cs := i2.2.2
  have hb : (P ++ Q).length ≤ 41 := by
    rw [e]
    simp only [List.length_append, List.length_cons] at *
    omega
  obtain ⟨P', p1, p2⟩ := ef_plug5 i1 (ef_Tr_iff.mpr ⟨K, cs, by omega, by omega, i2, ef_Ch_mono (by omega) (by omega) i3⟩)
  exact ⟨hb, P', p1, Or.inr ⟨r, _, R, rfl, p2, by rw [p1.length_eq]; omega⟩⟩
/-- the halves of a full page -/
theorem ef_halves {H : ef_H} {h : Nat} {e0 e1 e2 e3 e4 : Nat × Nat} {cs : List ef_T} (i : ef_Ch H 2 4 h 5 cs) : ∃ c1 c2, cs = c1 ++ c2 ∧ ((c1 = [] ∧ c2 = []) ∨ (c1.length = 3 ∧ c2.length = 3)) ∧ ef_Ch H 2 4 h 2 c1 ∧ ef_Ch H 2 4 h 2 c2 ∧
    ef_mx [e0, e1, e2, e3, e4] cs = ef_mx [e0, e1] c1 ++ e2 :: ef_mx [e3, e4] c2 := by
  rcases ef_Ch_len i with ⟨rfl, rfl⟩ | ⟨h', rfl, h4, h6, h5⟩
  · exact ⟨[], [], rfl, Or.inl ⟨rfl, rfl⟩, rfl, rfl, rfl⟩
  · have l1 : (cs.take 3).length = 3 := by rw [List.length_take]; omega
    have l2 : (cs.drop 3).length = 3 := by rw [List.length_drop]; omega
    refine ⟨cs.take 3, cs.drop 3, (List.take_append_drop 3 cs).symm, Or.inr ⟨l1, l2⟩, ⟨l1, fun c hc => h5 c (List.mem_of_mem_take hc)⟩, ⟨l2, fun c hc => h5 c (List.mem_of_mem_drop hc)⟩, ?_⟩
    have := ef_mx_split (cs1 := cs.take 3) (cs2 := cs.drop 3) (K1 := [e0, e1]) (K2 := [e3, e4]) (m := e2) (by rw [l1]; rfl) (fun e => by rw [e] at l2; simp at l2)
    rw [List.take_append_drop] at this
    exact this
theorem ef_map_split {c1 c2 : List ef_T} (h : (c1 = [] ∧ c2 = []) ∨ (c1.length = 3 ∧ c2.length = 3)) : (c1.map (·.1) = [] ∧ c2.map (·.1) = []) ∨ ((c1.map (·.1)).length = 3 ∧ (c2.map (·.1)).length = 3) := by
  rcases h with ⟨rfl, rfl⟩ | ⟨a, b⟩
  · exact Or.inl ⟨rfl, rfl⟩
  · rw [List.length_map, List.length_map]
    exact Or.inr ⟨a, b⟩
theorem ef_asm_n {H H' : ef_H} {R r a h x y : Nat} {e0 e1 e2 e3 e4 : Nat × Nat} {w A B Q c1 c2 P K1 K2 cs1 cs2 A' B' Q'} (hQ : Q = a :: (ef_fl cs1 ++ ef_fl cs2 ++ Q')) (hA : A = A' ++ ef_lL cs1 K1) (hB : B = ef_lR K2 cs2 ++ B')
    (hP : P = x :: ef_fl (c1 ++ c2)) (l1 : cs1.length = K1.length) (l2 : cs2.length = K2.length) (l4 : K1.length + K2.length ≤ 4) (l5 : 1 ≤ K1.length + K2.length) (hcx : ef_Cx H R r w (h + 1) a A' B' Q') (t1 : ∀ c ∈ cs1, ef_Tr H 2 4 h c) (t2 : ∀ c ∈ cs2, ef_Tr H 2 4 h c)
    (g1 : ef_Ch H 2 4 h 2 c1) (g2 : ef_Ch H 2 4 h 2 c2) (hmx : ef_mx [e0, e1, e2, e3, e4] (c1 ++ c2) = ef_mx [e0, e1] c1 ++ e2 :: ef_mx [e3, e4] c2) (hn : (y :: (P ++ Q)).Nodup)
    (px : ef_Pg H' x [e0, e1] (c1.map (·.1))) (py : ef_Pg H' y [e3, e4] (c2.map (·.1))) (pa : ef_Pg H' a (K1 ++ e2 :: K2) (cs1.map (·.1) ++ x :: y :: cs2.map (·.1)))
    (hag : ∀ q, q ≠ x → q ≠ y → q ≠ a → ef_Ag H H' q) :
    ∃ K' cs' P', ef_O5 H' R r w (h + 1) a A' B' Q' K' cs' P' ∧ A' ++ (ef_mx K' cs' ++ B') = A ++ (ef_mx [e0, e1, e2, e3, e4] (c1 ++ c2) ++ B) ∧ (P' ++ Q').Perm (y :: (P ++ Q)) := by
  subst hQ hA hB hP
  have hd : ∀ q, q ∈ ef_fl c1 ++ ef_fl c2 ++ ef_fl cs1 ++ ef_fl cs2 ++ Q' → ef_Ag H H' q := fun q hq => by
    have hc := List.nodup_iff_count.mp hn
    have hq1 := List.count_pos_iff.mpr hq
    have no : ∀ z, z = x ∨ z = y ∨ z = a → q ≠ z := fun z hz e => by
      subst e
      have := hc q
      simp only [List.count_append, List.count_cons, ef_fl_app] at *
      rcases hz with rfl | rfl | rfl
      · simp only [beq_self_eq_true, if_true] at this; omega
      · simp only [beq_self_eq_true, if_true] at this; omega
      · simp only [beq_self_eq_true, if_true] at this; omega
    exact hag q (no x (Or.inl rfl)) (no y (Or.inr (Or.inl rfl))) (no a (Or.inr (Or.inr rfl)))
  have hcx' : ef_Cx H' R r w (h + 1) a A' B' Q' := ef_Cx_ag (fun q hq => hd q (by simp [hq])) hcx
  have tx : ef_Tr H' 2 4 h (x, ef_mx [e0, e1] c1, x :: ef_fl c1) := ef_Tr_iff.mpr ⟨[e0, e1], c1, by simp, by simp, ⟨px, rfl, rfl⟩, ef_Ch_ag (fun q hq => hd q (by simp [hq])) g1⟩
  have ty : ef_Tr H' 2 4 h (y, ef_mx [e3, e4] c2, y :: ef_fl c2) := ef_Tr_iff.mpr ⟨[e3, e4], c2, by simp, by simp, ⟨py, rfl, rfl⟩, ef_Ch_ag (fun q hq => hd q (by simp [hq])) g2⟩
  refine ⟨K1 ++ e2 :: K2, cs1 ++ (x, ef_mx [e0, e1] c1, x :: ef_fl c1) :: (y, ef_mx [e3, e4] c2, y :: ef_fl c2) :: cs2, a :: ef_fl (cs1 ++ (x, ef_mx [e0, e1] c1, x :: ef_fl c1) :: (y, ef_mx [e3, e4] c2, y :: ef_fl c2) :: cs2), ⟨hcx', ⟨?_, rfl, rfl⟩, ⟨?_, fun c hc => ?_⟩, fun _ => ?_, ?_, ?_⟩, ?_, ?_⟩
  · simp only [List.map_append, List.map_cons]
    exact pa
  · simp only [List.length_append, List.length_cons]; omega
  · simp only [List.mem_append, List.mem_cons] at hc
    rcases hc with hc | rfl | rfl | hc
    · exact ef_Tr_ag (fun q hq => hd q (by simp [ef_fl_mem hc hq])) (t1 c hc)
    · exact tx
    · exact ty
    · exact ef_Tr_ag (fun q hq => hd q (by simp [ef_fl_mem hc hq])) (t2 c hc)
  · simp only [List.length_append, List.length_cons]; omega
  · simp only [List.length_append, List.length_cons]; omega
  · simp only [List.length_append, List.length_cons]; omega
  · rw [ef_mx_hole l1, hmx]
    simp only [ef_lR, List.append_assoc, List.cons_append]
  · rw [List.perm_iff_count]
    intro q
    simp only [ef_fl_app, ef_fl_cons, List.count_append, List.count_cons]
    omega
theorem ef_asm_r {H H' : ef_H} {R a x y : Nat} {e0 e1 e2 e3 e4 : Nat × Nat} {c1 c2 P} (hP : P = x :: ef_fl (c1 ++ c2))
    (g1 : ef_Ch H 2 4 R 2 c1) (g2 : ef_Ch H 2 4 R 2 c2) (hmx : ef_mx [e0, e1, e2, e3, e4] (c1 ++ c2) = ef_mx [e0, e1] c1 ++ e2 :: ef_mx [e3, e4] c2) (hn : (a :: y :: P).Nodup)
    (px : ef_Pg H' x [e0, e1] (c1.map (·.1))) (py : ef_Pg H' y [e3, e4] (c2.map (·.1))) (pa : ef_Pg H' a [e2] [x, y])
    (hag : ∀ q, q ≠ x → q ≠ y → q ≠ a → ef_Ag H H' q) :
    ∃ P', ef_Rn H' (R + 1) (a, ef_mx [e0, e1, e2, e3, e4] (c1 ++ c2), P') ∧ P'.Perm (a :: y :: P) := by
  subst hP
  have hd : ∀ q, q ∈ ef_fl c1 ++ ef_fl c2 → ef_Ag H H' q := fun q hq => by
    have hc := List.nodup_iff_count.mp hn
    have hq1 := List.count_pos_iff.mpr hq
    have no : ∀ z, z = x ∨ z = y ∨ z = a → q ≠ z := fun z hz e => by
      subst e
      have := hc q
      simp only [List.count_append, List.count_cons, ef_fl_app] at *
      rcases hz with rfl | rfl | rfl
      · simp only [beq_self_eq_true, if_true] at this; omega
      · simp only [beq_self_eq_true, if_true] at this; omega
      · simp only [beq_self_eq_true, if_true] at this; omega
    exact hag q (no x (Or.inl rfl)) (no y (Or.inr (Or.inl rfl))) (no a (Or.inr (Or.inr rfl)))
  have tx : ef_Tr H' 2 4 R (x, ef_mx [e0, e1] c1, x :: ef_fl c1) := ef_Tr_iff.mpr ⟨[e0, e1], c1, by simp, by simp, ⟨px, rfl, rfl⟩, ef_Ch_ag (fun q hq => hd q (by simp [hq])) g1⟩
  have ty : ef_Tr H' 2 4 R (y, ef_mx [e3, e4] c2, y :: ef_fl c2) := ef_Tr_iff.mpr ⟨[e3, e4], c2, by simp, by simp, ⟨py, rfl, rfl⟩, ef_Ch_ag (fun q hq => hd q (by simp [hq])) g2⟩
  refine ⟨a :: ef_fl [(x, ef_mx [e0, e1] c1, x :: ef_fl c1), (y, ef_mx [e3, e4] c2, y :: ef_fl c2)], ⟨[e2], [(x, ef_mx [e0, e1] c1, x :: ef_fl c1), (y, ef_mx [e3, e4] c2, y :: ef_fl c2)], by simp, by simp, ⟨pa, ?_, rfl⟩, rfl, fun c hc => ?_⟩, ?_⟩
  · rw [hmx]
    simp [ef_mx, ef_lR]
  · simp only [List.mem_cons, List.not_mem_nil, or_false] at hc
    rcases hc with rfl | rfl
    · exact tx
    · exact ty
  · rw [List.perm_iff_count]
    intro q
    simp only [ef_fl_app, ef_fl_cons, ef_fl_nil, List.count_append, List.count_cons, List.count_nil]
    omega
section
variable {rt we wt : Int32} {kc ks vs bl fr nd sr sn sv dk hd wp wi wq : Nat → Int32}
theorem ef_sp174 {post : SX → Prop} {x y a i n k2 v2 : Nat} (hx : x < 110) (hy : y < 110) (ha : a < 110) (hxa : x ≠ a) (hn : n ≤ 4) (hi : i ≤ n) (hk : kc a = nI n) (hk2 : ks (5 * x + 2) = nI k2) (hv2 : vs (5 * x + 2) = nI v2) (bk2 : k2 < 32768) (bv2 : v2 < 32768) :
    ∀ (k c f : Nat), i + k + c = n → k < f →
    post (rt, we, wt, upd kc a (nI (n + 1)), upd (ef_cp (vp_nar .short) ks (5 * a + i + 1) (5 * a + i) (n - i)) (5 * a + i) (nI k2), upd (ef_cp (vp_nar .short) vs (5 * a + i + 1) (5 * a + i) (n - i)) (5 * a + i) (nI v2), upd (ef_cp (vp_nar .byte) bl (6 * a + i + 2) (6 * a + i + 1) (n - i)) (6 * a + i + 1) (nI y), fr, nd, sr, sn, sv, dk, hd, wp, wi, wq) →
    wX_split_174 post (nI x) (nI y) (nI a) (nI i) rt we wt f (nI (i + k + 1)) kc ks vs (ef_cp (vp_nar .byte) bl (6 * a + i + k + 2) (6 * a + i + k + 1) c) fr nd sr sn sv dk hd wp wi wq := by
  intro k
  induction k with
  | zero =>
    intro c f hc hf K
    obtain ⟨f, rfl⟩ : ∃ g, f = g + 1 := ⟨f - 1, by omega⟩
    obtain rfl : c = n - i := by omega
    rw [wX_split_174]
    simp only [Nat.add_zero, nI_1]
    refine br_t (nI_le (by omega) (by omega)) ?_
    have t2 : ∀ n, nI n + 2 = nI (n + 2) := fun n => nI_add n 2
    refine ef_openPlace ha hn hi hk ?_
    have e1 : ef_cp (vp_nar .short) ks (5 * a + i + 1) (5 * a + i) (n - i) (5 * x + 2) = nI k2 := by rw [ef_cp_out (by omega)]; exact hk2
    have e2 : ef_cp (vp_nar .short) vs (5 * a + i + 1) (5 * a + i) (n - i) (5 * x + 2) = nI v2 := by rw [ef_cp_out (by omega)]; exact hv2
    simp (disch := omega) only [ef_m5, t2, nI_clamp, e1, e2]
    refine ⟨vp_in_nI (by omega) (by decide), vp_in_nI (by omega) (by decide), ef_putAt ha (by omega) bk2 bv2 ?_⟩
    simp (disch := omega) only [ef_m6, nI_add, nI_1, nI_clamp, ef_t8, ef_nb]
    exact ⟨vp_in_nI (by omega) (by decide), nm_e K⟩
  | succ k ih =>
    intro c f hc hf K
    obtain ⟨f, rfl⟩ : ∃ g, f = g + 1 := ⟨f - 1, by omega⟩
    rw [wX_split_174]
    simp only [nI_1]
    refine br_f (nI_ge (by omega) (by omega)) ?_
    simp (disch := omega) only [ef_m6, nI_add, ef_s1, nI_clamp, ef_p1]
    have e1 := ef_cp_dn (g := vp_nar .byte) (a := bl) (d := 6 * a + i + k + 2) (s := 6 * a + i + k + 1) (k := c) (by omega)
    have t1 : 6 * a + (i + (k + 1) + 1) = 6 * a + i + k + 2 := by omega
    have t2 : 6 * a + i + k + 2 - 1 = 6 * a + i + k + 1 := by omega
    have t3 : 6 * a + i + (k + 1) + 2 = 6 * a + i + k + 2 + 1 := by omega
    have t4 : 6 * a + i + (k + 1) + 1 = 6 * a + i + k + 1 + 1 := by omega
    have t5 : i + (k + 1) + 1 - 1 = i + k + 1 := by omega
    simp only [t1, t2, t3, t4, t5, e1]
    exact ⟨vp_in_nI (by omega) (by decide), vp_in_nI (by omega) (by decide), nm_e (nm_e (ih (c + 1) f (by omega) (by omega) K))⟩
theorem ef_split_low {post : SX → Prop} {x y a i n k2 v2 : Nat} (hx : x < 110) (hy : y < 110) (ha : a < 110) (hxa : x ≠ a) (hn : n ≤ 4) (hi : i ≤ n) (hk : kc a = nI n) (hk2 : ks (5 * x + 2) = nI k2) (hv2 : vs (5 * x + 2) = nI v2) (bk2 : k2 < 32768) (bv2 : v2 < 32768)
    (K : post (rt, we, wt, upd kc a (nI (n + 1)), upd (ef_cp (vp_nar .short) ks (5 * a + i + 1) (5 * a + i) (n - i)) (5 * a + i) (nI k2), upd (ef_cp (vp_nar .short) vs (5 * a + i + 1) (5 * a + i) (n - i)) (5 * a + i) (nI v2), upd (ef_cp (vp_nar .byte) bl (6 * a + i + 2) (6 * a + i + 1) (n - i)) (6 * a + i + 1) (nI y), fr, nd, sr, sn, sv, dk, hd, wp, wi, wq)) :
    wX_split_161 post (nI x) (nI y) (nI a) (nI i) rt we wt kc ks vs bl fr nd sr sn sv dk hd wp wi wq := by
  unfold wX_split_161
  simp (disch := omega) only [nI_clamp, hk, nI_1]
  refine ⟨vp_in_nI ha (by decide), nm_e ⟨n + 1, ?_⟩⟩
  have e := ef_sp174 (rt := rt) (we := we) (wt := wt) (kc := kc) (ks := ks) (vs := vs) (bl := bl) (fr := fr) (nd := nd) (sr := sr) (sn := sn) (sv := sv) (dk := dk) (hd := hd) (wp := wp) (wi := wi) (wq := wq) (post := post) hx hy ha hxa hn hi hk hk2 hv2 bk2 bv2 (n - i) 0 (n + 1) (by omega) (by omega) K
  rw [ef_cp_0, show i + (n - i) + 1 = n + 1 from by omega] at e
  exact e
end
/-- what the page above holds then -/
theorem ef_Pg_low {kc ks vs bl : Nat → Int32} {a x y : Nat} {e2 : Nat × Nat} {K1 K2 : List (Nat × Nat)} {C1 C2 : List Nat} (h : ef_Pg (kc, ks, vs, bl) a (K1 ++ K2) (C1 ++ x :: C2)) (hl : K1.length + K2.length ≤ 4) (h1 : C1.length = K1.length) (h2 : C2.length = K2.length)
    (hy : y < 110) (hk : e2.1 < 32768) (hv : e2.2 < 32768) :
    ef_Pg (upd kc a (nI (K1.length + K2.length + 1)), upd (ef_cp (vp_nar .short) ks (5 * a + K1.length + 1) (5 * a + K1.length) K2.length) (5 * a + K1.length) (nI e2.1), upd (ef_cp (vp_nar .short) vs (5 * a + K1.length + 1) (5 * a + K1.length) K2.length) (5 * a + K1.length) (nI e2.2),
      upd (ef_cp (vp_nar .byte) bl (6 * a + K1.length + 2) (6 * a + K1.length + 1) K2.length) (6 * a + K1.length + 1) (nI y)) a (K1 ++ e2 :: K2) (C1 ++ x :: y :: C2) := by
  have b := ef_Pg_Hb h
  obtain ⟨b1, b2, b3⟩ := ef_Hs_app.mp b
  rw [h1] at b2 b3
  refine ef_Pg_bl (ef_Pg_ins (v := e2.2) h hl hk hv) ?_ (fun c hc => ?_) (fun e => by simp at e) (ef_Hs_app.mpr ⟨?_, ?_, ?_, ?_⟩)
  · simp only [List.length_append, List.length_cons]; omega
  · simp only [List.mem_append, List.mem_cons] at hc
    have := h.2.2.2.2.1
    rcases hc with hc | rfl | rfl | hc
    · exact this c (by simp [hc])
    · exact this c (by simp)
    · exact hy
    · exact this c (by simp [hc])
  · exact ef_Hs_upo (ef_Hs_cpo b1 (by omega)) (by omega)
  · rw [h1, pk_un (by omega), ef_cp_out (by omega)]
    exact b2
  · rw [h1]; exact pk_us
  · rw [h1]
    exact ef_Hs_upo (ef_Hs_cp b3 (by omega) (fun v hv => ef_nb (by have := h.2.2.2.2.1 v (by simp [hv]); omega))) (by omega)
end
section
/-! a split as a whole; the loop of splits -/
theorem ef_uc {f : Nat → Int32} {g : Int32 → Int32} {d s n i k : Nat} {v : Int32} (h1 : k ≠ i) (h2 : ¬ (d ≤ k ∧ k < d + n)) : upd (ef_cp g f d s n) i v k = f k := (pk_un h1).trans (ef_cp_out h2)
theorem ef_five {K : List (Nat × Nat)} (h : K.length = 5) : ∃ e0 e1 e2 e3 e4, K = [e0, e1, e2, e3, e4] := by
  match K, h with
  | [e0, e1, e2, e3, e4], _ => exact ⟨e0, e1, e2, e3, e4, rfl⟩
section
variable {rt we wt : Int32} {kc ks vs bl fr nd sr sn sv dk hd wp wi wq : Nat → Int32}
theorem ef_split_n {post : SX → Prop} {R r h x ix a i : Nat} {w A B Q K cs P LS PS} (hl : (A ++ (ef_mx K cs ++ B)).length ≤ 80) (hw : w.length ≤ 5) (hO : ef_O5 (kc, ks, vs, bl) R r ((a, i) :: w) h x A B Q K cs P) (h5 : K.length = 5)
    (hW : ef_Wy wp wi ((x, ix) :: (a, i) :: w)) (hI : ef_Inv kc ks vs bl fr sr sn sv LS PS (P ++ Q)) (hfr : ∀ e ∈ (x, ix) :: (a, i) :: w, fr e.1 = 1)
    (G : ∀ A' B' Q' K' cs' P' wt kc ks vs bl fr nd wq, ef_O5 (kc, ks, vs, bl) R r w (h + 1) a A' B' Q' K' cs' P' → A' ++ (ef_mx K' cs' ++ B') = A ++ (ef_mx K cs ++ B) → ef_Inv kc ks vs bl fr sr sn sv LS PS (P' ++ Q') →
      (∀ e ∈ (a, i) :: w, fr e.1 = 1) → post (nI r, we, wt, kc, ks, vs, bl, fr, nd, sr, sn, sv, dk, hd, wp, wi, wq)) : wpX_split post (nI r, we, wt, kc, ks, vs, bl, fr, nd, sr, sn, sv, dk, hd, wp, wi, wq) (nI (w.length + 1)) := by
  obtain ⟨hb, P0, p1, p2⟩ := ef_O5_wk hO hl
  obtain ⟨o1, o2, o3, o4, o5, o6⟩ := hO
  obtain ⟨e0, e1, e2, e3, e4, rfl⟩ := ef_five h5
  obtain ⟨c1, c2, rfl, hc, g1, g2, hmx⟩ := ef_halves (e0 := e0) (e1 := e1) (e2 := e2) (e3 := e3) (e4 := e4) o3
  have hcx := o1
  obtain ⟨K1, K2, cs1, cs2, A', B', Q', q1, q2, q3, q4, q5, q6, q7, q8, q9, q, eA, eB, eQ⟩ := o1
  have hx := o2.1
  have hx1 : x < 110 := o2.1.1
  have ha := q1.1
  have eP : P = x :: ef_fl (c1 ++ c2) := o2.2.2
  rw [List.map_append] at hx
  have hxP : x ∈ P ++ Q := by rw [eP]; simp
  have haP : a ∈ P ++ Q := by rw [eQ]; simp
  have hxS := ef_Inv_fr hI (hfr (x, ix) (by simp))
  have haS := ef_Inv_fr hI (hfr (a, i) (by simp))
  have hxa : x ≠ a := fun e => by
    have := List.nodup_iff_count.mp hI.2.1 a
    rw [eP, eQ, e] at this
    simp only [List.count_append, List.count_cons, beq_self_eq_true, if_true] at this
    omega
  have b2 := hx.2.2.2.1 e2 (by simp)
  refine ef_split_a (by omega) hW.1 hI p2 (fun y hy => p1.mem_iff.mp hy) (by omega) hxP hxS hx (ef_map_split hc) (fun y wt' kc' ks' vs' bl' fr' nd' wq' hy hyP hyS px py hag hk2 hv2 hI3 hfr1 hfr2 => ?_)
  have hya : a ≠ y := fun e => hyP (e ▸ haP)
  have hyx : x ≠ y := fun e => hyP (e ▸ hxP)
  have pa := ef_Pg_ag (hag a hxa.symm hya) q1
  have wz1 : wp w.length = nI a := hW.2.2.1
  have wz2 : wi w.length = nI i := hW.2.2.2.1
  have t2 : vp_nar .byte 2 = nI 2 := ef_nb (n := 2) (by omega)
  unfold wX_split_109
  simp (disch := omega) only [nI_clamp, t2, nI_pred, wz1, wz2]
  refine ⟨vp_in_nI hy (by decide), nm_e ⟨vp_in_nI hx.1 (by decide), nm_e (br_f (nI_ne0 (by omega) (by omega)) ⟨vp_in_nI (by omega) (by decide), ?_⟩)⟩⟩
  unfold wX_split_143
  simp (disch := omega) only [nI_clamp, nI_pred, wz2]
  refine br_f (nI_ne0 (by omega) (by omega)) ⟨vp_in_nI (by omega) (by decide), ?_⟩
  have pak := ef_Pg_kc pa
  rw [List.length_append] at pak
  refine ef_split_low hx.1 hy ha hxa q5 (by omega) pak hk2 hv2 b2.1 b2.2 ?_
  subst q3
  rw [Nat.add_sub_cancel_left]
  have hag3 : ∀ q, q ≠ a → ef_Ag (upd (upd kc' y (nI 2)) x (nI 2), ks', vs', bl') (upd (upd (upd kc' y (nI 2)) x (nI 2)) a (nI (K1.length + K2.length + 1)),
      upd (ef_cp (vp_nar .short) ks' (5 * a + K1.length + 1) (5 * a + K1.length) K2.length) (5 * a + K1.length) (nI e2.1), upd (ef_cp (vp_nar .short) vs' (5 * a + K1.length + 1) (5 * a + K1.length) K2.length) (5 * a + K1.length) (nI e2.2),
      upd (ef_cp (vp_nar .byte) bl' (6 * a + K1.length + 2) (6 * a + K1.length + 1) K2.length) (6 * a + K1.length + 1) (nI y)) q := fun q hq =>
    ef_Ag_mk (pk_un hq) (fun j j1 j2 => ef_uc (by omega) (by omega)) (fun j j1 j2 => ef_uc (by omega) (by omega)) (fun j j1 j2 => ef_uc (by omega) (by omega))
  obtain ⟨K', cs', P', a1, a2, a3⟩ := ef_asm_n (x := x) (y := y) eQ eA eB eP (by omega) (by omega) q5 q6 q q8 q9 g1 g2 hmx hI3.2.1 (ef_Pg_ag (hag3 x hxa) px) (ef_Pg_ag (hag3 y hya.symm) py)
    (ef_Pg_low pa q5 (by rw [List.length_map]; omega) (by rw [List.length_map]; omega) hy b2.1 b2.2) (fun q h1 h2 h3 => ef_Ag_trans (hag q h1 h2) (hag3 q h3))
  refine G A' B' Q' K' cs' P' _ _ _ _ _ fr' _ _ a1 a2 (ef_Inv_perm a3.symm (ef_Inv_ag (fun q hq => hag3 q (fun e => haS (e ▸ hq))) hI3)) (fun e he => ?_)
  have : e.1 ∈ P ++ Q := List.mem_append_right _ (ef_Cx_mem hcx e he)
  rw [hfr1 e.1 (fun e' => hyP (e' ▸ this))]
  exact hfr e (List.mem_cons_of_mem _ he)
theorem ef_split_r {post : SX → Prop} {R r x ix : Nat} {h A B Q K cs P LS PS} (hl : (A ++ (ef_mx K cs ++ B)).length ≤ 80) (hO : ef_O5 (kc, ks, vs, bl) R r [] h x A B Q K cs P) (h5 : K.length = 5)
    (hW : ef_Wy wp wi ((x, ix) :: [])) (hI : ef_Inv kc ks vs bl fr sr sn sv LS PS (P ++ Q)) (hfr : fr x = 1)
    (G : ∀ a P' wt kc ks vs bl fr nd wq, ef_Rn (kc, ks, vs, bl) (R + 1) (a, A ++ (ef_mx K cs ++ B), P') → ef_Inv kc ks vs bl fr sr sn sv LS PS P' → post (nI a, we, wt, kc, ks, vs, bl, fr, nd, sr, sn, sv, dk, hd, wp, wi, wq)) : wpX_split post (nI r, we, wt, kc, ks, vs, bl, fr, nd, sr, sn, sv, dk, hd, wp, wi, wq) 0 := by
  obtain ⟨hb, P0, p1, p2⟩ := ef_O5_wk hO hl
  obtain ⟨o1, o2, o3, o4, o5, o6⟩ := hO
  obtain ⟨e0, e1, e2, e3, e4, rfl⟩ := ef_five h5
  obtain ⟨c1, c2, rfl, hc, g1, g2, hmx⟩ := ef_halves (e0 := e0) (e1 := e1) (e2 := e2) (e3 := e3) (e4 := e4) o3
  obtain ⟨rfl, rfl, rfl, rfl, rfl⟩ := o1
  simp only [List.nil_append, List.append_nil] at *
  have hx := o2.1
  have hx1 : x < 110 := o2.1.1
  have eP : P = x :: ef_fl (c1 ++ c2) := o2.2.2
  rw [List.map_append] at hx
  have hxP : x ∈ P := by rw [eP]; simp
  have hxS := ef_Inv_fr hI hfr
  have b2 := hx.2.2.2.1 e2 (by simp)
  refine ef_split_a (l := 0) (by omega) hW.1 hI p2 (fun y hy => p1.mem_iff.mp hy) (by omega) hxP hxS hx (ef_map_split hc) (fun y wt' kc' ks' vs' bl' fr' nd' wq' hy hyP hyS px py hag hk2 hv2 hI3 hfr1 hfr2 => ?_)
  have hyx : x ≠ y := fun e => hyP (e ▸ hxP)
  have t2 : vp_nar .byte 2 = nI 2 := ef_nb (n := 2) (by omega)
  unfold wX_split_109
  simp (disch := omega) only [nI_clamp, t2]
  refine ⟨vp_in_nI hy (by decide), nm_e ⟨vp_in_nI hx.1 (by decide), nm_e (br_t (by decide) ?_)⟩⟩
  unfold wpX_newRoot
  have hd1 : ∀ q ∈ ef_fl c1, ef_Ag (kc, ks, vs, bl) (upd (upd kc' y (nI 2)) x (nI 2), ks', vs', bl') q := fun q hq => by
    refine hag q (fun e => ?_) (fun e => hyP (e ▸ ?_))
    · have := List.nodup_iff_count.mp hI.2.1 q
      have h2 := List.count_pos_iff.mpr hq
      rw [eP, ← e, ef_fl_app] at this
      simp only [List.count_append, List.count_cons, beq_self_eq_true, if_true] at this
      omega
    · rw [eP, ef_fl_app]; simp [hq]
  have wk : ef_Wk (upd (upd kc' y (nI 2)) x (nI 2), ks', vs', bl') (nI x) (x :: ef_fl c1) := by
    refine Or.inr ⟨x, ef_mx [e0, e1] c1, h, rfl, ef_Tr_iff.mpr ⟨[e0, e1], c1, by simp, by simp, ⟨px, rfl, rfl⟩, ef_Ch_mono (by omega) (by omega) (ef_Ch_ag hd1 g1)⟩, ?_⟩
    rw [eP, ef_fl_app] at hb
    simp only [List.length_append, List.length_cons] at *
    omega
  refine ef_newP hI3 wk (fun q hq => ?_) (by rw [List.length_cons]; omega) (fun a nd2 wt2 wq2 ha haP haS hag2 hI4 => ?_)
  · rw [eP, ef_fl_app]
    simp only [List.mem_cons, List.mem_append] at *
    rcases hq with hq | hq
    · exact Or.inr (Or.inl hq)
    · exact Or.inr (Or.inr (Or.inl hq))
  have hax : x ≠ a := fun e => haP (by rw [← e]; exact List.mem_cons_of_mem _ hxP)
  have hay : y ≠ a := fun e => haP (by rw [← e]; exact List.mem_cons_self ..)
  simp (disch := omega) only [ef_m6, nI_clamp, ef_t8, ef_nb]
  refine ⟨vp_in_nI (by omega) (by decide), nm_e ?_⟩
  unfold wX_split_143
  refine br_t rfl ?_
  have pa : ef_Pg (upd (upd (upd kc' y (nI 2)) x (nI 2)) a 0, ks', vs', upd (upd bl' (6 * a) (-1)) (6 * a) (nI x)) a ([] ++ []) ([] ++ x :: []) := by
    refine ⟨ha, by simp, by simp, fun e he => by simp at he, fun c hc => ?_, pk_us, trivial, trivial, fun e => by simp at e, pk_us, trivial⟩
    simp only [List.nil_append, List.mem_singleton] at hc
    rw [hc]; exact hx.1
  refine ef_split_low (i := 0) (n := 0) hx.1 hy ha hax (by omega) (by omega) pk_us hk2 hv2 b2.1 b2.2 ?_
  have pa2 := ef_Pg_low (e2 := e2) (y := y) pa (by simp) rfl rfl hy b2.1 b2.2
  have hag3 : ∀ q, q ≠ a → ef_Ag (upd (upd kc' y (nI 2)) x (nI 2), ks', vs', bl') (upd (upd (upd (upd kc' y (nI 2)) x (nI 2)) a 0) a (nI (0 + 1)),
      upd (ef_cp (vp_nar .short) ks' (5 * a + 0 + 1) (5 * a + 0) (0 - 0)) (5 * a + 0) (nI e2.1), upd (ef_cp (vp_nar .short) vs' (5 * a + 0 + 1) (5 * a + 0) (0 - 0)) (5 * a + 0) (nI e2.2),
      upd (ef_cp (vp_nar .byte) (upd (upd bl' (6 * a) (-1)) (6 * a) (nI x)) (6 * a + 0 + 2) (6 * a + 0 + 1) (0 - 0)) (6 * a + 0 + 1) (nI y)) q := fun q hq =>
    ef_Ag_mk (ef_un2 hq hq) (fun j j1 j2 => ef_uc (by omega) (by omega)) (fun j j1 j2 => ef_uc (by omega) (by omega)) (fun j j1 j2 => (ef_uc (by omega) (by omega)).trans (ef_un2 (by omega) (by omega)))
  obtain ⟨P', a1, a2⟩ := ef_asm_r (a := a) (x := x) (y := y) eP g1 g2 hmx hI4.2.1 (ef_Pg_ag (hag3 x hax) px) (ef_Pg_ag (hag3 y hay) py) pa2 (fun q h1 h2 h3 => ef_Ag_trans (hag q h1 h2) (hag3 q h3))
  have hI5 : ef_Inv (upd (upd (upd (upd kc' y (nI 2)) x (nI 2)) a 0) a (nI (0 + 1))) (upd (ef_cp (vp_nar .short) ks' (5 * a + 0 + 1) (5 * a + 0) (0 - 0)) (5 * a + 0) (nI e2.1)) (upd (ef_cp (vp_nar .short) vs' (5 * a + 0 + 1) (5 * a + 0) (0 - 0)) (5 * a + 0) (nI e2.2))
      (upd (ef_cp (vp_nar .byte) (upd (upd bl' (6 * a) (-1)) (6 * a) (nI x)) (6 * a + 0 + 2) (6 * a + 0 + 1) (0 - 0)) (6 * a + 0 + 1) (nI y)) (upd fr' a 1) sr sn sv LS PS (a :: y :: P) :=
    ⟨hI4.1, hI4.2.1, hI4.2.2.1, ef_Sd_ag (fun q hq => hag3 q (fun e => haS (e ▸ hq))) hI3.2.2.2⟩
  exact G a P' _ _ _ _ _ _ _ _ a1 (ef_Inv_perm a2.symm hI5)
theorem ef_O5_done {H : ef_H} {R r h x : Nat} {w A B Q K cs P} (i : ef_O5 H R r w h x A B Q K cs P) (h4 : K.length ≤ 4) : ∃ P', P'.Perm (P ++ Q) ∧ ef_Rn H R (r, A ++ (ef_mx K cs ++ B), P') := by
  obtain ⟨i1, i2, i3, i4, i5, i6⟩ := i
  refine ef_plug i1 (fun hR => ef_Tr_iff.mpr ⟨K, cs, i4 hR, h4, i2, i3⟩) (fun hR => ?_)
  subst hR
  exact ⟨K, cs, i5, h4, i2, i3⟩
theorem ef_put_lp {post : SX → Prop} {R r : Nat} {LS : List (Nat × Nat)} {PS : List Nat} {Lt : List (Nat × Nat)} (hl : Lt.length ≤ 80) (hR : R ≤ 6)
    (G : ∀ R' a P' wt kc ks vs bl fr nd wq, ef_Rn (kc, ks, vs, bl) R' (a, Lt, P') → ef_Inv kc ks vs bl fr sr sn sv LS PS P' → post (nI a, we, wt, kc, ks, vs, bl, fr, nd, sr, sn, sv, dk, hd, wp, wi, wq)) :
    ∀ (w : List (Nat × Nat)) (h x ix : Nat) (A B : List (Nat × Nat)) (Q : List Nat) (K : List (Nat × Nat)) (cs : List ef_T) (P : List Nat) (wt : Int32) (kc ks vs bl fr nd wq : Nat → Int32) (f : Nat), w.length + 1 < f →
      ef_O5 (kc, ks, vs, bl) R r w h x A B Q K cs P → A ++ (ef_mx K cs ++ B) = Lt → ef_Wy wp wi ((x, ix) :: w) → ef_Inv kc ks vs bl fr sr sn sv LS PS (P ++ Q) → (∀ e ∈ (x, ix) :: w, fr e.1 = 1) →
      wX_put_117 post f (nI w.length) (nI r) we wt kc ks vs bl fr nd sr sn sv dk hd wp wi wq := by
  intro w
  induction w with
  | nil =>
    intro h x ix A B Q K cs P wt kc ks vs bl fr nd wq f hf hO hL hW hI hfr
    obtain ⟨f, rfl⟩ : ∃ g, f = g + 2 := ⟨f - 2, by simp at hf; omega⟩
    have hx := hO.2.1.1.1
    have hk : kc x = nI K.length := hO.2.1.1.2.2.2.2.2.1
    have hxw : wp 0 = nI x := hW.1
    have h6 := hO.2.2.2.2.2
    rw [wX_put_117]
    refine br_f (by decide) ?_
    simp (disch := omega) only [List.length_nil, nI_clamp, hxw, hk]
    refine ⟨vp_in_nI (by omega) (by decide), vp_in_nI hx (by decide), br_c (fun e => ?_) (fun e => ?_)⟩
    · have e : K.length = 5 := ef_inj (by omega) (by omega) e
      refine ef_split_r (by rw [hL]; exact hl) hO e hW hI (hfr (x, ix) (by simp)) (fun a P' wt kc ks vs bl fr nd wq g1 g2 => ?_)
      dsimp only
      refine nm_r (e' := -1) (by decide) ?_
      rw [wX_put_117]
      exact br_t ef_neg' (G (R + 1) a P' wt kc ks vs bl fr nd wq (by rw [← hL]; exact g1) g2)
    · have e : K.length ≠ 5 := fun h => e (by rw [h]; rfl)
      obtain ⟨P', p1, p2⟩ := ef_O5_done hO (by omega)
      rw [hL] at p2
      exact G R r P' wt kc ks vs bl fr nd wq p2 (ef_Inv_perm p1.symm hI)
  | cons q w ih =>
    intro h x ix A B Q K cs P wt kc ks vs bl fr nd wq f hf hO hL hW hI hfr
    obtain ⟨a, i⟩ := q
    rw [List.length_cons] at hf
    obtain ⟨f, rfl⟩ : ∃ g, f = g + 1 := ⟨f - 1, by omega⟩
    have hlen := ef_Cx_len hO.1
    rw [List.length_cons] at hlen
    have hx := hO.2.1.1.1
    have hk : kc x = nI K.length := hO.2.1.1.2.2.2.2.2.1
    have hxw : wp (w.length + 1) = nI x := hW.1
    have h6 := hO.2.2.2.2.2
    rw [wX_put_117, List.length_cons]
    refine br_f (nI_pos (by omega)) ?_
    simp (disch := omega) only [nI_clamp, hxw, hk]
    refine ⟨vp_in_nI (by omega) (by decide), vp_in_nI hx (by decide), br_c (fun e => ?_) (fun e => ?_)⟩
    · have e : K.length = 5 := ef_inj (by omega) (by omega) e
      refine ef_split_n (by rw [hL]; exact hl) (by omega) hO e hW hI hfr (fun A' B' Q' K' cs' P' wt kc ks vs bl fr nd wq g1 g2 g3 g4 => ?_)
      dsimp only
      refine nm_r (pk_m1 w.length) ?_
      exact ih (h + 1) a i A' B' Q' K' cs' P' wt kc ks vs bl fr nd wq f (by omega) g1 (g2.trans hL) hW.2.2 g3 g4
    · have e : K.length ≠ 5 := fun h => e (by rw [h]; rfl)
      obtain ⟨P', p1, p2⟩ := ef_O5_done hO (by omega)
      rw [hL] at p2
      exact G R r P' wt kc ks vs bl fr nd wq p2 (ef_Inv_perm p1.symm hI)
end
end
section
/-! maps, get and put -/
def ef_lk : List (Nat × Nat) → Nat → Option Nat
  | [], _ => none
  | e :: L, k => if e.1 = k then some e.2 else ef_lk L k
theorem ef_lk_none {k : Nat} : ∀ {L : List (Nat × Nat)}, (∀ e ∈ L, e.1 ≠ k) → ef_lk L k = none
  | [], _ => rfl
  | e :: L, h => by
    unfold ef_lk
    rw [if_neg (h e (List.mem_cons_self ..)), ef_lk_none (fun d hd => h d (List.mem_cons_of_mem _ hd))]
theorem ef_lk_none' {k : Nat} : ∀ {L : List (Nat × Nat)}, ef_lk L k = none → ∀ e ∈ L, e.1 ≠ k
  | [], _, e, he => by simp at he
  | q :: L, h, e, he => by
    unfold ef_lk at h
    by_cases hq : q.1 = k
    · rw [if_pos hq] at h; cases h
    · rw [if_neg hq] at h
      rcases List.mem_cons.mp he with rfl | he
      · exact hq
      · exact ef_lk_none' h e he
theorem ef_lk_mem {k v : Nat} : ∀ {L : List (Nat × Nat)}, ef_lk L k = some v → (k, v) ∈ L
  | [], h => by cases h
  | q :: L, h => by
    unfold ef_lk at h
    by_cases hq : q.1 = k
    · rw [if_pos hq] at h
      obtain ⟨a, b⟩ := q
      cases h
      cases hq
      exact List.mem_cons_self ..
    · rw [if_neg hq] at h
      exact List.mem_cons_of_mem _ (ef_lk_mem h)
theorem ef_lk_app {k : Nat} : ∀ {A B : List (Nat × Nat)}, (∀ e ∈ A, e.1 ≠ k) → ef_lk (A ++ B) k = ef_lk B k
  | [], _, _ => rfl
  | q :: A, B, h => by
    show (if q.1 = k then some q.2 else ef_lk (A ++ B) k) = _
    rw [if_neg (h q (List.mem_cons_self ..)), ef_lk_app (fun d hd => h d (List.mem_cons_of_mem _ hd))]
theorem ef_lk_app2 {k : Nat} : ∀ {A B B' : List (Nat × Nat)}, ef_lk B k = ef_lk B' k → ef_lk (A ++ B) k = ef_lk (A ++ B') k
  | [], _, _, h => h
  | q :: A, B, B', h => by
    show (if q.1 = k then some q.2 else ef_lk (A ++ B) k) = (if q.1 = k then some q.2 else ef_lk (A ++ B') k)
    rw [ef_lk_app2 h]
theorem ef_lk_at {k v : Nat} {A B : List (Nat × Nat)} (h : ef_So (A ++ (k, v) :: B)) : ef_lk (A ++ (k, v) :: B) k = some v := by
  rw [ef_lk_app (fun e he => by have := (ef_So_app.mp h).2.2 e he (k, v) (List.mem_cons_self ..); dsimp only at this; omega)]
  show (if k = k then _ else _) = _
  rw [if_pos rfl]
theorem ef_lk_of {k v : Nat} {L : List (Nat × Nat)} (h : ef_So L) (hm : (k, v) ∈ L) : ef_lk L k = some v := by
  obtain ⟨A, B, rfl⟩ := List.append_of_mem hm
  exact ef_lk_at h
def ef_Put (L : List (Nat × Nat)) (k v : Nat) (L' : List (Nat × Nat)) : Prop :=
  (∃ L1 v0 L2, L = L1 ++ (k, v0) :: L2 ∧ L' = L1 ++ (k, v) :: L2) ∨ (∃ L1 L2, L = L1 ++ L2 ∧ (∀ e ∈ L1, e.1 < k) ∧ (∀ e ∈ L2, k < e.1) ∧ L' = L1 ++ (k, v) :: L2)
theorem ef_Put_so {L : List (Nat × Nat)} {k v : Nat} {L' : List (Nat × Nat)} (h : ef_Put L k v L') (hs : ef_So L) : ef_So L' := by
  rcases h with ⟨L1, v0, L2, rfl, rfl⟩ | ⟨L1, L2, rfl, h1, h2, rfl⟩
  · obtain ⟨s1, s2, s3⟩ := ef_So_app.mp hs
    obtain ⟨s4, s5⟩ := ef_So_cons.mp s2
    refine ef_So_app.mpr ⟨s1, ef_So_cons.mpr ⟨s4, s5⟩, fun a ha b hb => ?_⟩
    rcases List.mem_cons.mp hb with rfl | hb
    · exact s3 a ha (k, v0) (List.mem_cons_self ..)
    · exact s3 a ha b (List.mem_cons_of_mem _ hb)
  · obtain ⟨s1, s2, s3⟩ := ef_So_app.mp hs
    refine ef_So_app.mpr ⟨s1, ef_So_cons.mpr ⟨h2, s2⟩, fun a ha b hb => ?_⟩
    rcases List.mem_cons.mp hb with rfl | hb
    · exact h1 a ha
    · exact s3 a ha b hb
theorem ef_Put_lk {L : List (Nat × Nat)} {k v : Nat} {L' : List (Nat × Nat)} (h : ef_Put L k v L') (hs : ef_So L) (q : Nat) : ef_lk L' q = if q = k then some v else ef_lk L q := by
  have hs' := ef_Put_so h hs
  by_cases e : q = k
  · subst e
    rw [if_pos rfl]
    rcases h with ⟨L1, v0, L2, rfl, rfl⟩ | ⟨L1, L2, rfl, h1, h2, rfl⟩
    · exact ef_lk_at hs'
    · exact ef_lk_at hs'
  · rw [if_neg e]
    rcases h with ⟨L1, v0, L2, rfl, rfl⟩ | ⟨L1, L2, rfl, h1, h2, rfl⟩
    · refine ef_lk_app2 ?_
      show (if k = q then _ else _) = (if k = q then _ else _)
      rw [if_neg (Ne.symm e), if_neg (Ne.symm e)]
    · refine ef_lk_app2 ?_
      show (if k = q then _ else _) = _
      rw [if_neg (Ne.symm e)]
def ef_oI : Option Nat → Int32
  | none => -1
  | some v => nI v
/-- the present tree holds L, the saved one LS -/
def ef_TI (rt : Int32) (kc ks vs bl fr sr sn sv : Nat → Int32) (L LS : List (Nat × Nat)) : Prop :=
  ∃ R r P PS, rt = nI r ∧ ef_Rn (kc, ks, vs, bl) R (r, L, P) ∧ ef_So L ∧ L.length ≤ 80 ∧ ef_Inv kc ks vs bl fr sr sn sv LS PS P
theorem ef_mx_at {K1 K2 : List (Nat × Nat)} {cs : List ef_T} (h : cs = [] ∨ cs.length = K1.length + K2.length + 2) : ∃ X Y, ∀ e, ef_mx (K1 ++ e :: K2) cs = X ++ e :: Y := by
  rcases h with rfl | h
  · exact ⟨K1, K2, fun e => rfl⟩
  · have l1 : (cs.take (K1.length + 1)).length = K1.length + 1 := by rw [List.length_take]; omega
    have l2 : (cs.drop (K1.length + 1)).length = K2.length + 1 := by rw [List.length_drop]; omega
    refine ⟨ef_mx K1 (cs.take (K1.length + 1)), ef_mx K2 (cs.drop (K1.length + 1)), fun e => ?_⟩
    have := ef_mx_split (cs2 := cs.drop (K1.length + 1)) (K2 := K2) (m := e) l1 (fun e => by rw [e] at l2; simp at l2)
    rw [List.take_append_drop] at this
    exact this
theorem ef_Ch_or {H : ef_H} {a b h n : Nat} {cs : List ef_T} (i : ef_Ch H a b h n cs) : cs = [] ∨ cs.length = n + 1 := by
  rcases ef_Ch_len i with ⟨_, h⟩ | ⟨_, _, h, _⟩
  · exact Or.inl h
  · exact Or.inr h
section
variable {rt we wt : Int32} {kc ks vs bl fr nd sr sn sv dk hd wp wi wq : Nat → Int32}
theorem ef_get {post : Int32 → SX → Prop} {k : Nat} {L LS : List (Nat × Nat)} (hT : ef_TI rt kc ks vs bl fr sr sn sv L LS) (hk : k < 32768)
    (K : ∀ we' wp' wi', post (ef_oI (ef_lk L k)) (rt, we', wt, kc, ks, vs, bl, fr, nd, sr, sn, sv, dk, hd, wp', wi', wq)) : wpX_get post (rt, we, wt, kc, ks, vs, bl, fr, nd, sr, sn, sv, dk, hd, wp, wi, wq) (nI k) := by
  obtain ⟨R, r, P, PS, er, hR, hS, hl, hI⟩ := hT
  unfold wpX_get
  refine ef_find hk hR hS (by omega) er (fun we' wp' wi' h => ?_) (fun we' wp' wi' h => ?_)
  · refine br_f (by decide) ?_
    obtain ⟨w, h, x, A, B, Q, K1, v, K2, cs, P', hA, eL, hp, hW, rfl⟩ := h
    have hR6 := ef_pow_bd (ef_Rn_ht hR) (by dsimp only; omega)
    have hlen := ef_Cx_len hA.1
    obtain ⟨_, k2, _⟩ := ef_Pg_key hA.2.1.1
    have k2 : vs (5 * x + K1.length) = nI v := k2
    have hx : x < 110 := hA.2.1.1.1
    have h4 := hA.2.2.2.2.2
    rw [List.length_append, List.length_cons] at h4
    have w1 : wp' w.length = nI x := hW.1
    have w2 : wi' w.length = nI K1.length := hW.2.1
    obtain ⟨X, Y, hXY⟩ := ef_mx_at (K1 := K1) (K2 := K2) (cs := cs) (by
      have := ef_Ch_or hA.2.2.1
      rw [List.length_append, List.length_cons] at this
      exact this)
    have ev : ef_lk L k = some v := by
      refine ef_lk_of hS ?_
      rw [eL, hXY]
      simp
    simp (disch := omega) only [nI_pred, nI_clamp, w1, w2, ef_m5, nI_add, k2]
    refine ⟨vp_in_nI (by omega) (by decide), vp_in_nI (by omega) (by decide), vp_in_nI (by omega) (by decide), ?_⟩
    have := K (nI (w.length + 1)) wp' wi'
    rw [ev] at this
    exact this
  · refine br_t rfl ?_
    obtain ⟨w, x, A, B, Q, K1, K2, P', hA, eL, hp, hW, rfl, h1, h2⟩ := h
    have ev : ef_lk L k = none := by
      refine ef_lk_none (fun e he => ?_)
      rw [eL] at he
      simp only [List.mem_append] at he h1 h2
      rcases he with he | (he | he) | he
      · have := h1 e (Or.inl he); omega
      · have := h1 e (Or.inr he); omega
      · have := h2 e (Or.inl he); omega
      · have := h2 e (Or.inr he); omega
    have := K (nI (w.length + 1)) wp' wi'
    rw [ev] at this
    exact this
theorem ef_put {post : SX → Prop} {k v : Nat} {L LS : List (Nat × Nat)} (hT : ef_TI rt kc ks vs bl fr sr sn sv L LS) (hk : k < 32768) (hv : v < 32768) (hc : ef_lk L k = none → L.length < 80)
    (G : ∀ L' rt we wt kc ks vs bl fr nd wp wi wq, ef_Put L k v L' → ef_TI rt kc ks vs bl fr sr sn sv L' LS → post (rt, we, wt, kc, ks, vs, bl, fr, nd, sr, sn, sv, dk, hd, wp, wi, wq)) : wpX_put post (rt, we, wt, kc, ks, vs, bl, fr, nd, sr, sn, sv, dk, hd, wp, wi, wq) (nI k) (nI v) := by
  obtain ⟨R, r, P, PS, rfl, hR, hS, hl, hI⟩ := hT
  have hR6 := ef_pow_bd (ef_Rn_ht hR) (by dsimp only; omega)
  unfold wpX_put
  refine ef_find hk hR hS (by omega) rfl (fun we' wp' wi' h => ?_) (fun we' wp' wi' h => ?_)
  · obtain ⟨w, h, x, A, B, Q, K1, v0, K2, cs, P', hA, eL, hp, hW, rfl⟩ := h
    have hlen := ef_Cx_len hA.1
    obtain ⟨X, Y, hXY⟩ := ef_mx_at (K1 := K1) (K2 := K2) (cs := cs) (by
      have := ef_Ch_or hA.2.2.1
      rw [List.length_append, List.length_cons] at this
      exact this)
    refine ef_copyWay (by rw [← eL]; exact hl) (by omega) hA hW (ef_Inv_perm hp.symm hI) (fun r2 w2 x2 Q2 P2 wt2 kc2 ks2 vs2 bl2 fr2 nd2 wp2 wq2 g1 g2 g3 g4 g5 g6 => ?_)
    refine br_f (by decide) ?_
    have hx : x2 < 110 := g1.2.1.1.1
    have h4 := g1.2.2.2.2.2
    rw [List.length_append, List.length_cons] at h4
    have w1 : wp2 w2.length = nI x2 := g2.1
    have w3 : wi' w2.length = nI K1.length := g2.2.1
    rw [g4] at w1 w3
    simp (disch := omega) only [nI_pred, nI_clamp, w1, w3, ef_m5, nI_add, ef_t16, ef_ns]
    refine ⟨vp_in_nI (by omega) (by decide), vp_in_nI (by omega) (by decide), vp_in_nI (by omega) (by decide), nm_e ?_⟩
    have hput : ef_Put L k v (A ++ (ef_mx (K1 ++ (k, v) :: K2) cs ++ B)) := Or.inl ⟨A ++ X, v0, Y ++ B, by rw [eL, hXY]; simp, by rw [hXY]; simp⟩
    have hx2S := ef_Inv_fr g6 (g5 _ (List.mem_cons_self ..))
    obtain ⟨i1, i2, i3, i4, i5, i6⟩ := g1
    have eP : P2 = x2 :: ef_fl cs := i2.2.2
    have kk : ks2 (5 * x2 + K1.length) = nI k := (ef_Pg_key i2.1).1
    have np := ef_Pg_set (k := k) (v := v) i2.1 hk hv
    rw [ef_upd_same kk] at np
    have hag : ∀ q, q ≠ x2 → ef_Ag (kc2, ks2, vs2, bl2) (kc2, ks2, upd vs2 (5 * x2 + K1.length) (nI v), bl2) q := fun q hq => ef_Ag_mk rfl (fun _ _ _ => rfl) (fun j j1 j2 => pk_un (by omega)) (fun _ _ _ => rfl)
    have hnd := g6.2.1
    rw [eP] at hnd
    have hne : ∀ q ∈ ef_fl cs ++ Q2, q ≠ x2 := fun q hq e => (List.nodup_cons.mp (by simpa using hnd : (x2 :: (ef_fl cs ++ Q2)).Nodup)).1 (e ▸ hq)
    have e0 : (K1 ++ (k, v) :: K2).length = (K1 ++ (k, v0) :: K2).length := by simp
    have hO : ef_O5 (kc2, ks2, upd vs2 (5 * x2 + K1.length) (nI v), bl2) R r2 w2 h x2 A B Q2 (K1 ++ (k, v) :: K2) cs P2 := by
      refine ⟨ef_Cx_ag (fun q hq => hag q (hne q (List.mem_append_right _ hq))) i1, ⟨np, rfl, i2.2.2⟩, ?_, by rw [e0]; exact i4, by rw [e0]; exact i5, by rw [e0]; omega⟩
      rw [e0]
      exact ef_Ch_ag (fun q hq => hag q (hne q (List.mem_append_left _ hq))) i3
    obtain ⟨P3, p1, p2⟩ := ef_O5_done hO (by rw [e0]; exact i6)
    refine G _ _ _ _ _ _ _ _ _ _ _ _ _ hput ⟨R, r2, P3, PS, rfl, p2, ef_Put_so hput hS, ?_, ef_Inv_perm p1.symm (ef_Inv_ag (fun q hq => hag q (fun e => hx2S (e ▸ hq))) g6)⟩
    rw [eL, hXY] at hl
    rw [hXY]
    simpa using hl
  · obtain ⟨w, x, A, B, Q, K1, K2, P', hA, eL, hp, hW, rfl, h1, h2⟩ := h
    have hlen := ef_Cx_len hA.1
    refine ef_copyWay (by rw [show ef_mx (K1 ++ K2) [] = K1 ++ K2 from rfl, ← eL]; exact hl) (by omega) hA hW (ef_Inv_perm hp.symm hI) (fun r2 w2 x2 Q2 P2 wt2 kc2 ks2 vs2 bl2 fr2 nd2 wp2 wq2 g1 g2 g3 g4 g5 g6 => ?_)
    refine br_t rfl (br_f (nI_ne0 (by omega) (by omega)) ?_)
    have hx : x2 < 110 := g1.2.1.1.1
    have h4 := g1.2.2.2.2.2
    rw [List.length_append] at h4
    have w1 : wp2 w2.length = nI x2 := g2.1
    have w3 : wi' w2.length = nI K1.length := g2.2.1
    rw [g4] at w1 w3
    have hkc : kc2 x2 = nI (K1.length + K2.length) := by
      have := ef_Pg_kc g1.2.1.1
      rw [List.length_append] at this
      exact this
    unfold wX_put_71
    simp (disch := omega) only [nI_pred]
    refine nm_e ?_
    simp (disch := omega) only [nI_clamp, w1, w3]
    refine ⟨vp_in_nI (by omega) (by decide), vp_in_nI (by omega) (by decide), ef_openPlace hx h4 (by omega) hkc ?_⟩
    dsimp only
    rw [w1, w3]
    refine ⟨vp_in_nI (by omega) (by decide), vp_in_nI (by omega) (by decide), ef_putAt hx (by omega) hk hv ⟨w.length + 2, ?_⟩⟩
    have hput : ef_Put L k v (A ++ (ef_mx (K1 ++ (k, v) :: K2) [] ++ B)) := Or.inr ⟨A ++ K1, K2 ++ B, by rw [eL]; simp, h1, h2, by simp [ef_mx]⟩
    have hx2S := ef_Inv_fr g6 (g5 _ (List.mem_cons_self ..))
    obtain ⟨i1, i2, i3, i4, i5, i6⟩ := g1
    have eP : P2 = x2 :: ef_fl [] := i2.2.2
    have np := ef_Pg_ins (k := k) (v := v) i2.1 h4 hk hv
    have hag : ∀ q, q ≠ x2 → ef_Ag (kc2, ks2, vs2, bl2) (upd kc2 x2 (nI (K1.length + K2.length + 1)), upd (ef_cp (vp_nar .short) ks2 (5 * x2 + K1.length + 1) (5 * x2 + K1.length) K2.length) (5 * x2 + K1.length) (nI k),
        upd (ef_cp (vp_nar .short) vs2 (5 * x2 + K1.length + 1) (5 * x2 + K1.length) K2.length) (5 * x2 + K1.length) (nI v), bl2) q := fun q hq =>
      ef_Ag_mk (pk_un hq) (fun j j1 j2 => ef_uc (by omega) (by omega)) (fun j j1 j2 => ef_uc (by omega) (by omega)) (fun _ _ _ => rfl)
    have hnd := g6.2.1
    rw [eP] at hnd
    have hne : ∀ q ∈ Q2, q ≠ x2 := fun q hq e => (List.nodup_cons.mp (by simpa [ef_fl] using hnd : (x2 :: Q2).Nodup)).1 (e ▸ hq)
    have e0 : (K1 ++ (k, v) :: K2).length = K1.length + K2.length + 1 := by simp; omega
    rw [List.length_append] at i4 i5
    have hO : ef_O5 (upd kc2 x2 (nI (K1.length + K2.length + 1)), upd (ef_cp (vp_nar .short) ks2 (5 * x2 + K1.length + 1) (5 * x2 + K1.length) K2.length) (5 * x2 + K1.length) (nI k),
        upd (ef_cp (vp_nar .short) vs2 (5 * x2 + K1.length + 1) (5 * x2 + K1.length) K2.length) (5 * x2 + K1.length) (nI v), bl2) R r2 w2 0 x2 A B Q2 (K1 ++ (k, v) :: K2) [] P2 := by
      refine ⟨ef_Cx_ag (fun q hq => hag q (hne q hq)) i1, ⟨np, rfl, i2.2.2⟩, rfl, fun h => by rw [e0]; have := i4 h; omega, by rw [e0]; omega, by rw [e0]; omega⟩
    have hlk : ef_lk L k = none := by
      refine ef_lk_none (fun e he => ?_)
      rw [eL] at he
      simp only [List.mem_append] at he h1 h2
      rcases he with he | (he | he) | he
      · have := h1 e (Or.inl he); omega
      · have := h1 e (Or.inr he); omega
      · have := h2 e (Or.inl he); omega
      · have := h2 e (Or.inr he); omega
    have hlt := hc hlk
    have hlL : (A ++ (ef_mx (K1 ++ (k, v) :: K2) [] ++ B)).length ≤ 80 := by
      rw [eL] at hlt
      simp only [ef_mx, List.length_append, List.length_cons] at *
      omega
    rw [Nat.add_sub_cancel_left, ← g4]
    refine ef_put_lp hlL hR6 (fun R' a P3 wt kc ks vs bl fr nd wq q1 q2 => ?_) w2 0 x2 K1.length A B Q2 _ [] P2 _ _ _ _ _ _ _ _ _ (by omega) hO rfl g2 (ef_Inv_ag (fun q hq => hag q (fun e => hx2S (e ▸ hq))) g6) g5
    exact G _ _ _ _ _ _ _ _ _ _ _ _ _ hput ⟨R', a, P3, PS, rfl, q1, ef_Put_so hput hS, hlL, q2⟩
end
end
section
/-! melting two pages -/
def ef_g (z : Int32) : Int32 := vp_nar .short z.toInt16.toInt32
theorem ef_g_nI {n : Nat} (h : n < 32768) : ef_g (nI n) = nI n := by unfold ef_g; rw [ef_t16 h, ef_ns h]
theorem ef_map_g {K : List (Nat × Nat)} (h : ∀ e ∈ K, e.1 < 32768 ∧ e.2 < 32768) : (∀ v ∈ K.map (·.1), ef_g (nI v) = nI v) ∧ (∀ v ∈ K.map (·.2), ef_g (nI v) = nI v) := by
  refine ⟨fun v hv => ?_, fun v hv => ?_⟩
  · obtain ⟨e, he, rfl⟩ := List.mem_map.mp hv
    exact ef_g_nI (h e he).1
  · obtain ⟨e, he, rfl⟩ := List.mem_map.mp hv
    exact ef_g_nI (h e he).2
section
variable {rt we wt : Int32} {kc ks vs bl fr nd sr sn sv dk hd wp wi wq : Nat → Int32}
theorem ef_putG {post : SX → Prop} {x i : Nat} {p q : Int32} (hx : x < 110) (hi : i < 5)
    (K : post (rt, we, wt, kc, upd ks (5 * x + i) (ef_g p), upd vs (5 * x + i) (ef_g q), bl, fr, nd, sr, sn, sv, dk, hd, wp, wi, wq)) : wpX_putAt post (rt, we, wt, kc, ks, vs, bl, fr, nd, sr, sn, sv, dk, hd, wp, wi, wq) (nI x) (nI i) p q := by
  unfold wpX_putAt
  simp (disch := omega) only [ef_m5, nI_add, nI_clamp]
  exact ⟨vp_in_nI (by omega) (by decide), nm_e ⟨vp_in_nI (by omega) (by decide), nm_e K⟩⟩
theorem ef_close_pg {post : SX → Prop} {x : Nat} {e : Nat × Nat} {K1 K2 : List (Nat × Nat)} {C : List Nat} (h : ef_Pg (kc, ks, vs, bl) x (K1 ++ e :: K2) C)
    (K : ∀ kc' ks' vs', ef_Pg (kc', ks', vs', bl) x (K1 ++ K2) C → (∀ q, q ≠ x → ef_Ag (kc, ks, vs, bl) (kc', ks', vs', bl) q) → post (rt, we, wt, kc', ks', vs', bl, fr, nd, sr, sn, sv, dk, hd, wp, wi, wq)) :
    wpX_closePlace post (rt, we, wt, kc, ks, vs, bl, fr, nd, sr, sn, sv, dk, hd, wp, wi, wq) (nI x) (nI K1.length) := by
  have h5 := h.2.1
  have hk := ef_Pg_kc h
  rw [List.length_append, List.length_cons] at h5 hk
  refine ef_closePlace (n := K1.length + K2.length) h.1 (by omega) (by omega) (by rw [hk]; rfl) ?_
  rw [Nat.add_sub_cancel_left]
  exact K _ _ _ (ef_Pg_del h) (fun q hq => ef_Ag_mk (pk_un hq) (fun j j1 j2 => ef_cp_out (by omega)) (fun j j1 j2 => ef_cp_out (by omega)) (fun _ _ _ => rfl))
theorem ef_ml65 {post : SX → Prop} {x1 x2 : Int32} {x y e n : Nat} (hx : x < 110) (hy : y < 110) (hxy : x ≠ y) (hn : e + 1 + n ≤ 5) (hk : kc y = nI n)
    (G : ∀ f, wX_melt_65 post x1 x2 (nI x) (nI y) (nI e) (f + 1) (nI n) rt we wt kc (ef_cp ef_g ks (5 * x + e + 1) (5 * y) n) (ef_cp ef_g vs (5 * x + e + 1) (5 * y) n) bl fr nd sr sn sv dk hd wp wi wq) : ∀ (k c f : Nat), c + k = n → k < f →
    wX_melt_65 post x1 x2 (nI x) (nI y) (nI e) f (nI c) rt we wt kc (ef_cp ef_g ks (5 * x + e + 1) (5 * y) c) (ef_cp ef_g vs (5 * x + e + 1) (5 * y) c) bl fr nd sr sn sv dk hd wp wi wq := by
  intro k
  induction k with
  | zero =>
    intro c f hc hf
    obtain ⟨f, rfl⟩ : ∃ g, f = g + 1 := ⟨f - 1, by omega⟩
    obtain rfl : c = n := by omega
    exact G f
  | succ k ih =>
    intro c f hc hf
    obtain ⟨f, rfl⟩ : ∃ g, f = g + 1 := ⟨f - 1, by omega⟩
    rw [wX_melt_65]
    simp (disch := omega) only [nI_clamp, hk]
    refine ⟨vp_in_nI hy (by decide), br_f (nI_ge (by omega) (by omega)) ?_⟩
    simp (disch := omega) only [ef_m5, nI_add, nI_1, nI_clamp]
    refine ⟨vp_in_nI (by omega) (by decide), vp_in_nI (by omega) (by decide), ef_putG hx (by omega) ?_⟩
    dsimp only
    refine nm_e ?_
    have t1 : 5 * x + (e + 1 + c) = 5 * x + e + 1 + c := by omega
    rw [t1, ef_cp_up (g := ef_g) (a := ks) (d := 5 * x + e + 1) (s := 5 * y) (k := c) (by omega), ef_cp_up (g := ef_g) (a := vs) (d := 5 * x + e + 1) (s := 5 * y) (k := c) (by omega)]
    exact ih (c + 1) f (by omega) (by omega)
theorem ef_ml130 {post : SX → Prop} {x1 x2 : Int32} {x y e n : Nat} (hx : x < 110) (hy : y < 110) (hxy : x ≠ y) (hn : e + 1 + n ≤ 5) (hk : kc y = nI n)
    (G : wX_melt_178 post x1 x2 (nI x) (nI y) (nI e) rt we wt kc ks vs (ef_cp (vp_nar .byte) bl (6 * x + e + 1) (6 * y) (n + 1)) fr nd sr sn sv dk hd wp wi wq) : ∀ (k c f : Nat), c + k = n + 1 → k < f →
    wX_melt_130 post x1 x2 (nI x) (nI y) (nI e) rt we wt f (nI c) kc ks vs (ef_cp (vp_nar .byte) bl (6 * x + e + 1) (6 * y) c) fr nd sr sn sv dk hd wp wi wq := by
  intro k
  induction k with
  | zero =>
    intro c f hc hf
    obtain ⟨f, rfl⟩ : ∃ g, f = g + 1 := ⟨f - 1, by omega⟩
    obtain rfl : c = n + 1 := by omega
    rw [wX_melt_130]
    simp (disch := omega) only [nI_clamp, hk]
    exact ⟨vp_in_nI hy (by decide), br_t (nI_lt (by omega) (by omega)) G⟩
  | succ k ih =>
    intro c f hc hf
    obtain ⟨f, rfl⟩ : ∃ g, f = g + 1 := ⟨f - 1, by omega⟩
    rw [wX_melt_130]
    simp (disch := omega) only [nI_clamp, hk]
    refine ⟨vp_in_nI hy (by decide), br_f (nI_nlt (by omega) (by omega)) ?_⟩
    simp (disch := omega) only [ef_m6, nI_add, nI_1, nI_clamp]
    rw [ef_cp_up (g := vp_nar .byte) (a := bl) (d := 6 * x + e + 1) (s := 6 * y) (k := c) (by omega)]
    exact ⟨vp_in_nI (by omega) (by decide), vp_in_nI (by omega) (by decide), nm_e (nm_e (ih (c + 1) f (by omega) (by omega)))⟩
theorem ef_ml208 {post : SX → Prop} {a i n y : Nat} (ha : a < 110) (hy : y < 110) (hn : n ≤ 4) (hk : kc a = nI n)
    (G : post (rt, we, wt, kc, ks, vs, ef_cp (vp_nar .byte) bl (6 * a + i + 1) (6 * a + i + 2) (n - i), upd fr y 0, nd, sr, sn, sv, dk, hd, wp, wi, wq)) : ∀ (k c f : Nat), i + c + k = n → k < f →
    wX_melt_208 post (nI a) (nI y) rt we wt f (nI (i + 1 + c)) kc ks vs (ef_cp (vp_nar .byte) bl (6 * a + i + 1) (6 * a + i + 2) c) fr nd sr sn sv dk hd wp wi wq := by
  intro k
  induction k with
  | zero =>
    intro c f hc hf
    obtain ⟨f, rfl⟩ : ∃ g, f = g + 1 := ⟨f - 1, by omega⟩
    obtain rfl : c = n - i := by omega
    rw [wX_melt_208]
    simp (disch := omega) only [nI_clamp, hk, ef_nz0]
    exact ⟨vp_in_nI ha (by decide), br_t (nI_lt (by omega) (by omega)) ⟨vp_in_nI hy (by decide), nm_e G⟩⟩
  | succ k ih =>
    intro c f hc hf
    obtain ⟨f, rfl⟩ : ∃ g, f = g + 1 := ⟨f - 1, by omega⟩
    rw [wX_melt_208]
    simp (disch := omega) only [nI_clamp, hk]
    refine ⟨vp_in_nI ha (by decide), br_f (nI_nlt (by omega) (by omega)) ?_⟩
    simp (disch := omega) only [ef_m6, nI_add, nI_1, nI_clamp]
    have e1 := ef_cp_up (g := vp_nar .byte) (a := bl) (d := 6 * a + i + 1) (s := 6 * a + i + 2) (k := c) (by omega)
    have t1 : 6 * a + (i + 1 + c) = 6 * a + i + 1 + c := by omega
    have t2 : 6 * a + i + 1 + c + 1 = 6 * a + i + 2 + c := by omega
    simp only [t1, t2, e1]
    exact ⟨vp_in_nI (by omega) (by decide), vp_in_nI (by omega) (by decide), nm_e (nm_e (ih (c + 1) f (by omega) (by omega)))⟩
/-- melt at the pages -/
theorem ef_melt {post : SX → Prop} {a x y : Nat} {Ka Kb KX KY : List (Nat × Nat)} {m : Nat × Nat} {Ca Cb CX CY : List Nat} (hxy : x ≠ y) (hxa : x ≠ a) (hya : y ≠ a)
    (pa : ef_Pg (kc, ks, vs, bl) a (Ka ++ m :: Kb) (Ca ++ x :: y :: Cb)) (px : ef_Pg (kc, ks, vs, bl) x KX CX) (py : ef_Pg (kc, ks, vs, bl) y KY CY)
    (la : Ca.length = Ka.length) (lb : Cb.length = Kb.length) (hc : (CX = [] ∧ CY = []) ∨ (CX.length = KX.length + 1 ∧ CY.length = KY.length + 1)) (hl : KX.length + 1 + KY.length ≤ 4)
    (G : ∀ kc' ks' vs' bl', ef_Pg (kc', ks', vs', bl') a (Ka ++ Kb) (Ca ++ x :: Cb) → ef_Pg (kc', ks', vs', bl') x (KX ++ m :: KY) (CX ++ CY) → (∀ q, q ≠ a → q ≠ x → ef_Ag (kc, ks, vs, bl) (kc', ks', vs', bl') q) →
      post (rt, we, wt, kc', ks', vs', bl', upd fr y 0, nd, sr, sn, sv, dk, hd, wp, wi, wq)) : wpX_melt post (rt, we, wt, kc, ks, vs, bl, fr, nd, sr, sn, sv, dk, hd, wp, wi, wq) (nI a) (nI Ka.length) := by
  have ha := pa.1
  have hx := px.1
  have hy := py.1
  have l5 := pa.2.1
  rw [List.length_append, List.length_cons] at l5
  have ba : bl (6 * a + Ka.length) = nI x := by have := (ef_Pg_ch pa).1; rw [la] at this; exact this
  have bb : bl (6 * a + Ka.length + 1) = nI y := by
    have pa' : ef_Pg (kc, ks, vs, bl) a (Ka ++ m :: Kb) ((Ca ++ [x]) ++ y :: Cb) := by rw [List.append_assoc]; exact pa
    have := (ef_Pg_ch pa').1
    rw [List.length_append, List.length_singleton, la] at this
    exact this
  obtain ⟨m1, m2, m3, m4⟩ := ef_Pg_key pa
  have m1 : ks (5 * a + Ka.length) = nI m.1 := m1
  have m2 : vs (5 * a + Ka.length) = nI m.2 := m2
  have kx : kc x = nI KX.length := ef_Pg_kc px
  have ky : kc y = nI KY.length := ef_Pg_kc py
  unfold wpX_melt
  simp (disch := omega) only [ef_m6, ef_m5, nI_add, nI_1, nI_clamp, ba, bb]
  refine ⟨vp_in_nI (by omega) (by decide), nm_e ⟨vp_in_nI (by omega) (by decide), nm_e ⟨vp_in_nI hx (by decide), ?_⟩⟩⟩
  simp (disch := omega) only [nI_clamp, kx, m1, m2]
  refine nm_e ⟨vp_in_nI (by omega) (by decide), vp_in_nI (by omega) (by decide), ef_putG hx (by omega) ?_⟩
  rw [ef_g_nI m3, ef_g_nI m4]
  refine ⟨KY.length + 1, ?_⟩
  have e := ef_ml65 (rt := rt) (we := we) (wt := wt) (kc := kc) (ks := upd ks (5 * x + KX.length) (nI m.1)) (vs := upd vs (5 * x + KX.length) (nI m.2)) (bl := bl) (fr := fr) (nd := nd) (sr := sr) (sn := sn) (sv := sv) (dk := dk) (hd := hd) (wp := wp) (wi := wi) (wq := wq) (post := post) (x1 := nI a) (x2 := nI Ka.length) (e := KX.length) hx hy hxy (by omega) ky (fun f => ?_) KY.length 0 (KY.length + 1) (by omega) (by omega)
  · rw [ef_cp_0, ef_cp_0] at e
    exact e
  rw [wX_melt_65]
  simp (disch := omega) only [nI_clamp, ky]
  refine ⟨vp_in_nI hy (by decide), br_t (nI_le (by omega) (by omega)) ?_⟩
  -- from here on the arrays of the keys stand
  have b1 := px.2.2.2.2.2.2.1
  have b2 := px.2.2.2.2.2.2.2.1
  have c1 := py.2.2.2.2.2.2.1
  have c2 := py.2.2.2.2.2.2.2.1
  dsimp only at b1 b2 c1 c2
  have hbm := ef_map_g py.2.2.2.1
  have fin : ∀ bl', ef_Hs bl' (6 * x) (CX ++ CY) → (CX ++ CY = [] → bl' (6 * x) = -1) → (∀ j, ¬ (6 * x ≤ j ∧ j < 6 * x + 6) → bl' j = bl j) → wX_melt_178 post (nI a) (nI Ka.length) (nI x) (nI y) (nI KX.length)
      rt we wt kc (ef_cp ef_g (upd ks (5 * x + KX.length) (nI m.1)) (5 * x + KX.length + 1) (5 * y) KY.length) (ef_cp ef_g (upd vs (5 * x + KX.length) (nI m.2)) (5 * x + KX.length + 1) (5 * y) KY.length) bl' fr nd sr sn sv dk hd wp wi wq := fun bl' h1 h2 h3 => by
    have px' : ef_Pg (upd kc x (nI (KX.length + 1 + KY.length)), ef_cp ef_g (upd ks (5 * x + KX.length) (nI m.1)) (5 * x + KX.length + 1) (5 * y) KY.length, ef_cp ef_g (upd vs (5 * x + KX.length) (nI m.2)) (5 * x + KX.length + 1) (5 * y) KY.length, bl') x (KX ++ m :: KY) (CX ++ CY) := by
      refine ⟨hx, by rw [List.length_append, List.length_cons]; omega, ?_, fun e he => ?_, fun c hc => ?_, ?_, ?_, ?_, h2, h1⟩
      · rw [List.length_append]
        rcases hc with ⟨r1, r2⟩ | ⟨r1, r2⟩
        · rw [r1, r2]; simp
        · omega
      · rw [List.mem_append, List.mem_cons] at he
        rcases he with he | rfl | he
        · exact px.2.2.2.1 e he
        · exact ⟨m3, m4⟩
        · exact py.2.2.2.1 e he
      · rcases List.mem_append.mp hc with hc | hc
        · exact px.2.2.2.2.1 c hc
        · exact py.2.2.2.2.1 c hc
      · show upd kc x _ x = _
        rw [pk_us, List.length_append, List.length_cons]
        exact congrArg nI (by omega)
      · dsimp only
        rw [List.map_append, List.map_cons]
        refine ef_Hs_app.mpr ⟨ef_Hs_cpo (ef_Hs_upo b1 (by rw [List.length_map]; omega)) (by rw [List.length_map]; omega), ?_, ?_⟩
        · rw [List.length_map, ef_cp_out (by omega), pk_us]
        · rw [List.length_map]
          exact ef_Hs_cp (ef_Hs_upo c1 (by rw [List.length_map]; omega)) (by rw [List.length_map]; omega) hbm.1
      · dsimp only
        rw [List.map_append, List.map_cons]
        refine ef_Hs_app.mpr ⟨ef_Hs_cpo (ef_Hs_upo b2 (by rw [List.length_map]; omega)) (by rw [List.length_map]; omega), ?_, ?_⟩
        · rw [List.length_map, ef_cp_out (by omega), pk_us]
        · rw [List.length_map]
          exact ef_Hs_cp (ef_Hs_upo c2 (by rw [List.length_map]; omega)) (by rw [List.length_map]; omega) hbm.2
    have hag1 : ∀ q, q ≠ x → ef_Ag (kc, ks, vs, bl) (upd kc x (nI (KX.length + 1 + KY.length)), ef_cp ef_g (upd ks (5 * x + KX.length) (nI m.1)) (5 * x + KX.length + 1) (5 * y) KY.length, ef_cp ef_g (upd vs (5 * x + KX.length) (nI m.2)) (5 * x + KX.length + 1) (5 * y) KY.length, bl') q := fun q hq =>
      ef_Ag_mk (pk_un hq) (fun j j1 j2 => (ef_cp_out (by omega)).trans (pk_un (by omega))) (fun j j1 j2 => (ef_cp_out (by omega)).trans (pk_un (by omega))) (fun j j1 j2 => h3 j (by omega))
    unfold wX_melt_178
    simp (disch := omega) only [nI_clamp, ky, nI_1, nI_add, ef_t8, ef_nb]
    refine ⟨vp_in_nI hy (by decide), vp_in_nI hx (by decide), nm_e ?_⟩
    refine ef_close_pg (ef_Pg_ag (hag1 a hxa.symm) pa) (fun kc2 ks2 vs2 p2 hag2 => ?_)
    dsimp only
    refine nm_e ⟨6, ?_⟩
    have ka := ef_Pg_kc p2
    rw [List.length_append] at ka
    have hb := ef_Pg_Hb p2
    obtain ⟨q1, q2, q3, q4⟩ := ef_Hs_app.mp hb
    rw [la] at q2 q3 q4
    have pl : ef_Pg (kc2, ks2, vs2, ef_cp (vp_nar .byte) bl' (6 * a + Ka.length + 1) (6 * a + Ka.length + 2) Kb.length) a (Ka ++ Kb) (Ca ++ x :: Cb) := by
      refine ef_Pg_bl p2 ?_ (fun c hc => p2.2.2.2.2.1 c ?_) (fun e => by simp at e) (ef_Hs_app.mpr ⟨ef_Hs_cpo q1 (by omega), ?_, ?_⟩)
      · rw [List.length_append, List.length_cons]; omega
      · simp only [List.mem_append, List.mem_cons] at *
        rcases hc with hc | hc | hc
        · exact Or.inl hc
        · exact Or.inr (Or.inl hc)
        · exact Or.inr (Or.inr (Or.inr hc))
      · rw [la, ef_cp_out (by omega)]; exact q2
      · rw [la]
        exact ef_Hs_cp q4 (by omega) (fun v hv => ef_nb (by have := p2.2.2.2.2.1 v (by simp [hv]); omega))
    have hag3 : ∀ q, q ≠ a → ef_Ag (kc2, ks2, vs2, bl') (kc2, ks2, vs2, ef_cp (vp_nar .byte) bl' (6 * a + Ka.length + 1) (6 * a + Ka.length + 2) Kb.length) q := fun q hq =>
      ef_Ag_mk rfl (fun _ _ _ => rfl) (fun _ _ _ => rfl) (fun j j1 j2 => ef_cp_out (by omega))
    have g := G kc2 ks2 vs2 _ pl (ef_Pg_ag (hag3 x hxa) (ef_Pg_ag (hag2 x hxa) px')) (fun q r1 r2 => ef_Ag_trans (hag1 q r2) (ef_Ag_trans (hag2 q r1) (hag3 q r1)))
    have e := ef_ml208 (rt := rt) (we := we) (wt := wt) (kc := kc2) (ks := ks2) (vs := vs2) (bl := bl') (fr := fr) (nd := nd) (sr := sr) (sn := sn) (sv := sv) (dk := dk) (hd := hd) (wp := wp) (wi := wi) (wq := wq) (post := post) (i := Ka.length) ha hy (by omega) ka
      (by rw [Nat.add_sub_cancel_left]; exact g) Kb.length 0 6 (by omega) (by omega)
    rw [ef_cp_0] at e
    exact e
  rcases hc with ⟨r1, r2⟩ | ⟨r1, r2⟩
  · subst r1 r2
    have hb : bl (6 * x) = -1 := ef_Pg_leaf px
    refine ef_leaf_t hx hb (br_f (by decide) ?_)
    exact fin bl trivial (fun _ => hb) (fun _ _ => rfl)
  · obtain ⟨c0, hc0, e0⟩ := ef_Pg_inner px (fun e => by rw [e] at r1; simp at r1)
    refine ef_leaf_f hx e0 hc0 (br_t rfl ⟨KY.length + 2, ?_⟩)
    have hbx := ef_Pg_Hb px
    have hby := ef_Pg_Hb py
    have e := ef_ml130 (rt := rt) (we := we) (wt := wt) (kc := kc) (ks := ef_cp ef_g (upd ks (5 * x + KX.length) (nI m.1)) (5 * x + KX.length + 1) (5 * y) KY.length) (vs := ef_cp ef_g (upd vs (5 * x + KX.length) (nI m.2)) (5 * x + KX.length + 1) (5 * y) KY.length) (bl := bl) (fr := fr) (nd := nd) (sr := sr) (sn := sn) (sv := sv) (dk := dk) (hd := hd) (wp := wp) (wi := wi) (wq := wq) (post := post) (x1 := nI a) (x2 := nI Ka.length) (e := KX.length) hx hy hxy (by omega) ky
      (fin _ (ef_Hs_app.mpr ⟨ef_Hs_cpo hbx (by omega), by rw [r1]; exact ef_Hs_cp hby (by omega) (fun v hv => ef_nb (by have := py.2.2.2.2.1 v hv; omega))⟩) (fun e => by
        have := congrArg List.length e
        rw [List.length_append, List.length_nil] at this
        omega) (fun j hj => ef_cp_out (by omega))) (KY.length + 1) 0 (KY.length + 2) (by omega) (by omega)
    rw [ef_cp_0] at e
    exact e
end
end
section
/-! taking an item from a neighbour -/
theorem ef_two {kc ks vs bl : Nat → Int32} {a x y : Nat} {K : List (Nat × Nat)} {Ca Cb : List Nat} {n : Nat} (pa : ef_Pg (kc, ks, vs, bl) a K (Ca ++ x :: y :: Cb)) (la : Ca.length = n) : bl (6 * a + n) = nI x ∧ bl (6 * a + n + 1) = nI y := by
  refine ⟨?_, ?_⟩
  · have := (ef_Pg_ch pa).1
    rw [la] at this
    exact this
  · have pa' : ef_Pg (kc, ks, vs, bl) a K ((Ca ++ [x]) ++ y :: Cb) := by rw [List.append_assoc]; exact pa
    have := (ef_Pg_ch pa').1
    rw [List.length_append, List.length_singleton, la] at this
    exact this
section
variable {rt we wt : Int32} {kc ks vs bl fr nd sr sn sv dk hd wp wi wq : Nat → Int32}
theorem ef_tl54 {post : SX → Prop} {x1 x2 : Int32} {x y e n : Nat} (hx : x < 110) (hy : y < 110) (he : e ≤ 5) (hn : n ≤ 5) (hxy : x ≠ y)
    (G : wX_takeFromLeft_113 post x1 x2 (nI y) (nI x) (nI e) rt we wt kc ks vs (upd (ef_cp (vp_nar .byte) bl (6 * y + 1) (6 * y) n) (6 * y) (vp_nar .byte (bl (6 * x + e)))) fr nd sr sn sv dk hd wp wi wq) : ∀ (k c f : Nat), k + c = n → k < f →
    wX_takeFromLeft_54 post x1 x2 (nI y) (nI x) (nI e) rt we wt f (nI k) kc ks vs (ef_cp (vp_nar .byte) bl (6 * y + k + 1) (6 * y + k) c) fr nd sr sn sv dk hd wp wi wq := by
  intro k
  induction k with
  | zero =>
    intro c f hc hf
    obtain ⟨f, rfl⟩ : ∃ g, f = g + 1 := ⟨f - 1, by omega⟩
    obtain rfl : c = n := by omega
    rw [wX_takeFromLeft_54]
    refine br_t (by decide) ?_
    simp (disch := omega) only [ef_m6, nI_add, nI_clamp, Nat.add_zero, ef_cp_out (g := vp_nar .byte) (a := bl) (d := 6 * y + 1) (s := 6 * y) (n := c) (j := 6 * x + e) (by omega)]
    exact ⟨vp_in_nI (by omega) (by decide), vp_in_nI (by omega) (by decide), nm_e G⟩
  | succ k ih =>
    intro c f hc hf
    obtain ⟨f, rfl⟩ : ∃ g, f = g + 1 := ⟨f - 1, by omega⟩
    rw [wX_takeFromLeft_54]
    refine br_f (nI_nle (by omega) (by omega)) ?_
    simp (disch := omega) only [ef_m6, nI_add, ef_s1, nI_clamp, ef_p1]
    have e1 := ef_cp_dn (g := vp_nar .byte) (a := bl) (d := 6 * y + k + 1) (s := 6 * y + k) (k := c) (by omega)
    have t1 : 6 * y + (k + 1) = 6 * y + k + 1 := by omega
    have t2 : 6 * y + k + 1 - 1 = 6 * y + k := by omega
    have t5 : k + 1 - 1 = k := by omega
    simp only [t1, t2, t5, e1]
    exact ⟨vp_in_nI (by omega) (by decide), vp_in_nI (by omega) (by decide), nm_e (nm_e (ih (c + 1) f (by omega) (by omega)))⟩
theorem ef_takeL {post : SX → Prop} {a x y : Nat} {Ka Kb KX KY : List (Nat × Nat)} {m e : Nat × Nat} {Ca Cb CX1 CX2 CY : List Nat} (hxy : x ≠ y) (hxa : x ≠ a) (hya : y ≠ a)
    (pa : ef_Pg (kc, ks, vs, bl) a (Ka ++ m :: Kb) (Ca ++ x :: y :: Cb)) (px : ef_Pg (kc, ks, vs, bl) x (KX ++ [e]) (CX1 ++ CX2)) (py : ef_Pg (kc, ks, vs, bl) y KY CY)
    (la : Ca.length = Ka.length) (hc : (CX1 = [] ∧ CX2 = [] ∧ CY = []) ∨ (CX1.length = KX.length + 1 ∧ CX2.length = 1 ∧ CY.length = KY.length + 1)) (hl : KY.length ≤ 3)
    (G : ∀ kc' ks' vs' bl', ef_Pg (kc', ks', vs', bl') a (Ka ++ e :: Kb) (Ca ++ x :: y :: Cb) → ef_Pg (kc', ks', vs', bl') x KX CX1 → ef_Pg (kc', ks', vs', bl') y (m :: KY) (CX2 ++ CY) →
      (∀ q, q ≠ a → q ≠ x → q ≠ y → ef_Ag (kc, ks, vs, bl) (kc', ks', vs', bl') q) → post (rt, we, wt, kc', ks', vs', bl', fr, nd, sr, sn, sv, dk, hd, wp, wi, wq)) : wpX_takeFromLeft post (rt, we, wt, kc, ks, vs, bl, fr, nd, sr, sn, sv, dk, hd, wp, wi, wq) (nI a) (nI (Ka.length + 1)) := by
  have ha := pa.1
  have hx := px.1
  have hy := py.1
  have l5 := pa.2.1
  rw [List.length_append, List.length_cons] at l5
  have lx5 := px.2.1
  rw [List.length_append, List.length_singleton] at lx5
  obtain ⟨ba, bb⟩ := ef_two pa la
  obtain ⟨m1, m2, m3, m4⟩ := ef_Pg_key pa
  have m1 : ks (5 * a + Ka.length) = nI m.1 := m1
  have m2 : vs (5 * a + Ka.length) = nI m.2 := m2
  obtain ⟨e1, e2, e3, e4⟩ := ef_Pg_key px
  have e1 : ks (5 * x + KX.length) = nI e.1 := e1
  have e2 : vs (5 * x + KX.length) = nI e.2 := e2
  have kx : kc x = nI (KX.length + 1) := by have := ef_Pg_kc px; rw [List.length_append, List.length_singleton] at this; exact this
  have ky : kc y = nI KY.length := ef_Pg_kc py
  have t0 : 6 * a + Ka.length + 1 - 1 = 6 * a + Ka.length := by omega
  have t0' : 6 * a + (Ka.length + 1) = 6 * a + Ka.length + 1 := by omega
  have t1 : 5 * a + (Ka.length + 1) - 1 = 5 * a + Ka.length := by omega
  have t2 : 5 * x + (KX.length + 1) - 1 = 5 * x + KX.length := by omega
  have fin : ∀ bl', ef_Hs bl' (6 * y) (CX2 ++ CY) → (CX2 ++ CY = [] → bl' (6 * y) = -1) → (∀ j, ¬ (6 * y ≤ j ∧ j < 6 * y + 6) → bl' j = bl j) →
      wX_takeFromLeft_113 post (nI a) (nI (Ka.length + 1)) (nI y) (nI x) (nI (KX.length + 1)) rt we wt kc ks vs bl' fr nd sr sn sv dk hd wp wi wq := fun bl' h1 h2 h3 => by
    unfold wX_takeFromLeft_113
    refine ef_openPlace (i := 0) hy (by omega) (by omega) ky ?_
    have f1 : ef_cp (vp_nar .short) ks (5 * y + 0 + 1) (5 * y + 0) (KY.length - 0) (5 * a + Ka.length) = nI m.1 := by rw [ef_cp_out (by omega)]; exact m1
    have f2 : ef_cp (vp_nar .short) vs (5 * y + 0 + 1) (5 * y + 0) (KY.length - 0) (5 * a + Ka.length) = nI m.2 := by rw [ef_cp_out (by omega)]; exact m2
    simp (disch := omega) only [ef_m5, nI_add, ef_s1, nI_clamp, t1, f1, f2]
    refine ⟨vp_in_nI (by omega) (by decide), vp_in_nI (by omega) (by decide), ef_putAt (i := 0) hy (by omega) m3 m4 ?_⟩
    have f3 : upd (ef_cp (vp_nar .short) ks (5 * y + 0 + 1) (5 * y + 0) (KY.length - 0)) (5 * y + 0) (nI m.1) (5 * x + KX.length) = nI e.1 := by rw [ef_uc (by omega) (by omega)]; exact e1
    have f4 : upd (ef_cp (vp_nar .short) vs (5 * y + 0 + 1) (5 * y + 0) (KY.length - 0)) (5 * y + 0) (nI m.2) (5 * x + KX.length) = nI e.2 := by rw [ef_uc (by omega) (by omega)]; exact e2
    simp (disch := omega) only [ef_m5, nI_add, ef_s1, nI_clamp, t2, f3, f4]
    refine ⟨vp_in_nI (by omega) (by decide), vp_in_nI (by omega) (by decide), ?_⟩
    rw [Nat.add_sub_cancel]
    refine ef_putAt ha (by omega) e3 e4 ?_
    have f5 : upd kc y (nI (KY.length + 1)) x = nI (KX.length + 1) := by rw [pk_un hxy]; exact kx
    simp (disch := omega) only [nI_clamp, f5, nI_pred, ef_t8, ef_nb]
    refine ⟨vp_in_nI hx (by decide), vp_in_nI hx (by decide), nm_e ?_⟩
    have py0 : ef_Pg (kc, ks, vs, bl') y ([] ++ KY) (CX2 ++ CY) := by
      refine ef_Pg_bl (bl := bl) py ?_ (fun c hc' => ?_) h2 h1
      · rw [List.length_append]
        rcases hc with ⟨_, r1, r2⟩ | ⟨_, r1, r2⟩
        · rw [r1, r2]; simp
        · omega
      · rcases List.mem_append.mp hc' with hc' | hc'
        · exact px.2.2.2.2.1 c (List.mem_append_right _ hc')
        · exact py.2.2.2.2.1 c hc'
    have py1 := ef_Pg_ins (k := m.1) (v := m.2) py0 (by simp; omega) m3 m4
    simp only [List.length_nil, Nat.zero_add, List.nil_append] at py1
    have pa1 : ef_Pg (upd kc y (nI (KY.length + 1)), upd (ef_cp (vp_nar .short) ks (5 * y + 0 + 1) (5 * y + 0) (KY.length - 0)) (5 * y + 0) (nI m.1), upd (ef_cp (vp_nar .short) vs (5 * y + 0 + 1) (5 * y + 0) (KY.length - 0)) (5 * y + 0) (nI m.2), bl') a (Ka ++ m :: Kb) (Ca ++ x :: y :: Cb) :=
      ef_Pg_ag (ef_Ag_mk (pk_un hya.symm) (fun j j1 j2 => ef_uc (by omega) (by omega)) (fun j j1 j2 => ef_uc (by omega) (by omega)) (fun j j1 j2 => h3 j (by omega))) pa
    have pa2 := ef_Pg_set (k := e.1) (v := e.2) pa1 e3 e4
    have lst : ∀ q, q ≠ x → q ≠ a → ef_Ag (upd kc y (nI (KY.length + 1)), upd (ef_cp (vp_nar .short) ks (5 * y + 0 + 1) (5 * y + 0) (KY.length - 0)) (5 * y + 0) (nI m.1), upd (ef_cp (vp_nar .short) vs (5 * y + 0 + 1) (5 * y + 0) (KY.length - 0)) (5 * y + 0) (nI m.2), bl')
        (upd (upd kc y (nI (KY.length + 1))) x (nI KX.length), upd (upd (ef_cp (vp_nar .short) ks (5 * y + 0 + 1) (5 * y + 0) (KY.length - 0)) (5 * y + 0) (nI m.1)) (5 * a + Ka.length) (nI e.1), upd (upd (ef_cp (vp_nar .short) vs (5 * y + 0 + 1) (5 * y + 0) (KY.length - 0)) (5 * y + 0) (nI m.2)) (5 * a + Ka.length) (nI e.2), bl') q :=
      fun q r1 r2 => ef_Ag_mk (pk_un r1) (fun j j1 j2 => pk_un (by omega)) (fun j j1 j2 => pk_un (by omega)) (fun _ _ _ => rfl)
    refine G _ _ _ bl' ?_ ?_ ?_ (fun q r1 r2 r3 => ?_)
    · refine ef_Pg_ag (ef_Ag_mk (pk_un hxa.symm) (fun _ _ _ => rfl) (fun _ _ _ => rfl) (fun _ _ _ => rfl)) pa2
    · have px1 : ef_Pg (kc, upd (upd (ef_cp (vp_nar .short) ks (5 * y + 0 + 1) (5 * y + 0) (KY.length - 0)) (5 * y + 0) (nI m.1)) (5 * a + Ka.length) (nI e.1), upd (upd (ef_cp (vp_nar .short) vs (5 * y + 0 + 1) (5 * y + 0) (KY.length - 0)) (5 * y + 0) (nI m.2)) (5 * a + Ka.length) (nI e.2), bl') x (KX ++ [e]) (CX1 ++ CX2) :=
        ef_Pg_ag (ef_Ag_mk rfl (fun j j1 j2 => (pk_un (by omega)).trans (ef_uc (by omega) (by omega))) (fun j j1 j2 => (pk_un (by omega)).trans (ef_uc (by omega) (by omega))) (fun j j1 j2 => h3 j (by omega))) px
      refine ef_Pg_cut px1 (fun e => ?_) pk_us
      rcases hc with ⟨_, r1, _⟩ | ⟨r1, _⟩
      · exact r1
      · rw [e] at r1; simp at r1
    · exact ef_Pg_ag (lst y hxy.symm hya) py1
    · exact ef_Ag_trans (ef_Ag_mk (pk_un r3) (fun j j1 j2 => ef_uc (by omega) (by omega)) (fun j j1 j2 => ef_uc (by omega) (by omega)) (fun j j1 j2 => h3 j (by omega))) (lst q r2 r1)
  unfold wpX_takeFromLeft
  simp (disch := omega) only [ef_m6, nI_add, ef_s1, nI_clamp, t0, t0', ba, bb]
  refine ⟨vp_in_nI (by omega) (by decide), nm_e ⟨vp_in_nI (by omega) (by decide), nm_e ⟨vp_in_nI hx (by decide), ?_⟩⟩⟩
  simp (disch := omega) only [nI_clamp, kx]
  refine nm_e ?_
  rcases hc with ⟨r1, r2, r3⟩ | ⟨r1, r2, r3⟩
  · subst r1 r2 r3
    have hb : bl (6 * y) = -1 := ef_Pg_leaf py
    refine ef_leaf_t hy hb (br_f (by decide) ?_)
    exact fin bl trivial (fun _ => hb) (fun _ _ => rfl)
  · obtain ⟨c0, hc0, e0⟩ := ef_Pg_inner py (fun e => by rw [e] at r3; simp at r3)
    refine ef_leaf_f hy e0 hc0 (br_t rfl ?_)
    simp (disch := omega) only [nI_clamp, ky, nI_1]
    refine ⟨vp_in_nI hy (by decide), nm_e ⟨KY.length + 2, ?_⟩⟩
    have hbx := ef_Pg_Hb px
    have hby := ef_Pg_Hb py
    match CX2, r2 with
    | [c], _ =>
      have hcx : bl (6 * x + (KX.length + 1)) = nI c := by
        have := (ef_Hs_app.mp hbx).2.1
        rw [r1] at this
        exact this
      have hc1 := px.2.2.2.2.1 c (by simp)
      have e := ef_tl54 (rt := rt) (we := we) (wt := wt) (kc := kc) (ks := ks) (vs := vs) (bl := bl) (fr := fr) (nd := nd) (sr := sr) (sn := sn) (sv := sv) (dk := dk) (hd := hd) (wp := wp) (wi := wi) (wq := wq) (post := post) (x1 := nI a) (x2 := nI (Ka.length + 1)) (e := KX.length + 1) (n := KY.length + 1) hx hy (by omega) (by omega) hxy
        (by
          rw [hcx, ef_nb (by omega)]
          refine fin _ (show ef_Hs _ (6 * y) (c :: CY) from ⟨pk_us, ef_Hs_upo (ef_Hs_cp hby (by omega) (fun v hv => ef_nb (by have := py.2.2.2.2.1 v hv; omega))) (by omega)⟩) (fun e => by simp at e) (fun j hj => ef_uc (by omega) (by omega)))
        (KY.length + 1) 0 (KY.length + 2) (by omega) (by omega)
      rw [ef_cp_0] at e
      exact e
theorem ef_tr141 {post : SX → Prop} {y n : Nat} (hy : y < 110) (hn : n ≤ 5) (hk : kc y = nI n)
    (G : wX_takeFromRight_187 post (nI y) rt we wt kc ks vs (ef_cp (vp_nar .byte) bl (6 * y) (6 * y + 1) n) fr nd sr sn sv dk hd wp wi wq) : ∀ (k c f : Nat), c + k = n → k < f →
    wX_takeFromRight_141 post (nI y) rt we wt f (nI c) kc ks vs (ef_cp (vp_nar .byte) bl (6 * y) (6 * y + 1) c) fr nd sr sn sv dk hd wp wi wq := by
  intro k
  induction k with
  | zero =>
    intro c f hc hf
    obtain ⟨f, rfl⟩ : ∃ g, f = g + 1 := ⟨f - 1, by omega⟩
    obtain rfl : c = n := by omega
    rw [wX_takeFromRight_141]
    simp (disch := omega) only [nI_clamp, hk]
    exact ⟨vp_in_nI hy (by decide), br_t (nI_le (by omega) (by omega)) G⟩
  | succ k ih =>
    intro c f hc hf
    obtain ⟨f, rfl⟩ : ∃ g, f = g + 1 := ⟨f - 1, by omega⟩
    rw [wX_takeFromRight_141]
    simp (disch := omega) only [nI_clamp, hk]
    refine ⟨vp_in_nI hy (by decide), br_f (nI_ge (by omega) (by omega)) ?_⟩
    simp (disch := omega) only [ef_m6, nI_add, nI_1, nI_clamp]
    have e1 := ef_cp_up (g := vp_nar .byte) (a := bl) (d := 6 * y) (s := 6 * y + 1) (k := c) (by omega)
    have t2 : 6 * y + c + 1 = 6 * y + 1 + c := by omega
    simp only [t2, e1]
    exact ⟨vp_in_nI (by omega) (by decide), vp_in_nI (by omega) (by decide), nm_e (nm_e (ih (c + 1) f (by omega) (by omega)))⟩
theorem ef_takeR {post : SX → Prop} {a x y : Nat} {Ka Kb KX KY : List (Nat × Nat)} {m e : Nat × Nat} {Ca Cb CX CY1 CY2 : List Nat} (hxy : x ≠ y) (hxa : x ≠ a) (hya : y ≠ a)
    (pa : ef_Pg (kc, ks, vs, bl) a (Ka ++ m :: Kb) (Ca ++ x :: y :: Cb)) (px : ef_Pg (kc, ks, vs, bl) x KX CX) (py : ef_Pg (kc, ks, vs, bl) y (e :: KY) (CY1 ++ CY2))
    (la : Ca.length = Ka.length) (hc : (CX = [] ∧ CY1 = [] ∧ CY2 = []) ∨ (CX.length = KX.length + 1 ∧ CY1.length = 1 ∧ CY2.length = KY.length + 1)) (hl : KX.length ≤ 3)
    (G : ∀ kc' ks' vs' bl', ef_Pg (kc', ks', vs', bl') a (Ka ++ e :: Kb) (Ca ++ x :: y :: Cb) → ef_Pg (kc', ks', vs', bl') x (KX ++ [m]) (CX ++ CY1) → ef_Pg (kc', ks', vs', bl') y KY CY2 →
      (∀ q, q ≠ a → q ≠ x → q ≠ y → ef_Ag (kc, ks, vs, bl) (kc', ks', vs', bl') q) → post (rt, we, wt, kc', ks', vs', bl', fr, nd, sr, sn, sv, dk, hd, wp, wi, wq)) : wpX_takeFromRight post (rt, we, wt, kc, ks, vs, bl, fr, nd, sr, sn, sv, dk, hd, wp, wi, wq) (nI a) (nI Ka.length) := by
  have ha := pa.1
  have hx := px.1
  have hy := py.1
  have l5 := pa.2.1
  rw [List.length_append, List.length_cons] at l5
  have ly5 := py.2.1
  rw [List.length_cons] at ly5
  obtain ⟨ba, bb⟩ := ef_two pa la
  obtain ⟨m1, m2, m3, m4⟩ := ef_Pg_key pa
  have m1 : ks (5 * a + Ka.length) = nI m.1 := m1
  have m2 : vs (5 * a + Ka.length) = nI m.2 := m2
  obtain ⟨e1, e2, e3, e4⟩ := ef_Pg_key (K1 := []) py
  have e1 : ks (5 * y) = nI e.1 := e1
  have e2 : vs (5 * y) = nI e.2 := e2
  have kx : kc x = nI KX.length := ef_Pg_kc px
  have ky : kc y = nI (KY.length + 1) := ef_Pg_kc py
  -- the second half, over the children of x as they are then
  have fin : ∀ bl', ef_Hs bl' (6 * x) (CX ++ CY1) → (CX ++ CY1 = [] → bl' (6 * x) = -1) → (∀ j, ¬ (6 * x ≤ j ∧ j < 6 * x + 6) → bl' j = bl j) →
      wX_takeFromRight_94 post (nI a) (nI Ka.length) (nI x) (nI y) rt we wt kc (upd ks (5 * x + KX.length) (nI m.1)) (upd vs (5 * x + KX.length) (nI m.2)) bl' fr nd sr sn sv dk hd wp wi wq := fun bl' h1 h2 h3 => by
    have f1 : upd ks (5 * x + KX.length) (nI m.1) (5 * y) = nI e.1 := by rw [pk_un (by omega)]; exact e1
    have f2 : upd vs (5 * x + KX.length) (nI m.2) (5 * y) = nI e.2 := by rw [pk_un (by omega)]; exact e2
    unfold wX_takeFromRight_94
    simp (disch := omega) only [nI_clamp, kx, nI_1, ef_t8, ef_nb, ef_m5, f1, f2]
    refine ⟨vp_in_nI hx (by decide), vp_in_nI hx (by decide), nm_e ⟨vp_in_nI (by omega) (by decide), vp_in_nI (by omega) (by decide), ef_putAt ha (by omega) e3 e4 ?_⟩⟩
    have px0 : ef_Pg (kc, ks, vs, bl') x (KX ++ []) (CX ++ CY1) := by
      rw [List.append_nil]
      refine ef_Pg_bl (bl := bl) px ?_ (fun c hc' => ?_) h2 h1
      · rw [List.length_append]
        rcases hc with ⟨r1, r2, _⟩ | ⟨r1, r2, _⟩
        · rw [r1, r2]; simp
        · omega
      · rcases List.mem_append.mp hc' with hc' | hc'
        · exact px.2.2.2.2.1 c hc'
        · exact py.2.2.2.2.1 c (List.mem_append_left _ hc')
    have px1 := ef_Pg_ins (k := m.1) (v := m.2) px0 (by simp; omega) m3 m4
    simp only [List.length_nil, Nat.add_zero, ef_cp_0] at px1
    have hagx : ∀ q, q ≠ x → ef_Ag (kc, ks, vs, bl) (upd kc x (nI (KX.length + 1)), upd ks (5 * x + KX.length) (nI m.1), upd vs (5 * x + KX.length) (nI m.2), bl') q := fun q hq =>
      ef_Ag_mk (pk_un hq) (fun j j1 j2 => pk_un (by omega)) (fun j j1 j2 => pk_un (by omega)) (fun j j1 j2 => h3 j (by omega))
    have pa1 := ef_Pg_set (k := e.1) (v := e.2) (ef_Pg_ag (hagx a hxa.symm) pa) e3 e4
    have haga : ∀ q, q ≠ a → ef_Ag (upd kc x (nI (KX.length + 1)), upd ks (5 * x + KX.length) (nI m.1), upd vs (5 * x + KX.length) (nI m.2), bl') (upd kc x (nI (KX.length + 1)), upd (upd ks (5 * x + KX.length) (nI m.1)) (5 * a + Ka.length) (nI e.1), upd (upd vs (5 * x + KX.length) (nI m.2)) (5 * a + Ka.length) (nI e.2), bl') q := fun q hq =>
      ef_Ag_mk rfl (fun j j1 j2 => pk_un (by omega)) (fun j j1 j2 => pk_un (by omega)) (fun _ _ _ => rfl)
    have px2 := ef_Pg_ag (haga x hxa) px1
    have py2 := ef_Pg_ag (haga y hya) (ef_Pg_ag (hagx y hxy.symm) py)
    -- the children of y go down by one, then its items
    have lst : ∀ bl2, ef_Pg (upd kc x (nI (KX.length + 1)), upd (upd ks (5 * x + KX.length) (nI m.1)) (5 * a + Ka.length) (nI e.1), upd (upd vs (5 * x + KX.length) (nI m.2)) (5 * a + Ka.length) (nI e.2), bl2) y (e :: KY) CY2 → (∀ j, ¬ (6 * y ≤ j ∧ j < 6 * y + 6) → bl2 j = bl' j) →
        wX_takeFromRight_187 post (nI y) rt we wt (upd kc x (nI (KX.length + 1))) (upd (upd ks (5 * x + KX.length) (nI m.1)) (5 * a + Ka.length) (nI e.1)) (upd (upd vs (5 * x + KX.length) (nI m.2)) (5 * a + Ka.length) (nI e.2)) bl2 fr nd sr sn sv dk hd wp wi wq := fun bl2 py3 h4 => by
      have hagb : ∀ q, q ≠ y → ef_Ag (upd kc x (nI (KX.length + 1)), upd (upd ks (5 * x + KX.length) (nI m.1)) (5 * a + Ka.length) (nI e.1), upd (upd vs (5 * x + KX.length) (nI m.2)) (5 * a + Ka.length) (nI e.2), bl') (upd kc x (nI (KX.length + 1)), upd (upd ks (5 * x + KX.length) (nI m.1)) (5 * a + Ka.length) (nI e.1), upd (upd vs (5 * x + KX.length) (nI m.2)) (5 * a + Ka.length) (nI e.2), bl2) q := fun q hq =>
        ef_Ag_mk rfl (fun _ _ _ => rfl) (fun _ _ _ => rfl) (fun j j1 j2 => h4 j (by omega))
      unfold wX_takeFromRight_187
      refine ef_close_pg (K1 := []) py3 (fun kc3 ks3 vs3 py4 hag4 => ?_)
      exact G kc3 ks3 vs3 bl2 (ef_Pg_ag (hag4 a hya.symm) (ef_Pg_ag (hagb a hya.symm) pa1)) (ef_Pg_ag (hag4 x hxy) (ef_Pg_ag (hagb x hxy) px2)) py4
        (fun q r1 r2 r3 => ef_Ag_trans (hagx q r2) (ef_Ag_trans (haga q r1) (ef_Ag_trans (hagb q r3) (hag4 q r3))))
    dsimp only
    have kcy : upd kc x (nI (KX.length + 1)) y = nI (KY.length + 1) := ef_Pg_kc py2
    rcases hc with ⟨r1, r2, r3⟩ | ⟨r1, r2, r3⟩
    · subst r1 r2 r3
      exact ef_leaf_t hy (ef_Pg_leaf py2) (br_f (by decide) (lst bl' py2 (fun _ _ => rfl)))
    · obtain ⟨c0, hc0, e0⟩ := ef_Pg_inner py2 (fun e => by have := congrArg List.length e; rw [List.length_append, List.length_nil] at this; omega)
      refine ef_leaf_f hy e0 hc0 (br_t rfl ⟨KY.length + 2, ?_⟩)
      have hby := ef_Pg_Hb py2
      have hb2 := (ef_Hs_app.mp hby).2
      rw [r2] at hb2
      have e := ef_tr141 (rt := rt) (we := we) (wt := wt) (kc := upd kc x (nI (KX.length + 1))) (ks := upd (upd ks (5 * x + KX.length) (nI m.1)) (5 * a + Ka.length) (nI e.1)) (vs := upd (upd vs (5 * x + KX.length) (nI m.2)) (5 * a + Ka.length) (nI e.2)) (bl := bl') (fr := fr) (nd := nd) (sr := sr) (sn := sn) (sv := sv) (dk := dk) (hd := hd) (wp := wp) (wi := wi) (wq := wq) (post := post) (n := KY.length + 1) hy (by omega) kcy
        (lst _ (ef_Pg_bl py2 (by omega) (fun c hc' => py2.2.2.2.2.1 c (List.mem_append_right _ hc')) (fun e => by rw [e] at r3; simp at r3) (ef_Hs_cp hb2 (by omega) (fun v hv => ef_nb (by have := py2.2.2.2.2.1 v (List.mem_append_right _ hv); omega))))
          (fun j hj => ef_cp_out (by omega))) (KY.length + 1) 0 (KY.length + 2) (by omega) (by omega)
      rw [ef_cp_0] at e
      exact e
  unfold wpX_takeFromRight
  simp (disch := omega) only [ef_m6, ef_m5, nI_add, nI_1, nI_clamp, ba, bb]
  refine ⟨vp_in_nI (by omega) (by decide), nm_e ⟨vp_in_nI (by omega) (by decide), nm_e ⟨vp_in_nI hx (by decide), ?_⟩⟩⟩
  simp (disch := omega) only [nI_clamp, kx, m1, m2]
  refine nm_e ⟨vp_in_nI (by omega) (by decide), vp_in_nI (by omega) (by decide), ef_putAt hx (by omega) m3 m4 ?_⟩
  dsimp only
  rcases hc with ⟨r1, r2, r3⟩ | ⟨r1, r2, r3⟩
  · have hb : bl (6 * x) = -1 := by rw [r1] at px; exact ef_Pg_leaf px
    refine ef_leaf_t hx hb (br_f (by decide) ?_)
    refine fin bl ?_ (fun _ => hb) (fun _ _ => rfl)
    rw [r1, r2]
    trivial
  · obtain ⟨c0, hc0, e0⟩ := ef_Pg_inner px (fun e => by rw [e] at r1; simp at r1)
    refine ef_leaf_f hx e0 hc0 (br_t rfl ?_)
    have hbx := ef_Pg_Hb px
    have hby := ef_Pg_Hb py
    match CY1, r2 with
    | [c], _ =>
      have hcy : bl (6 * y) = nI c := hby.1
      have hc1 := py.2.2.2.2.1 c (by simp)
      simp (disch := omega) only [ef_m6, nI_add, nI_1, nI_clamp, hcy, ef_nb]
      refine ⟨vp_in_nI (by omega) (by decide), vp_in_nI (by omega) (by decide), nm_e ?_⟩
      refine fin _ (ef_Hs_app.mpr ⟨ef_Hs_upo hbx (by omega), ?_, trivial⟩) (fun e => by simp at e) (fun j hj => pk_un (by omega))
      rw [r1]
      exact pk_us
end
end
section
/-! two neighbours below one page -/
def ef_O1 (H : ef_H) (R rt : Nat) (w : List (Nat × Nat)) (h x : Nat) (A B : List (Nat × Nat)) (Q : List Nat) (K : List (Nat × Nat)) (cs : List ef_T) (P : List Nat) : Prop :=
  ef_Cx H R rt w h x A B Q ∧ ef_Nd H (x, ef_mx K cs, P) K cs ∧ ef_Ch H 2 4 h K.length cs ∧ (h ≠ R → 1 ≤ K.length) ∧ K.length ≤ 4
theorem ef_O1_wk {H : ef_H} {R r h x : Nat} {w A B Q K cs P} (i : ef_O1 H R r w h x A B Q K cs P) (hl : (A ++ (ef_mx K cs ++ B)).length ≤ 80) : (P ++ Q).length ≤ 42 ∧ ∃ P', P'.Perm (P ++ Q) ∧ ef_Wk H (nI r) P' := by
  obtain ⟨i1, i2, i3, i4, i6⟩ := i
  have c1 := ef_Cx_cnt i1
  have c2 := ef_Ch_cnt i3
  have e : P = x :: ef_fl cs := i2.2.2
  have hb : (P ++ Q).length ≤ 42 := by
    rw [e]
    simp only [List.length_append, List.length_cons] at *
    omega
  obtain ⟨P', p1, p2⟩ := ef_plug5 i1 (ef_Tr_iff.mpr ⟨K, cs, by omega, by omega, i2, ef_Ch_mono (by omega) (by omega) i3⟩)
  exact ⟨hb, P', p1, Or.inr ⟨r, _, R, rfl, p2, by rw [p1.length_eq]; omega⟩⟩
def ef_Tw (H : ef_H) (R r : Nat) (w : List (Nat × Nat)) (h a : Nat) (A B : List (Nat × Nat)) (Q : List Nat) (Ka : List (Nat × Nat)) (m : Nat × Nat) (Kb : List (Nat × Nat)) (csa csb : List ef_T)
    (X : Nat) (KX : List (Nat × Nat)) (csX : List ef_T) (Y : Nat) (KY : List (Nat × Nat)) (csY : List ef_T) : Prop :=
  ef_Cx H R r w (h + 1) a A B Q ∧ ef_Pg H a (Ka ++ m :: Kb) (csa.map (·.1) ++ X :: Y :: csb.map (·.1)) ∧ csa.length = Ka.length ∧ csb.length = Kb.length ∧ Ka.length + Kb.length ≤ 3 ∧ (h + 1 ≠ R → 1 ≤ Ka.length + Kb.length) ∧
  (∀ c ∈ csa, ef_Tr H 2 4 h c) ∧ (∀ c ∈ csb, ef_Tr H 2 4 h c) ∧ ef_Pg H X KX (csX.map (·.1)) ∧ ef_Ch H 2 4 h KX.length csX ∧ ef_Pg H Y KY (csY.map (·.1)) ∧ ef_Ch H 2 4 h KY.length csY
def ef_tp (a X Y : Nat) (csa csb csX csY : List ef_T) (Q : List Nat) : List Nat := a :: X :: Y :: (ef_fl csa ++ (ef_fl csb ++ (ef_fl csX ++ (ef_fl csY ++ Q))))
def ef_tc (A B Ka : List (Nat × Nat)) (m : Nat × Nat) (Kb : List (Nat × Nat)) (csa csb : List ef_T) (KX : List (Nat × Nat)) (csX : List ef_T) (KY : List (Nat × Nat)) (csY : List ef_T) : List (Nat × Nat) :=
  A ++ (ef_lL csa Ka ++ (ef_mx KX csX ++ m :: (ef_mx KY csY ++ (ef_lR Kb csb ++ B))))
/-- the pages of the frame but for a, X, Y are others -/
theorem ef_tp_ne {a X Y : Nat} {csa csb csX csY : List ef_T} {Q : List Nat} (h : (ef_tp a X Y csa csb csX csY Q).Nodup) : X ≠ a ∧ Y ≠ a ∧ X ≠ Y ∧
    ∀ q, q ∈ ef_fl csa ∨ q ∈ ef_fl csb ∨ q ∈ ef_fl csX ∨ q ∈ ef_fl csY ∨ q ∈ Q → q ≠ a ∧ q ≠ X ∧ q ≠ Y := by
  unfold ef_tp at h
  simp only [List.nodup_cons, List.mem_cons, not_or] at h
  obtain ⟨⟨h1, h2, h3⟩, ⟨h4, h5⟩, h6, _⟩ := h
  refine ⟨fun e => h1 e.symm, fun e => h2 e.symm, h4, fun q hq => ?_⟩
  have hm : q ∈ ef_fl csa ++ (ef_fl csb ++ (ef_fl csX ++ (ef_fl csY ++ Q))) := by simpa only [List.mem_append] using hq
  exact ⟨fun e => h3 (e ▸ hm), fun e => h5 (e ▸ hm), fun e => h6 (e ▸ hm)⟩
theorem ef_Tw_copyX {H H' : ef_H} {R r h a X Y r' : Nat} {w A B Q Ka m Kb csa csb KX csX KY csY} (t : ef_Tw H R r w h a A B Q Ka m Kb csa csb X KX csX Y KY csY) (hn : (ef_tp a X Y csa csb csX csY Q).Nodup) (hr : r' < 110)
    (hag : ∀ q ∈ ef_tp a X Y csa csb csX csY Q, q ≠ a → ef_Ag H H' q) (hk : H'.1 a = H.1 a) (h1 : ∀ j, 5 * a ≤ j → j < 5 * a + 5 → H'.2.1 j = H.2.1 j ∧ H'.2.2.1 j = H.2.2.1 j)
    (h2 : ∀ j, 6 * a ≤ j → j < 6 * a + 6 → j ≠ 6 * a + Ka.length → H'.2.2.2 j = H.2.2.2 j) (h3 : H'.2.2.2 (6 * a + Ka.length) = nI r') (hp : ∀ K C, ef_Pg H X K C → ef_Pg H' r' K C) :
    ef_Tw H' R r w h a A B Q Ka m Kb csa csb r' KX csX Y KY csY := by
  obtain ⟨n1, n2, n3, n4⟩ := ef_tp_ne hn
  obtain ⟨t1, t2, t3, t4, t5, t6, t7, t8, t9, t10, t11, t12⟩ := t
  have ag : ∀ q, q ∈ ef_fl csa ∨ q ∈ ef_fl csb ∨ q ∈ ef_fl csX ∨ q ∈ ef_fl csY ∨ q ∈ Q → ef_Ag H H' q := fun q hq => hag q (by unfold ef_tp; simp only [List.mem_cons, List.mem_append]; exact Or.inr (Or.inr (Or.inr hq))) (n4 q hq).1
  have la : (csa.map (·.1)).length = Ka.length := by rw [List.length_map]; exact t3
  refine ⟨ef_Cx_ag (fun q hq => ag q (by simp [hq])) t1, ef_Pg_hole t2 hr hk h1 (by rw [la]; exact h2) (by rw [la]; exact h3), t3, t4, t5, t6, fun c hc => ef_Tr_ag (fun q hq => ag q (Or.inl (ef_fl_mem hc hq))) (t7 c hc),
    fun c hc => ef_Tr_ag (fun q hq => ag q (Or.inr (Or.inl (ef_fl_mem hc hq)))) (t8 c hc), hp _ _ t9, ef_Ch_ag (fun q hq => ag q (by simp [hq])) t10, ef_Pg_ag (hag Y (by simp [ef_tp]) n2) t11, ef_Ch_ag (fun q hq => ag q (by simp [hq])) t12⟩
theorem ef_Tw_copyY {H H' : ef_H} {R r h a X Y r' : Nat} {w A B Q Ka m Kb csa csb KX csX KY csY} (t : ef_Tw H R r w h a A B Q Ka m Kb csa csb X KX csX Y KY csY) (hn : (ef_tp a X Y csa csb csX csY Q).Nodup) (hr : r' < 110)
    (hag : ∀ q ∈ ef_tp a X Y csa csb csX csY Q, q ≠ a → ef_Ag H H' q) (hk : H'.1 a = H.1 a) (h1 : ∀ j, 5 * a ≤ j → j < 5 * a + 5 → H'.2.1 j = H.2.1 j ∧ H'.2.2.1 j = H.2.2.1 j)
    (h2 : ∀ j, 6 * a ≤ j → j < 6 * a + 6 → j ≠ 6 * a + (Ka.length + 1) → H'.2.2.2 j = H.2.2.2 j) (h3 : H'.2.2.2 (6 * a + (Ka.length + 1)) = nI r') (hp : ∀ K C, ef_Pg H Y K C → ef_Pg H' r' K C) :
    ef_Tw H' R r w h a A B Q Ka m Kb csa csb X KX csX r' KY csY := by
  obtain ⟨n1, n2, n3, n4⟩ := ef_tp_ne hn
  obtain ⟨t1, t2, t3, t4, t5, t6, t7, t8, t9, t10, t11, t12⟩ := t
  have ag : ∀ q, q ∈ ef_fl csa ∨ q ∈ ef_fl csb ∨ q ∈ ef_fl csX ∨ q ∈ ef_fl csY ∨ q ∈ Q → ef_Ag H H' q := fun q hq => hag q (by unfold ef_tp; simp only [List.mem_cons, List.mem_append]; exact Or.inr (Or.inr (Or.inr hq))) (n4 q hq).1
  have la : (csa.map (·.1) ++ [X]).length = Ka.length + 1 := by rw [List.length_append, List.length_map, List.length_singleton, t3]
  have t2' : ef_Pg H a (Ka ++ m :: Kb) ((csa.map (·.1) ++ [X]) ++ Y :: csb.map (·.1)) := by rw [List.append_assoc]; exact t2
  have np := ef_Pg_hole t2' hr hk h1 (by rw [la]; exact h2) (by rw [la]; exact h3)
  rw [List.append_assoc] at np
  refine ⟨ef_Cx_ag (fun q hq => ag q (by simp [hq])) t1, np, t3, t4, t5, t6, fun c hc => ef_Tr_ag (fun q hq => ag q (Or.inl (ef_fl_mem hc hq))) (t7 c hc),
    fun c hc => ef_Tr_ag (fun q hq => ag q (Or.inr (Or.inl (ef_fl_mem hc hq)))) (t8 c hc), ef_Pg_ag (hag X (by simp [ef_tp]) n1) t9, ef_Ch_ag (fun q hq => ag q (by simp [hq])) t10, hp _ _ t11, ef_Ch_ag (fun q hq => ag q (by simp [hq])) t12⟩
theorem ef_Ch2 {H : ef_H} {h n n' : Nat} {cs cs' : List ef_T} (i : ef_Ch H 2 4 h n cs) (j : ef_Ch H 2 4 h n' cs') : (h = 0 ∧ cs = [] ∧ cs' = []) ∨ (∃ h', h = h' + 1 ∧ cs.length = n + 1 ∧ cs'.length = n' + 1) := by
  cases h with
  | zero => exact Or.inl ⟨rfl, i, j⟩
  | succ h => exact Or.inr ⟨h, rfl, i.1, j.1⟩
theorem ef_Ch_app {H : ef_H} {h n n' : Nat} {cs cs' : List ef_T} (i : ef_Ch H 2 4 h n cs) (j : ef_Ch H 2 4 h n' cs') : ef_Ch H 2 4 h (n + 1 + n') (cs ++ cs') := by
  cases h with
  | zero => cases i; cases j; rfl
  | succ h =>
    refine ⟨by rw [List.length_append, i.1, j.1]; omega, fun c hc => ?_⟩
    rcases List.mem_append.mp hc with hc | hc
    · exact i.2 c hc
    · exact j.2 c hc
theorem ef_mx_join {H : ef_H} {h : Nat} {KX KY : List (Nat × Nat)} {m : Nat × Nat} {cs cs' : List ef_T} (i : ef_Ch H 2 4 h KX.length cs) (j : ef_Ch H 2 4 h KY.length cs') : ef_mx (KX ++ m :: KY) (cs ++ cs') = ef_mx KX cs ++ m :: ef_mx KY cs' := by
  rcases ef_Ch2 i j with ⟨_, rfl, rfl⟩ | ⟨h', _, l1, l2⟩
  · rfl
  · exact ef_mx_split l1 (fun e => by rw [e] at l2; simp at l2)
theorem ef_Tw_melt {H H' : ef_H} {R r h a X Y : Nat} {w A B Q Ka m Kb csa csb KX csX KY csY} (t : ef_Tw H R r w h a A B Q Ka m Kb csa csb X KX csX Y KY csY) (hn : (ef_tp a X Y csa csb csX csY Q).Nodup)
    (l1 : 1 ≤ KX.length) (l2 : 1 ≤ KY.length) (l3 : KX.length + 1 + KY.length ≤ 4) (pa : ef_Pg H' a (Ka ++ Kb) (csa.map (·.1) ++ X :: csb.map (·.1))) (px : ef_Pg H' X (KX ++ m :: KY) (csX.map (·.1) ++ csY.map (·.1)))
    (hag : ∀ q, q ≠ a → q ≠ X → ef_Ag H H' q) :
    ∃ K' cs' P', ef_O1 H' R r w (h + 1) a A B Q K' cs' P' ∧ A ++ (ef_mx K' cs' ++ B) = ef_tc A B Ka m Kb csa csb KX csX KY csY ∧ (Y :: (P' ++ Q)).Perm (ef_tp a X Y csa csb csX csY Q) := by
  obtain ⟨n1, n2, n3, n4⟩ := ef_tp_ne hn
  obtain ⟨t1, t2, t3, t4, t5, t6, t7, t8, t9, t10, t11, t12⟩ := t
  have ag : ∀ q, q ∈ ef_fl csa ∨ q ∈ ef_fl csb ∨ q ∈ ef_fl csX ∨ q ∈ ef_fl csY ∨ q ∈ Q → ef_Ag H H' q := fun q hq => hag q (n4 q hq).1 (n4 q hq).2.1
  have tx : ef_Tr H' 2 4 h (X, ef_mx (KX ++ m :: KY) (csX ++ csY), X :: ef_fl (csX ++ csY)) := by
    refine ef_Tr_iff.mpr ⟨KX ++ m :: KY, csX ++ csY, by rw [List.length_append, List.length_cons]; omega, by rw [List.length_append, List.length_cons]; omega, ⟨by rw [List.map_append]; exact px, rfl, rfl⟩, ?_⟩
    have := ef_Ch_app (ef_Ch_ag (H' := H') (fun q hq => ag q (by simp [hq])) t10) (ef_Ch_ag (H' := H') (fun q hq => ag q (by simp [hq])) t12)
    rw [List.length_append, List.length_cons, show KX.length + (KY.length + 1) = KX.length + 1 + KY.length from by omega]
    exact this
  refine ⟨Ka ++ Kb, csa ++ (X, ef_mx (KX ++ m :: KY) (csX ++ csY), X :: ef_fl (csX ++ csY)) :: csb, a :: ef_fl (csa ++ (X, ef_mx (KX ++ m :: KY) (csX ++ csY), X :: ef_fl (csX ++ csY)) :: csb),
    ⟨ef_Cx_ag (fun q hq => ag q (by simp [hq])) t1, ⟨by rw [List.map_append, List.map_cons]; exact pa, rfl, rfl⟩, ⟨?_, fun c hc => ?_⟩, fun hR => ?_, ?_⟩, ?_, ?_⟩
  · simp only [List.length_append, List.length_cons]; omega
  · simp only [List.mem_append, List.mem_cons] at hc
    rcases hc with hc | rfl | hc
    · exact ef_Tr_ag (fun q hq => ag q (Or.inl (ef_fl_mem hc hq))) (t7 c hc)
    · exact tx
    · exact ef_Tr_ag (fun q hq => ag q (Or.inr (Or.inl (ef_fl_mem hc hq)))) (t8 c hc)
  · rw [List.length_append]; exact t6 hR
  · rw [List.length_append]; omega
  · unfold ef_tc
    rw [ef_mx_hole t3, ef_mx_join t10 t12]
    simp only [List.append_assoc, List.cons_append]
  · unfold ef_tp
    rw [List.perm_iff_count]
    intro q
    simp only [ef_fl_app, ef_fl_cons, List.count_append, List.count_cons]
    omega
/-- both stay, with other items and subtrees -/
theorem ef_Tw_both {H H' : ef_H} {R r h a X Y : Nat} {w A B Q Ka m Kb csa csb KX csX KY csY} {e : Nat × Nat} {KX' KY' : List (Nat × Nat)} {csX' csY' : List ef_T} (t : ef_Tw H R r w h a A B Q Ka m Kb csa csb X KX csX Y KY csY) (hn : (ef_tp a X Y csa csb csX csY Q).Nodup)
    (pa : ef_Pg H' a (Ka ++ e :: Kb) (csa.map (·.1) ++ X :: Y :: csb.map (·.1))) (px : ef_Pg H' X KX' (csX'.map (·.1))) (py : ef_Pg H' Y KY' (csY'.map (·.1))) (hag : ∀ q, q ≠ a → q ≠ X → q ≠ Y → ef_Ag H H' q)
    (l1 : 2 ≤ KX'.length) (l2 : KX'.length ≤ 4) (l3 : 2 ≤ KY'.length) (l4 : KY'.length ≤ 4) (c1 : ef_Ch H 2 4 h KX'.length csX') (c2 : ef_Ch H 2 4 h KY'.length csY') (hs : csX' ++ csY' = csX ++ csY)
    (hm : ef_mx KX csX ++ m :: ef_mx KY csY = ef_mx KX' csX' ++ e :: ef_mx KY' csY') :
    ∃ K' cs' P', ef_O1 H' R r w (h + 1) a A B Q K' cs' P' ∧ A ++ (ef_mx K' cs' ++ B) = ef_tc A B Ka m Kb csa csb KX csX KY csY ∧ (P' ++ Q).Perm (ef_tp a X Y csa csb csX csY Q) := by
  obtain ⟨n1, n2, n3, n4⟩ := ef_tp_ne hn
  obtain ⟨t1, t2, t3, t4, t5, t6, t7, t8, t9, t10, t11, t12⟩ := t
  have ag : ∀ q, q ∈ ef_fl csa ∨ q ∈ ef_fl csb ∨ q ∈ ef_fl csX ∨ q ∈ ef_fl csY ∨ q ∈ Q → ef_Ag H H' q := fun q hq => hag q (n4 q hq).1 (n4 q hq).2.1 (n4 q hq).2.2
  have hfs : ef_fl csX' ++ ef_fl csY' = ef_fl csX ++ ef_fl csY := by rw [← ef_fl_app, ← ef_fl_app, hs]
  have ag' : ∀ q, q ∈ ef_fl csX' ++ ef_fl csY' → ef_Ag H H' q := fun q hq => by
    rw [hfs] at hq
    rcases List.mem_append.mp hq with hq | hq
    · exact ag q (by simp [hq])
    · exact ag q (by simp [hq])
  have tx : ef_Tr H' 2 4 h (X, ef_mx KX' csX', X :: ef_fl csX') := ef_Tr_iff.mpr ⟨KX', csX', l1, l2, ⟨px, rfl, rfl⟩, ef_Ch_ag (fun q hq => ag' q (by simp [hq])) c1⟩
  have ty : ef_Tr H' 2 4 h (Y, ef_mx KY' csY', Y :: ef_fl csY') := ef_Tr_iff.mpr ⟨KY', csY', l3, l4, ⟨py, rfl, rfl⟩, ef_Ch_ag (fun q hq => ag' q (by simp [hq])) c2⟩
  refine ⟨Ka ++ e :: Kb, csa ++ (X, ef_mx KX' csX', X :: ef_fl csX') :: (Y, ef_mx KY' csY', Y :: ef_fl csY') :: csb, a :: ef_fl (csa ++ (X, ef_mx KX' csX', X :: ef_fl csX') :: (Y, ef_mx KY' csY', Y :: ef_fl csY') :: csb),
    ⟨ef_Cx_ag (fun q hq => ag q (by simp [hq])) t1, ⟨by simp only [List.map_append, List.map_cons]; exact pa, rfl, rfl⟩, ⟨?_, fun c hc => ?_⟩, fun hR => ?_, ?_⟩, ?_, ?_⟩
  · simp only [List.length_append, List.length_cons]; omega
  · simp only [List.mem_append, List.mem_cons] at hc
    rcases hc with hc | rfl | rfl | hc
    · exact ef_Tr_ag (fun q hq => ag q (Or.inl (ef_fl_mem hc hq))) (t7 c hc)
    · exact tx
    · exact ty
    · exact ef_Tr_ag (fun q hq => ag q (Or.inr (Or.inl (ef_fl_mem hc hq)))) (t8 c hc)
  · rw [List.length_append, List.length_cons]; omega
  · rw [List.length_append, List.length_cons]; omega
  · unfold ef_tc
    rw [ef_mx_hole t3]
    have hm' : ef_mx KX csX ++ m :: (ef_mx KY csY ++ (ef_lR Kb csb ++ B)) = (ef_mx KX csX ++ m :: ef_mx KY csY) ++ (ef_lR Kb csb ++ B) := by simp only [List.append_assoc, List.cons_append]
    rw [hm', hm]
    simp only [ef_lR, List.append_assoc, List.cons_append]
  · have hfc : ∀ q, List.count q (ef_fl csX') + List.count q (ef_fl csY') = List.count q (ef_fl csX) + List.count q (ef_fl csY) := fun q => by rw [← List.count_append, hfs, List.count_append]
    unfold ef_tp
    rw [List.perm_iff_count]
    intro q
    have := hfc q
    simp only [ef_fl_app, ef_fl_cons, List.count_append, List.count_cons]
    omega
/-- the last item and the last subtree of X go over -/
theorem ef_shL {H : ef_H} {h : Nat} {KX KY : List (Nat × Nat)} {m e : Nat × Nat} {csX csY : List ef_T} (i : ef_Ch H 2 4 h (KX ++ [e]).length csX) (j : ef_Ch H 2 4 h KY.length csY) : ∃ c1 c2, csX = c1 ++ c2 ∧ ef_Ch H 2 4 h KX.length c1 ∧ ef_Ch H 2 4 h (m :: KY).length (c2 ++ csY) ∧
    ef_mx (KX ++ [e]) csX ++ m :: ef_mx KY csY = ef_mx KX c1 ++ e :: ef_mx (m :: KY) (c2 ++ csY) ∧ ((c1.map (·.1) = [] ∧ c2.map (·.1) = [] ∧ csY.map (·.1) = []) ∨ ((c1.map (·.1)).length = KX.length + 1 ∧ (c2.map (·.1)).length = 1 ∧ (csY.map (·.1)).length = KY.length + 1)) := by
  cases h with
  | zero =>
    cases i
    cases j
    exact ⟨[], [], rfl, rfl, rfl, by simp [ef_mx], Or.inl ⟨rfl, rfl, rfl⟩⟩
  | succ h =>
    obtain ⟨i1, i2⟩ := i
    obtain ⟨j1, j2⟩ := j
    rw [List.length_append, List.length_singleton] at i1
    rcases List.eq_nil_or_concat csX with rfl | ⟨c1, c, rfl⟩
    · simp at i1
    rw [List.concat_eq_append] at *
    rw [List.length_append, List.length_singleton] at i1
    have hy : csY ≠ [] := fun e => by rw [e] at j1; simp at j1
    refine ⟨c1, [c], rfl, ⟨by omega, fun d hd => i2 d (by simp [hd])⟩, ⟨?_, fun d hd => ?_⟩, ?_, Or.inr ⟨by rw [List.length_map]; omega, rfl, by rw [List.length_map]; exact j1⟩⟩
    · simp only [List.length_append, List.length_cons, List.length_nil]; omega
    · simp only [List.singleton_append, List.mem_cons] at hd
      rcases hd with rfl | hd
      · exact i2 d (by simp)
      · exact j2 d hd
    · rw [ef_mx_split (K2 := []) (by omega) (by simp)]
      show _ = _ ++ e :: (c.2.1 ++ ef_lR (m :: KY) csY)
      rw [ef_lR_mx hy]
      simp [ef_mx, ef_lR]
theorem ef_shR {H : ef_H} {h : Nat} {KX KY : List (Nat × Nat)} {m e : Nat × Nat} {csX csY : List ef_T} (i : ef_Ch H 2 4 h KX.length csX) (j : ef_Ch H 2 4 h (e :: KY).length csY) : ∃ c1 c2, csY = c1 ++ c2 ∧ ef_Ch H 2 4 h (KX ++ [m]).length (csX ++ c1) ∧ ef_Ch H 2 4 h KY.length c2 ∧
    ef_mx KX csX ++ m :: ef_mx (e :: KY) csY = ef_mx (KX ++ [m]) (csX ++ c1) ++ e :: ef_mx KY c2 ∧ ((csX.map (·.1) = [] ∧ c1.map (·.1) = [] ∧ c2.map (·.1) = []) ∨ ((csX.map (·.1)).length = KX.length + 1 ∧ (c1.map (·.1)).length = 1 ∧ (c2.map (·.1)).length = KY.length + 1)) := by
  cases h with
  | zero =>
    cases i
    cases j
    exact ⟨[], [], rfl, rfl, rfl, by simp [ef_mx], Or.inl ⟨rfl, rfl, rfl⟩⟩
  | succ h =>
    obtain ⟨i1, i2⟩ := i
    obtain ⟨j1, j2⟩ := j
    rw [List.length_cons] at j1
    cases csY with
    | nil => simp at j1
    | cons c c2 =>
      rw [List.length_cons] at j1
      have hy : c2 ≠ [] := fun e => by rw [e] at j1; simp at j1
      refine ⟨[c], c2, rfl, ⟨?_, fun d hd => ?_⟩, ⟨by omega, fun d hd => j2 d (by simp [hd])⟩, ?_, Or.inr ⟨by rw [List.length_map]; exact i1, rfl, by rw [List.length_map]; omega⟩⟩
      · simp only [List.length_append, List.length_cons, List.length_nil]; omega
      · simp only [List.mem_append, List.mem_singleton] at hd
        rcases hd with hd | rfl
        · exact i2 d hd
        · exact j2 d (by simp)
      · rw [ef_mx_split (K2 := []) i1 (by simp)]
        show _ ++ m :: (c.2.1 ++ ef_lR (e :: KY) c2) = _
        rw [ef_lR_mx hy]
        simp [ef_mx, ef_lR]
end
section
/-! refilling a page -/
section
variable {rt we wt : Int32} {kc ks vs bl fr nd sr sn sv dk hd wp wi wq : Nat → Int32}
theorem ef_fin_melt {post : SX → Prop} {R r h a X Y : Nat} {w A B Q Ka m Kb csa csb KX csX KY csY LS PS} (t : ef_Tw (kc, ks, vs, bl) R r w h a A B Q Ka m Kb csa csb X KX csX Y KY csY)
    (hI : ef_Inv kc ks vs bl fr sr sn sv LS PS (ef_tp a X Y csa csb csX csY Q)) (aS : a ∉ PS) (xS : X ∉ PS) (l1 : 1 ≤ KX.length) (l2 : 1 ≤ KY.length) (l3 : KX.length + 1 + KY.length ≤ 4)
    (G : ∀ K' cs' P' kc' ks' vs' bl' fr', ef_O1 (kc', ks', vs', bl') R r w (h + 1) a A B Q K' cs' P' → A ++ (ef_mx K' cs' ++ B) = ef_tc A B Ka m Kb csa csb KX csX KY csY → ef_Inv kc' ks' vs' bl' fr' sr sn sv LS PS (P' ++ Q) → (∀ q, q ≠ Y → fr' q = fr q) →
      post (rt, we, wt, kc', ks', vs', bl', fr', nd, sr, sn, sv, dk, hd, wp, wi, wq)) : wpX_melt post (rt, we, wt, kc, ks, vs, bl, fr, nd, sr, sn, sv, dk, hd, wp, wi, wq) (nI a) (nI Ka.length) := by
  have hn := hI.2.1
  obtain ⟨n1, n2, n3, n4⟩ := ef_tp_ne hn
  have t' := t
  obtain ⟨t1, t2, t3, t4, t5, t6, t7, t8, t9, t10, t11, t12⟩ := t
  refine ef_melt n3 n1 n2 t2 t9 t11 (by rw [List.length_map]; exact t3) (by rw [List.length_map]; exact t4) ?_ l3 (fun kc' ks' vs' bl' pa px hag => ?_)
  · rcases ef_Ch2 t10 t12 with ⟨_, rfl, rfl⟩ | ⟨_, _, r1, r2⟩
    · exact Or.inl ⟨rfl, rfl⟩
    · rw [List.length_map, List.length_map]
      exact Or.inr ⟨r1, r2⟩
  · obtain ⟨K', cs', P', g1, g2, g3⟩ := ef_Tw_melt t' hn l1 l2 l3 pa px hag
    exact G K' cs' P' kc' ks' vs' bl' _ g1 g2 (ef_Inv_free (ef_Inv_perm g3.symm (ef_Inv_ag (fun q hq => hag q (fun e => aS (e ▸ hq)) (fun e => xS (e ▸ hq))) hI))) (fun q hq => pk_un hq)
theorem ef_fin_L {post : SX → Prop} {R r h a X Y : Nat} {w A B Q Ka m Kb csa csb KX csX KY csY LS PS} (t : ef_Tw (kc, ks, vs, bl) R r w h a A B Q Ka m Kb csa csb X KX csX Y KY csY)
    (hI : ef_Inv kc ks vs bl fr sr sn sv LS PS (ef_tp a X Y csa csb csX csY Q)) (aS : a ∉ PS) (xS : X ∉ PS) (yS : Y ∉ PS) (l1 : 3 ≤ KX.length) (l1' : KX.length ≤ 4) (l2 : KY.length = 1)
    (G : ∀ K' cs' P' kc' ks' vs' bl' fr', ef_O1 (kc', ks', vs', bl') R r w (h + 1) a A B Q K' cs' P' → A ++ (ef_mx K' cs' ++ B) = ef_tc A B Ka m Kb csa csb KX csX KY csY → ef_Inv kc' ks' vs' bl' fr' sr sn sv LS PS (P' ++ Q) → (∀ q, q ≠ Y → fr' q = fr q) →
      post (rt, we, wt, kc', ks', vs', bl', fr', nd, sr, sn, sv, dk, hd, wp, wi, wq)) : wpX_takeFromLeft post (rt, we, wt, kc, ks, vs, bl, fr, nd, sr, sn, sv, dk, hd, wp, wi, wq) (nI a) (nI (Ka.length + 1)) := by
  have hn := hI.2.1
  obtain ⟨n1, n2, n3, n4⟩ := ef_tp_ne hn
  have t' := t
  obtain ⟨t1, t2, t3, t4, t5, t6, t7, t8, t9, t10, t11, t12⟩ := t
  rcases List.eq_nil_or_concat KX with rfl | ⟨KX, e, rfl⟩
  · simp at l1
  rw [List.concat_eq_append] at *
  rw [List.length_append, List.length_singleton] at l1 l1'
  obtain ⟨c1, c2, rfl, d1, d2, d3, d4⟩ := ef_shL (m := m) t10 t12
  rw [List.map_append] at t9
  refine ef_takeL n3 n1 n2 t2 t9 t11 (by rw [List.length_map]; exact t3) d4 (by omega) (fun kc' ks' vs' bl' pa px py hag => ?_)
  obtain ⟨K', cs', P', g1, g2, g3⟩ := ef_Tw_both (csX' := c1) (csY' := c2 ++ csY) t' hn pa px (by rw [List.map_append]; exact py) hag (by omega) (by omega) (by rw [List.length_cons]; omega) (by rw [List.length_cons]; omega) d1 d2 (by rw [List.append_assoc]) d3
  exact G K' cs' P' kc' ks' vs' bl' _ g1 g2 (ef_Inv_perm g3.symm (ef_Inv_ag (fun q hq => hag q (fun e => aS (e ▸ hq)) (fun e => xS (e ▸ hq)) (fun e => yS (e ▸ hq))) hI)) (fun q hq => rfl)
theorem ef_fin_R {post : SX → Prop} {R r h a X Y : Nat} {w A B Q Ka m Kb csa csb KX csX KY csY LS PS} (t : ef_Tw (kc, ks, vs, bl) R r w h a A B Q Ka m Kb csa csb X KX csX Y KY csY)
    (hI : ef_Inv kc ks vs bl fr sr sn sv LS PS (ef_tp a X Y csa csb csX csY Q)) (aS : a ∉ PS) (xS : X ∉ PS) (yS : Y ∉ PS) (l1 : 3 ≤ KY.length) (l1' : KY.length ≤ 4) (l2 : KX.length = 1)
    (G : ∀ K' cs' P' kc' ks' vs' bl' fr', ef_O1 (kc', ks', vs', bl') R r w (h + 1) a A B Q K' cs' P' → A ++ (ef_mx K' cs' ++ B) = ef_tc A B Ka m Kb csa csb KX csX KY csY → ef_Inv kc' ks' vs' bl' fr' sr sn sv LS PS (P' ++ Q) → (∀ q, q ≠ Y → fr' q = fr q) →
      post (rt, we, wt, kc', ks', vs', bl', fr', nd, sr, sn, sv, dk, hd, wp, wi, wq)) : wpX_takeFromRight post (rt, we, wt, kc, ks, vs, bl, fr, nd, sr, sn, sv, dk, hd, wp, wi, wq) (nI a) (nI Ka.length) := by
  have hn := hI.2.1
  obtain ⟨n1, n2, n3, n4⟩ := ef_tp_ne hn
  have t' := t
  obtain ⟨t1, t2, t3, t4, t5, t6, t7, t8, t9, t10, t11, t12⟩ := t
  cases KY with
  | nil => simp at l1
  | cons e KY =>
    rw [List.length_cons] at l1 l1'
    obtain ⟨c1, c2, rfl, d1, d2, d3, d4⟩ := ef_shR (m := m) t10 t12
    rw [List.map_append] at t11
    refine ef_takeR n3 n1 n2 t2 t9 t11 (by rw [List.length_map]; exact t3) d4 (by omega) (fun kc' ks' vs' bl' pa px py hag => ?_)
    obtain ⟨K', cs', P', g1, g2, g3⟩ := ef_Tw_both (csX' := csX ++ c1) (csY' := c2) t' hn pa (by rw [List.map_append]; exact px) py hag (by rw [List.length_append, List.length_singleton]; omega) (by rw [List.length_append, List.length_singleton]; omega) (by omega) (by omega) d1 d2 (by rw [List.append_assoc]) d3
    exact G K' cs' P' kc' ks' vs' bl' _ g1 g2 (ef_Inv_perm g3.symm (ef_Inv_ag (fun q hq => hag q (fun e => aS (e ▸ hq)) (fun e => xS (e ▸ hq)) (fun e => yS (e ▸ hq))) hI)) (fun q hq => rfl)
/-- the neighbour on the left -/
theorem ef_rf_L {post : SX → Prop} {R r h a X Y : Nat} {w A B Q Ka m Kb csa csb KX csX KY csY LS PS P0} (t : ef_Tw (kc, ks, vs, bl) R r w h a A B Q Ka m Kb csa csb X KX csX Y KY csY)
    (hI : ef_Inv kc ks vs bl fr sr sn sv LS PS (ef_tp a X Y csa csb csX csY Q)) (hw : ef_Wk (kc, ks, vs, bl) rt P0) (hP : ∀ y ∈ P0, y ∈ ef_tp a X Y csa csb csX csY Q) (hl : (ef_tp a X Y csa csb csX csY Q).length ≤ 60)
    (fa : fr a = 1) (fY : fr Y = 1) (l1 : 2 ≤ KX.length) (l1' : KX.length ≤ 4) (l2 : KY.length = 1)
    (G : ∀ K' cs' P' wt kc' ks' vs' bl' fr' nd wq, ef_O1 (kc', ks', vs', bl') R r w (h + 1) a A B Q K' cs' P' → A ++ (ef_mx K' cs' ++ B) = ef_tc A B Ka m Kb csa csb KX csX KY csY → ef_Inv kc' ks' vs' bl' fr' sr sn sv LS PS (P' ++ Q) →
      (∀ q, q ∈ ef_tp a X Y csa csb csX csY Q → q ≠ Y → fr q = 1 → fr' q = 1) → post (rt, we, wt, kc', ks', vs', bl', fr', nd, sr, sn, sv, dk, hd, wp, wi, wq)) : wX_refill_105 post (nI a) (nI (Ka.length + 1)) 1 (nI Ka.length) rt we wt kc ks vs bl fr nd sr sn sv dk hd wp wi wq := by
  have hn := hI.2.1
  obtain ⟨n1, n2, n3, n4⟩ := ef_tp_ne hn
  have ha : a < 110 := t.2.1.1
  have l5 := t.2.2.2.2.1
  obtain ⟨ba, bb⟩ := ef_two t.2.1 (show (csa.map (·.1)).length = Ka.length by rw [List.length_map]; exact t.2.2.1)
  have pX := t.2.2.2.2.2.2.2.2.1
  have kX : kc X = nI KX.length := ef_Pg_kc pX
  have hX := pX.1
  have mX : X ∈ ef_tp a X Y csa csb csX csY Q := by simp [ef_tp]
  have ma : a ∈ ef_tp a X Y csa csb csX csY Q := by simp [ef_tp]
  have mY : Y ∈ ef_tp a X Y csa csb csX csY Q := by simp [ef_tp]
  have aS := ef_Inv_fr hI fa
  have YS := ef_Inv_fr hI fY
  unfold wX_refill_105
  simp (disch := omega) only [ef_m6, nI_add, nI_clamp, ba]
  refine ⟨vp_in_nI (by omega) (by decide), ef_freshC hI hw hP hl mX kX (by omega) (fun hfX => ?_) (fun r' nd' wt' wq' kc' ks' vs' bl' hfX hr hrP hrS hag hpg hkr hI' => ?_)⟩
  · have XS := ef_Inv_fr hI hfX
    simp (disch := omega) only [ef_t8, ef_nb, ef_upd_same ba, nI_clamp, kX]
    refine ⟨vp_in_nI (by omega) (by decide), nm_e ⟨vp_in_nI hX (by decide), br_c (fun h3 => br_f (by decide) ?_) (fun h3 => br_f (by decide) ?_)⟩⟩
    · have h3 : 2 < KX.length := (nI_ltI (a := 2) (by omega) (by omega)).mp h3
      exact ef_fin_L t hI aS XS YS (by omega) l1' l2 (fun K' cs' P' kc' ks' vs' bl' fr' g1 g2 g3 g4 => G K' cs' P' _ kc' ks' vs' bl' fr' _ _ g1 g2 g3 (fun q _ hq h1 => by rw [g4 q hq]; exact h1))
    · have h3 : ¬ 2 < KX.length := fun h => h3 ((nI_ltI (a := 2) (by omega) (by omega)).mpr h)
      unfold wX_refill_165
      rw [nI_pred]
      exact ef_fin_melt t hI aS XS (by omega) (by omega) (by omega) (fun K' cs' P' kc' ks' vs' bl' fr' g1 g2 g3 g4 => G K' cs' P' _ kc' ks' vs' bl' fr' _ _ g1 g2 g3 (fun q _ hq h1 => by rw [g4 q hq]; exact h1))
  · have hne : ∀ q ∈ ef_tp a X Y csa csb csX csY Q, q ≠ r' := fun q hq e => hrP (e ▸ hq)
    simp (disch := omega) only [ef_t8, ef_nb, nI_clamp, hkr]
    refine ⟨vp_in_nI (by omega) (by decide), nm_e ⟨vp_in_nI hr (by decide), ?_⟩⟩
    obtain ⟨a1, a2, a3⟩ := hag a (hne a ma)
    have hag2 : ∀ q, q ≠ a → ef_Ag (kc', ks', vs', bl') (kc', ks', vs', upd bl' (6 * a + Ka.length) (nI r')) q := fun q hq => ef_Ag_mk rfl (fun _ _ _ => rfl) (fun _ _ _ => rfl) (fun j j1 j2 => pk_un (by omega))
    have t2 := ef_Tw_copyX (H' := (kc', ks', vs', upd bl' (6 * a + Ka.length) (nI r'))) t hn hr (fun q hq hqa => ef_Ag_trans (hag q (hne q hq)) (hag2 q hqa)) a1 a2 (fun j j1 j2 j3 => (pk_un j3).trans (a3 j j1 j2)) pk_us
      (fun K C hp => ef_Pg_ag (hag2 r' (fun e => hne a ma e.symm)) (hpg K C hp))
    have hp : (r' :: ef_tp a X Y csa csb csX csY Q).Perm (X :: ef_tp a r' Y csa csb csX csY Q) := by
      unfold ef_tp
      rw [List.perm_iff_count]
      intro q
      simp only [List.count_cons]
      omega
    have hI2 : ef_Inv kc' ks' vs' (upd bl' (6 * a + Ka.length) (nI r')) (upd fr r' 1) sr sn sv LS PS (ef_tp a r' Y csa csb csX csY Q) :=
      ef_Inv_drop (ef_Inv_perm hp (ef_Inv_ag (fun q hq => hag2 q (fun e => aS (e ▸ hq))) hI')) (by rw [pk_un (hne X mX)]; exact hfX)
    have fr2 : ∀ q, q ∈ ef_tp a X Y csa csb csX csY Q → fr q = 1 → upd fr r' 1 q = 1 := fun q hq h1 => by rw [pk_un (hne q hq)]; exact h1
    refine br_c (fun h3 => br_f (by decide) ?_) (fun h3 => br_f (by decide) ?_)
    · have h3 : 2 < KX.length := (nI_ltI (a := 2) (by omega) (by omega)).mp h3
      exact ef_fin_L t2 hI2 aS hrS YS (by omega) l1' l2 (fun K' cs' P' kc' ks' vs' bl' fr' g1 g2 g3 g4 => G K' cs' P' _ kc' ks' vs' bl' fr' _ _ g1 g2 g3 (fun q hqm hq h1 => by rw [g4 q hq]; exact fr2 q hqm h1))
    · have h3 : ¬ 2 < KX.length := fun h => h3 ((nI_ltI (a := 2) (by omega) (by omega)).mpr h)
      unfold wX_refill_165
      rw [nI_pred]
      exact ef_fin_melt t2 hI2 aS hrS (by omega) (by omega) (by omega) (fun K' cs' P' kc' ks' vs' bl' fr' g1 g2 g3 g4 => G K' cs' P' _ kc' ks' vs' bl' fr' _ _ g1 g2 g3 (fun q hqm hq h1 => by rw [g4 q hq]; exact fr2 q hqm h1))
/-- the neighbour on the right -/
theorem ef_rf_R {post : SX → Prop} {R r h a X Y : Nat} {w A B Q Ka m Kb csa csb KX csX KY csY LS PS P0} (t : ef_Tw (kc, ks, vs, bl) R r w h a A B Q Ka m Kb csa csb X KX csX Y KY csY)
    (hI : ef_Inv kc ks vs bl fr sr sn sv LS PS (ef_tp a X Y csa csb csX csY Q)) (hw : ef_Wk (kc, ks, vs, bl) rt P0) (hP : ∀ y ∈ P0, y ∈ ef_tp a X Y csa csb csX csY Q) (hl : (ef_tp a X Y csa csb csX csY Q).length ≤ 60)
    (fa : fr a = 1) (fX : fr X = 1) (l1 : 2 ≤ KY.length) (l1' : KY.length ≤ 4) (l2 : KX.length = 1)
    (G : ∀ K' cs' P' wt kc' ks' vs' bl' fr' nd wq, ef_O1 (kc', ks', vs', bl') R r w (h + 1) a A B Q K' cs' P' → A ++ (ef_mx K' cs' ++ B) = ef_tc A B Ka m Kb csa csb KX csX KY csY → ef_Inv kc' ks' vs' bl' fr' sr sn sv LS PS (P' ++ Q) →
      (∀ q, q ∈ ef_tp a X Y csa csb csX csY Q → q ≠ Y → fr q = 1 → fr' q = 1) → post (rt, we, wt, kc', ks', vs', bl', fr', nd, sr, sn, sv, dk, hd, wp, wi, wq)) : wX_refill_105 post (nI a) (nI Ka.length) 0 (nI (Ka.length + 1)) rt we wt kc ks vs bl fr nd sr sn sv dk hd wp wi wq := by
  have hn := hI.2.1
  obtain ⟨n1, n2, n3, n4⟩ := ef_tp_ne hn
  have ha : a < 110 := t.2.1.1
  have l5 := t.2.2.2.2.1
  obtain ⟨ba, bb⟩ := ef_two t.2.1 (show (csa.map (·.1)).length = Ka.length by rw [List.length_map]; exact t.2.2.1)
  have bb : bl (6 * a + (Ka.length + 1)) = nI Y := bb
  have pY := t.2.2.2.2.2.2.2.2.2.2.1
  have kY : kc Y = nI KY.length := ef_Pg_kc pY
  have hY := pY.1
  have mX : X ∈ ef_tp a X Y csa csb csX csY Q := by simp [ef_tp]
  have ma : a ∈ ef_tp a X Y csa csb csX csY Q := by simp [ef_tp]
  have mY : Y ∈ ef_tp a X Y csa csb csX csY Q := by simp [ef_tp]
  have aS := ef_Inv_fr hI fa
  have XS := ef_Inv_fr hI fX
  unfold wX_refill_105
  simp (disch := omega) only [ef_m6, nI_add, nI_clamp, bb]
  refine ⟨vp_in_nI (by omega) (by decide), ef_freshC hI hw hP hl mY kY (by omega) (fun hfY => ?_) (fun r' nd' wt' wq' kc' ks' vs' bl' hfY hr hrP hrS hag hpg hkr hI' => ?_)⟩
  · have YS := ef_Inv_fr hI hfY
    simp (disch := omega) only [ef_t8, ef_nb, ef_upd_same bb, nI_clamp, kY]
    refine ⟨vp_in_nI (by omega) (by decide), nm_e ⟨vp_in_nI hY (by decide), br_c (fun h3 => br_t (by trivial) ?_) (fun h3 => br_t (by trivial) ?_)⟩⟩
    · have h3 : 2 < KY.length := (nI_ltI (a := 2) (by omega) (by omega)).mp h3
      exact ef_fin_R t hI aS XS YS (by omega) l1' l2 (fun K' cs' P' kc' ks' vs' bl' fr' g1 g2 g3 g4 => G K' cs' P' _ kc' ks' vs' bl' fr' _ _ g1 g2 g3 (fun q _ hq h1 => by rw [g4 q hq]; exact h1))
    · have h3 : ¬ 2 < KY.length := fun h => h3 ((nI_ltI (a := 2) (by omega) (by omega)).mpr h)
      unfold wX_refill_165
      exact ef_fin_melt t hI aS XS (by omega) (by omega) (by omega) (fun K' cs' P' kc' ks' vs' bl' fr' g1 g2 g3 g4 => G K' cs' P' _ kc' ks' vs' bl' fr' _ _ g1 g2 g3 (fun q _ hq h1 => by rw [g4 q hq]; exact h1))
  · have hne : ∀ q ∈ ef_tp a X Y csa csb csX csY Q, q ≠ r' := fun q hq e => hrP (e ▸ hq)
    simp (disch := omega) only [ef_t8, ef_nb, nI_clamp, hkr]
    refine ⟨vp_in_nI (by omega) (by decide), nm_e ⟨vp_in_nI hr (by decide), ?_⟩⟩
    obtain ⟨a1, a2, a3⟩ := hag a (hne a ma)
    have hag2 : ∀ q, q ≠ a → ef_Ag (kc', ks', vs', bl') (kc', ks', vs', upd bl' (6 * a + (Ka.length + 1)) (nI r')) q := fun q hq => ef_Ag_mk rfl (fun _ _ _ => rfl) (fun _ _ _ => rfl) (fun j j1 j2 => pk_un (by omega))
    have t2 := ef_Tw_copyY (H' := (kc', ks', vs', upd bl' (6 * a + (Ka.length + 1)) (nI r'))) t hn hr (fun q hq hqa => ef_Ag_trans (hag q (hne q hq)) (hag2 q hqa)) a1 a2 (fun j j1 j2 j3 => (pk_un j3).trans (a3 j j1 j2)) pk_us
      (fun K C hp => ef_Pg_ag (hag2 r' (fun e => hne a ma e.symm)) (hpg K C hp))
    have hp : (r' :: ef_tp a X Y csa csb csX csY Q).Perm (Y :: ef_tp a X r' csa csb csX csY Q) := by
      unfold ef_tp
      rw [List.perm_iff_count]
      intro q
      simp only [List.count_cons]
      omega
    have hI2 : ef_Inv kc' ks' vs' (upd bl' (6 * a + (Ka.length + 1)) (nI r')) (upd fr r' 1) sr sn sv LS PS (ef_tp a X r' csa csb csX csY Q) :=
      ef_Inv_drop (ef_Inv_perm hp (ef_Inv_ag (fun q hq => hag2 q (fun e => aS (e ▸ hq))) hI')) (by rw [pk_un (hne Y mY)]; exact hfY)
    have fr2 : ∀ q, q ∈ ef_tp a X Y csa csb csX csY Q → fr q = 1 → upd fr r' 1 q = 1 := fun q hq h1 => by rw [pk_un (hne q hq)]; exact h1
    refine br_c (fun h3 => br_t (by trivial) ?_) (fun h3 => br_t (by trivial) ?_)
    · have h3 : 2 < KY.length := (nI_ltI (a := 2) (by omega) (by omega)).mp h3
      exact ef_fin_R t2 hI2 aS XS hrS (by omega) l1' l2 (fun K' cs' P' kc' ks' vs' bl' fr' g1 g2 g3 g4 => G K' cs' P' _ kc' ks' vs' bl' fr' _ _ g1 g2 g3 (fun q hqm hq h1 => by rw [g4 q (hne q hqm)]; exact fr2 q hqm h1))
    · have h3 : ¬ 2 < KY.length := fun h => h3 ((nI_ltI (a := 2) (by omega) (by omega)).mpr h)
      unfold wX_refill_165
      exact ef_fin_melt t2 hI2 aS XS (by omega) (by omega) (by omega) (fun K' cs' P' kc' ks' vs' bl' fr' g1 g2 g3 g4 => G K' cs' P' _ kc' ks' vs' bl' fr' _ _ g1 g2 g3 (fun q hqm hq h1 => by rw [g4 q (hne q hqm)]; exact fr2 q hqm h1))
end
end
section
/-! the choice of the neighbour, the loop of refills -/
section
variable {rt we wt : Int32} {kc ks vs bl fr nd sr sn sv dk hd wp wi wq : Nat → Int32}
theorem ef_refill {post : SX → Prop} {R r h x ix a i : Nat} {w A B Q K cs P LS PS} (hl : (A ++ (ef_mx K cs ++ B)).length ≤ 80) (hw : w.length ≤ 5) (hO : ef_O1 (kc, ks, vs, bl) R r ((a, i) :: w) h x A B Q K cs P) (h1 : K.length = 1)
    (hW : ef_Wy wp wi ((x, ix) :: (a, i) :: w)) (hI : ef_Inv kc ks vs bl fr sr sn sv LS PS (P ++ Q)) (hfr : ∀ e ∈ (x, ix) :: (a, i) :: w, fr e.1 = 1)
    (G : ∀ A' B' Q' K' cs' P' wt kc ks vs bl fr nd wq, ef_O1 (kc, ks, vs, bl) R r w (h + 1) a A' B' Q' K' cs' P' → A' ++ (ef_mx K' cs' ++ B') = A ++ (ef_mx K cs ++ B) → ef_Inv kc ks vs bl fr sr sn sv LS PS (P' ++ Q') →
      (∀ e ∈ (a, i) :: w, fr e.1 = 1) → post (nI r, we, wt, kc, ks, vs, bl, fr, nd, sr, sn, sv, dk, hd, wp, wi, wq)) : wpX_refill post (nI r, we, wt, kc, ks, vs, bl, fr, nd, sr, sn, sv, dk, hd, wp, wi, wq) (nI (w.length + 1)) := by
  obtain ⟨hb, P0, p1, p2⟩ := ef_O1_wk hO hl
  obtain ⟨o1, o2, o3, o4, o6⟩ := hO
  have hcx := o1
  obtain ⟨K1, K2, cs1, cs2, A', B', Q', q1, q2, q3, q4, q5, q6, q7, q8, q9, q, eA, eB, eQ⟩ := o1
  have eP : P = x :: ef_fl cs := o2.2.2
  have px := o2.1
  have hx1 : x < 110 := px.1
  have ha := q1.1
  have fa := hfr (a, i) (by simp)
  have fx := hfr (x, ix) (by simp)
  have wz1 : wp w.length = nI a := hW.2.2.1
  have wz2 : wi w.length = nI i := hW.2.2.2.1
  have hmem : ∀ e ∈ (a, i) :: w, e.1 ∈ Q := ef_Cx_mem hcx
  have hmem' : ∀ e ∈ w, e.1 ∈ Q' := ef_Cx_mem q
  have hndQ := hI.2.1
  have ka : kc a = nI (K1.length + K2.length) := by have := ef_Pg_kc q1; rw [List.length_append] at this; exact this
  -- with the right neighbour
  have useR : ∀ m Kb t csb, K2 = m :: Kb → cs2 = t :: csb → wX_refill_105 post (nI a) (nI i) 0 (nI (i + 1)) (nI r) we wt kc ks vs bl fr nd sr sn sv dk hd wp wi wq := fun m Kb t csb e1 e2 => by
    subst e1 e2 eP
    obtain ⟨KY, csY, y1, y2, y3, y4⟩ := ef_Tr_iff.mp (q9 t (by simp))
    have yL := y3.2.1
    have yP := y3.2.2
    simp only [List.length_cons] at q4 q5 q6 q7
    have t0 : ef_Tw (kc, ks, vs, bl) R r w h a A' B' Q' K1 m Kb cs1 csb x K cs t.1 KY csY := by
      refine ⟨q, q1, by omega, by omega, by omega, fun hR => by have := q7 hR; omega, q8, fun c hc => q9 c (by simp [hc]), px, o3, y3.1, y4⟩
    have hp : ((x :: ef_fl cs) ++ Q).Perm (ef_tp a x t.1 cs1 csb cs csY Q') := by
      subst eQ
      unfold ef_tp
      rw [ef_fl_cons, yP, List.perm_iff_count]
      intro z
      simp only [List.count_append, List.count_cons]
      omega
    have hc : ef_tc A' B' K1 m Kb cs1 csb K cs KY csY = A ++ (ef_mx K cs ++ B) := by
      unfold ef_tc
      rw [eA, eB]
      simp only [ef_lR, yL, List.append_assoc, List.cons_append]
    subst q3
    refine ef_rf_R t0 (ef_Inv_perm hp hI) p2 (fun y hy => hp.mem_iff.mp (p1.mem_iff.mp hy)) (by rw [← hp.length_eq]; omega) fa fx y1 y2 h1 (fun K' cs' P' wt kc ks vs bl fr' nd wq g1 g2 g3 g4 => ?_)
    refine G A' B' Q' K' cs' P' wt kc ks vs bl fr' nd wq g1 (g2.trans hc) g3 (fun e he => ?_)
    have hme : e.1 ∈ ef_tp a x t.1 cs1 csb cs csY Q' := hp.mem_iff.mp (List.mem_append_right _ (hmem e he))
    refine g4 e.1 hme (fun e0 => ?_) (hfr e (List.mem_cons_of_mem _ he))
    obtain ⟨n1, n2, n3, n4⟩ := ef_tp_ne (hp.nodup hndQ)
    rcases List.mem_cons.mp he with rfl | he
    · exact n2 e0.symm
    · exact (n4 e.1 (by simp [hmem' e he])).2.2 e0
  unfold wpX_refill
  simp (disch := omega) only [nI_pred, nI_clamp, wz1, wz2]
  refine ⟨vp_in_nI (by omega) (by decide), nm_e ⟨vp_in_nI (by omega) (by decide), nm_e ?_⟩⟩
  rcases List.eq_nil_or_concat K1 with e | ⟨Ka, m, e⟩
  · -- no left neighbour
    subst e
    have hi : i = 0 := by rw [← q3]; rfl
    subst hi
    cases K2 with
    | nil => simp at q6
    | cons m Kb =>
      cases cs2 with
      | nil => simp at q4
      | cons t csb =>
        refine br_t (by decide) ?_
        unfold wX_refill_27 wX_refill_91
        refine br_t rfl (br_t rfl ?_)
        exact useR m Kb t csb rfl rfl
  · rw [List.concat_eq_append] at e
    subst e
    rcases List.eq_nil_or_concat cs1 with e | ⟨csa, t, e⟩
    · subst e; simp at q2 q3; omega
    rw [List.concat_eq_append] at e
    subst e
    simp only [List.length_append, List.length_singleton] at q2 q3 q5 q6 q7 ka
    obtain ⟨KX, csX, y1, y2, y3, y4⟩ := ef_Tr_iff.mp (q8 t (by simp))
    have yL := y3.2.1
    have yP := y3.2.2
    have q1' : ef_Pg (kc, ks, vs, bl) a (Ka ++ m :: K2) (csa.map (·.1) ++ t.1 :: x :: cs2.map (·.1)) := by
      have := q1
      simp only [List.map_append, List.map_cons, List.map_nil, List.append_assoc, List.cons_append, List.nil_append] at this
      exact this
    have useL : wX_refill_105 post (nI a) (nI i) 1 (nI (i - 1)) (nI r) we wt kc ks vs bl fr nd sr sn sv dk hd wp wi wq := by
      subst eP
      have t0 : ef_Tw (kc, ks, vs, bl) R r w h a A' B' Q' Ka m K2 csa cs2 t.1 KX csX x K cs := by
        refine ⟨q, q1', by omega, by omega, by omega, fun hR => by have := q7 hR; omega, fun c hc => q8 c (by simp [hc]), q9, y3.1, y4, px, o3⟩
      have hp : ((x :: ef_fl cs) ++ Q).Perm (ef_tp a t.1 x csa cs2 csX cs Q') := by
        subst eQ
        unfold ef_tp
        rw [ef_fl_app, ef_fl_cons, ef_fl_nil, yP, List.perm_iff_count]
        intro z
        simp only [List.count_append, List.count_cons, List.count_nil]
        omega
      have hc : ef_tc A' B' Ka m K2 csa cs2 KX csX K cs = A ++ (ef_mx K cs ++ B) := by
        unfold ef_tc
        rw [eA, eB, ef_lL_app (by omega)]
        simp only [ef_lL, yL, List.append_assoc, List.cons_append, List.nil_append]
      have hi : i = Ka.length + 1 := q3.symm
      subst hi
      refine ef_rf_L t0 (ef_Inv_perm hp hI) p2 (fun y hy => hp.mem_iff.mp (p1.mem_iff.mp hy)) (by rw [← hp.length_eq]; omega) fa fx y1 y2 h1 (fun K' cs' P' wt kc ks vs bl fr' nd wq g1 g2 g3 g4 => ?_)
      refine G A' B' Q' K' cs' P' wt kc ks vs bl fr' nd wq g1 (g2.trans hc) g3 (fun e he => ?_)
      have hme : e.1 ∈ ef_tp a t.1 x csa cs2 csX cs Q' := hp.mem_iff.mp (List.mem_append_right _ (hmem e he))
      refine g4 e.1 hme (fun e0 => ?_) (hfr e (List.mem_cons_of_mem _ he))
      obtain ⟨n1, n2, n3, n4⟩ := ef_tp_ne (hp.nodup hndQ)
      rcases List.mem_cons.mp he with rfl | he
      · exact n2 e0.symm
      · exact (n4 e.1 (by simp [hmem' e he])).2.2 e0
    have go1 : wX_refill_91 post (nI a) (nI i) 1 (nI r) we wt kc ks vs bl fr nd sr sn sv dk hd wp wi wq := by
      unfold wX_refill_91
      rw [ef_s1 (by omega)]
      exact br_f (by decide) useL
    obtain ⟨ba, bb⟩ := ef_two q1' (show (csa.map (·.1)).length = Ka.length by rw [List.length_map]; omega)
    have t1 : 6 * a + i - 1 = 6 * a + Ka.length := by omega
    have kX : kc t.1 = nI KX.length := ef_Pg_kc y3.1
    have hX : t.1 < 110 := y3.1.1
    refine br_f (nI_nle (by omega) (by omega)) ?_
    unfold wX_refill_27
    simp (disch := omega) only [ef_m6, nI_add, ef_s1, nI_clamp, t1, ba, kX, ka]
    refine br_f (by decide) ⟨vp_in_nI (by omega) (by decide), vp_in_nI hX (by decide), br_c (fun _ => go1) (fun _ => ⟨vp_in_nI ha (by decide), br_c (fun _ => go1) (fun h3 => ?_)⟩)⟩
    have h3 : ¬ (Ka.length + 1 + K2.length ≤ i) := fun h => h3 ((nI_leI (by omega) (by omega)).mpr h)
    cases K2 with
    | nil => simp at h3; omega
    | cons m2 Kb =>
      cases cs2 with
      | nil => simp at q4
      | cons t2 csb =>
        have q1'' : ef_Pg (kc, ks, vs, bl) a (Ka ++ m :: m2 :: Kb) ((csa.map (·.1) ++ [t.1]) ++ x :: t2.1 :: csb.map (·.1)) := by
          rw [List.append_assoc]; exact q1'
        obtain ⟨bc, bd⟩ := ef_two q1'' (show (csa.map (·.1) ++ [t.1]).length = i by rw [List.length_append, List.length_map, List.length_singleton]; omega)
        obtain ⟨KY, csY, z1, z2, z3, z4⟩ := ef_Tr_iff.mp (q9 t2 (by simp))
        have kY : kc t2.1 = nI KY.length := ef_Pg_kc z3.1
        have hY : t2.1 < 110 := z3.1.1
        simp (disch := omega) only [nI_1, nI_clamp, bd, kY]
        refine ⟨vp_in_nI (by omega) (by decide), vp_in_nI hY (by decide), br_c (fun _ => go1) (fun _ => ?_)⟩
        unfold wX_refill_91
        rw [nI_1]
        exact br_t rfl (useR m2 Kb t2 csb rfl rfl)
theorem ef_O1_done {H : ef_H} {R r h x : Nat} {w A B Q K cs P} (i : ef_O1 H R r w h x A B Q K cs P) (h2 : h ≠ R → 2 ≤ K.length) (h1 : 1 ≤ K.length) : ∃ P', P'.Perm (P ++ Q) ∧ ef_Rn H R (r, A ++ (ef_mx K cs ++ B), P') := by
  obtain ⟨i1, i2, i3, i4, i6⟩ := i
  refine ef_plug i1 (fun hR => ef_Tr_iff.mpr ⟨K, cs, h2 hR, i6, i2, i3⟩) (fun hR => ?_)
  subst hR
  exact ⟨K, cs, h1, i6, i2, i3⟩
theorem ef_rm179 {post : SX → Prop} {R r : Nat} {L : List (Nat × Nat)} {P : List Nat} (h : ef_Rn (kc, ks, vs, bl) R (r, L, P)) (G : post (nI r, we, wt, kc, ks, vs, bl, fr, nd, sr, sn, sv, dk, hd, wp, wi, wq)) : wX_remove_179 post (nI r) we wt kc ks vs bl fr nd sr sn sv dk hd wp wi wq := by
  obtain ⟨K, cs, h1, h2, h3, h4⟩ := h
  have hr : r < 110 := h3.1.1
  have hk : kc r = nI K.length := ef_Pg_kc h3.1
  unfold wX_remove_179
  simp (disch := omega) only [nI_clamp, hk]
  exact ⟨vp_in_nI hr (by decide), br_f (nI_nle (by omega) (by omega)) G⟩
theorem ef_rm_lp {post : SX → Prop} {R r : Nat} {LS : List (Nat × Nat)} {PS : List Nat} {Lt : List (Nat × Nat)} (hl : Lt.length ≤ 80) (hne : Lt ≠ []) (hR : R ≤ 6)
    (G : ∀ R' a P' wt kc ks vs bl fr nd wq, ef_Rn (kc, ks, vs, bl) R' (a, Lt, P') → ef_Inv kc ks vs bl fr sr sn sv LS PS P' → post (nI a, we, wt, kc, ks, vs, bl, fr, nd, sr, sn, sv, dk, hd, wp, wi, wq)) :
    ∀ (w : List (Nat × Nat)) (h x ix : Nat) (A B : List (Nat × Nat)) (Q : List Nat) (K : List (Nat × Nat)) (cs : List ef_T) (P : List Nat) (wt : Int32) (kc ks vs bl fr nd wq : Nat → Int32) (f : Nat), w.length < f →
      ef_O1 (kc, ks, vs, bl) R r w h x A B Q K cs P → A ++ (ef_mx K cs ++ B) = Lt → ef_Wy wp wi ((x, ix) :: w) → ef_Inv kc ks vs bl fr sr sn sv LS PS (P ++ Q) → (∀ e ∈ (x, ix) :: w, fr e.1 = 1) →
      wX_remove_146 post f (nI w.length) (nI r) we wt kc ks vs bl fr nd sr sn sv dk hd wp wi wq := by
  intro w
  induction w with
  | nil =>
    intro h x ix A B Q K cs P wt kc ks vs bl fr nd wq f hf hO hL hW hI hfr
    obtain ⟨f, rfl⟩ : ∃ g, f = g + 1 := ⟨f - 1, by omega⟩
    rw [wX_remove_146]
    refine br_t (by decide) ?_
    by_cases h1 : 1 ≤ K.length
    · obtain ⟨P', p1, p2⟩ := ef_O1_done hO (fun hR => absurd hO.1.2.1 hR) h1
      rw [hL] at p2
      exact ef_rm179 p2 (G R r P' wt kc ks vs bl fr nd wq p2 (ef_Inv_perm p1.symm hI))
    · have hK : K = [] := List.eq_nil_of_length_eq_zero (by omega)
      subst hK
      obtain ⟨o1, o2, o3, o4, o6⟩ := hO
      obtain ⟨rfl, rfl, rfl, rfl, rfl⟩ := o1
      have eP : P = x :: ef_fl cs := o2.2.2
      rcases ef_Ch_len o3 with ⟨_, rfl⟩ | ⟨h', rfl, l1, _, l3⟩
      · exact absurd hL.symm (by simpa [ef_mx] using hne)
      · match cs, l1, l3 with
        | [c], _, l3 =>
          have hx : x < 110 := o2.1.1
          have hk : kc x = nI 0 := ef_Pg_kc o2.1
          obtain ⟨hb, hc1⟩ := ef_Pg_ch (C1 := []) o2.1
          have hb : bl (6 * x) = nI c.1 := hb
          have hc1 : c.1 < 110 := hc1
          unfold wX_remove_179
          simp (disch := omega) only [nI_clamp, hk]
          refine ⟨vp_in_nI hx (by decide), br_t (by decide) (ef_leaf_f hx hb hc1 (br_t rfl ?_))⟩
          simp (disch := omega) only [ef_m6, nI_clamp, hb, ef_nz0]
          refine ⟨vp_in_nI (by omega) (by decide), nm_e ⟨vp_in_nI hx (by decide), nm_e ?_⟩⟩
          obtain ⟨KK, ccs, k1, k2, k3, k4⟩ := ef_Tr_iff.mp (l3 c (by simp))
          have eL : Lt = c.2.1 := by rw [← hL]; simp [ef_mx, ef_lR]
          have rn : ef_Rn (kc, ks, vs, bl) h' (c.1, Lt, c.2.2) := ⟨KK, ccs, by omega, k2, ⟨k3.1, by rw [eL]; exact k3.2.1, k3.2.2⟩, k4⟩
          refine G h' c.1 c.2.2 _ _ _ _ _ _ _ _ rn (ef_Inv_free ?_)
          rw [eP] at hI
          simpa [ef_fl] using hI
  | cons q w ih =>
    intro h x ix A B Q K cs P wt kc ks vs bl fr nd wq f hf hO hL hW hI hfr
    obtain ⟨a, i⟩ := q
    rw [List.length_cons] at hf
    obtain ⟨f, rfl⟩ : ∃ g, f = g + 1 := ⟨f - 1, by omega⟩
    have hlen := ef_Cx_len hO.1
    rw [List.length_cons] at hlen
    have hx : x < 110 := hO.2.1.1.1
    have hk : kc x = nI K.length := ef_Pg_kc hO.2.1.1
    have hxw : wp (w.length + 1) = nI x := hW.1
    have h6 := hO.2.2.2.2
    have h1 := hO.2.2.2.1 (by omega)
    rw [wX_remove_146, List.length_cons]
    refine br_f (nI_nle (by omega) (by omega)) ?_
    simp (disch := omega) only [nI_clamp, hxw, hk]
    refine ⟨vp_in_nI (by omega) (by decide), vp_in_nI hx (by decide), br_c (fun e => ?_) (fun e => ?_)⟩
    · have e : 2 ≤ K.length := (nI_leI (a := 2) (by omega) (by omega)).mp e
      obtain ⟨P', p1, p2⟩ := ef_O1_done hO (fun _ => e) h1
      rw [hL] at p2
      exact ef_rm179 p2 (G R r P' wt kc ks vs bl fr nd wq p2 (ef_Inv_perm p1.symm hI))
    · have e : ¬ 2 ≤ K.length := fun h => e ((nI_leI (a := 2) (by omega) (by omega)).mpr h)
      refine ef_refill (by rw [hL]; exact hl) (by omega) hO (by omega) hW hI hfr (fun A' B' Q' K' cs' P' wt kc ks vs bl fr nd wq g1 g2 g3 g4 => ?_)
      dsimp only
      refine nm_r (pk_m1 w.length) ?_
      exact ih (h + 1) a i A' B' Q' K' cs' P' wt kc ks vs bl fr nd wq f (by omega) g1 (g2.trans hL) hW.2.2 g3 g4
end
end
section
/-! taking out -/
theorem ef_Cx_right {H : ef_H} {R r : Nat} : ∀ {w : List (Nat × Nat)} {hs s : Nat} {A B : List (Nat × Nat)} {Q : List Nat}, ef_Cx H R r w hs s A B Q → ∀ e ∈ w, ∃ n, H.1 e.1 = nI n ∧ n ≤ 4 ∧ e.1 < 110 ∧ e.2 ≤ n ∧ (e.2 < n → ∃ q ∈ B, H.2.1 (5 * e.1 + e.2) = nI q.1 ∧ q.1 < 32768)
  | [], _, _, _, _, _, _, e, he => by simp at he
  | (x, i) :: w, hs, s, A, B, Q, ⟨K1, K2, cs1, cs2, A', B', Q', h1, h2, h3, h4, h5, h6, h7, h8, h9, h, e1, e2, e3⟩, e, he => by
    rcases List.mem_cons.mp he with rfl | he
    · have hk : H.1 x = nI (K1 ++ K2).length := h1.2.2.2.2.2.1
      rw [List.length_append] at hk
      refine ⟨K1.length + K2.length, hk, h5, h1.1, by show i ≤ _; omega, fun hi => ?_⟩
      have hi : i < K1.length + K2.length := hi
      cases K2 with
      | nil => simp at hi; omega
      | cons q K2 =>
        cases cs2 with
        | nil => simp at h4
        | cons c cs2 =>
          obtain ⟨k1, _, k3, _⟩ := ef_Pg_key h1
          refine ⟨q, by rw [e2]; simp [ef_lR], ?_, k3⟩
          rw [← h3]
          exact k1
    · obtain ⟨n, n1, n2, n3, n4, n5⟩ := ef_Cx_right h e he
      refine ⟨n, n1, n2, n3, n4, fun hi => ?_⟩
      obtain ⟨q, q1, q2⟩ := n5 hi
      exact ⟨q, by rw [e2]; simp [q1], q2⟩
/-- the item behind the hole lies in one page of the way; another may be put there -/
theorem ef_Cx_rep {H : ef_H} {R r : Nat} {kv : Nat × Nat} {B'' : List (Nat × Nat)} : ∀ {w : List (Nat × Nat)} {hs s : Nat} {A : List (Nat × Nat)} {Q : List Nat}, ef_Cx H R r w hs s A (kv :: B'') Q → Q.Nodup →
    ∃ w1 z j w2, w = w1 ++ (z, j) :: w2 ∧ (∀ e ∈ w1, ∃ n, H.1 e.1 = nI n ∧ n ≤ 4 ∧ e.1 < 110 ∧ e.2 = n) ∧ (∃ n, H.1 z = nI n ∧ j < n ∧ n ≤ 4) ∧ z < 110 ∧ H.2.1 (5 * z + j) = nI kv.1 ∧ kv.1 < 32768 ∧
      (∀ e ∈ w2, ∃ n, H.1 e.1 = nI n ∧ n ≤ 4 ∧ e.1 < 110 ∧ e.2 ≤ n ∧ (e.2 < n → ∃ q ∈ B'', H.2.1 (5 * e.1 + e.2) = nI q.1 ∧ q.1 < 32768)) ∧
      (∀ H' e', (∀ q ∈ Q, q ≠ z → ef_Ag H H' q) → (∀ K1 K2 C, K1.length = j → ef_Pg H z (K1 ++ kv :: K2) C → ef_Pg H' z (K1 ++ e' :: K2) C) → ef_Cx H' R r w hs s A (e' :: B'') Q)
  | [], _, _, _, _, h, _ => by
    have := h.2.2.2.1
    simp at this
  | (x, i) :: w, hs, s, A, Q, ⟨K1, K2, cs1, cs2, A', B', Q', h1, h2, h3, h4, h5, h6, h7, h8, h9, h, e1, e2, e3⟩, hn => by
    subst e3
    have hn' := List.nodup_cons.mp hn
    have hn2 := List.nodup_append.mp hn'.2
    have hk : H.1 x = nI (K1 ++ K2).length := h1.2.2.2.2.2.1
    rw [List.length_append] at hk
    cases K2 with
    | nil =>
      have hcs2 : cs2 = [] := List.eq_nil_of_length_eq_zero (by simpa using h4)
      subst hcs2
      simp only [ef_lR, List.nil_append] at e2
      rw [← e2] at h
      obtain ⟨w1, z, j, w2, r1, r2, r3, r4, r5, r6, r7, r8⟩ := ef_Cx_rep h hn2.2.1
      have hz : z ∈ Q' := ef_Cx_mem h (z, j) (by rw [r1]; simp)
      refine ⟨(x, i) :: w1, z, j, w2, by rw [r1]; rfl, fun e he => ?_, r3, r4, r5, r6, r7, fun H' e' ha hp => ?_⟩
      · rcases List.mem_cons.mp he with rfl | he
        · exact ⟨K1.length, hk, by simpa using h5, h1.1, h3.symm⟩
        · exact r2 e he
      · have hg : ∀ q ∈ x :: (ef_fl cs1 ++ ef_fl []), ef_Ag H H' q := fun q hq => ha q (by simp only [List.mem_cons, List.mem_append] at *; rcases hq with hq | hq; exact Or.inl hq; exact Or.inr (Or.inl hq)) (fun e => by
          subst e
          rcases List.mem_cons.mp hq with rfl | hq
          · exact hn'.1 (List.mem_append_right _ hz)
          · exact hn2.2.2 q hq q hz rfl)
        refine ⟨K1, [], cs1, [], A', e' :: B'', Q', ef_Pg_ag (hg x (by simp)) h1, h2, h3, h4, h5, h6, h7, fun c hc => ?_, fun c hc => by simp at hc, r8 H' e' (fun q hq => ha q (by simp [hq])) hp, e1, rfl, rfl⟩
        exact ef_Tr_ag (fun q hq => hg q (by simp [ef_fl_mem hc hq])) (h8 c hc)
    | cons q K2 =>
      cases cs2 with
      | nil => simp at h4
      | cons c cs2 =>
        simp only [ef_lR, List.cons_append, List.cons.injEq] at e2
        obtain ⟨rfl, e2⟩ := e2
        obtain ⟨k1, _, k3, _⟩ := ef_Pg_key h1
        refine ⟨[], x, i, w, rfl, fun e he => by simp at he, ⟨_, hk, by rw [List.length_cons]; omega, h5⟩, h1.1, by rw [← h3]; exact k1, k3, fun e he => ?_, fun H' e' ha hp => ?_⟩
        · obtain ⟨n, n1, n2, n3, n4, n5⟩ := ef_Cx_right h e he
          refine ⟨n, n1, n2, n3, n4, fun hi => ?_⟩
          obtain ⟨q, q1, q2⟩ := n5 hi
          exact ⟨q, by rw [e2]; simp [q1], q2⟩
        · have hg : ∀ q ∈ ef_fl cs1 ++ ef_fl (c :: cs2) ++ Q', ef_Ag H H' q := fun q hq => ha q (List.mem_cons_of_mem _ hq) (fun e => hn'.1 (e ▸ hq))
          refine ⟨K1, e' :: K2, cs1, c :: cs2, A', B', Q', hp K1 K2 _ h3 h1, h2, h3, h4, h5, h6, h7, fun d hd => ?_, fun d hd => ?_, ef_Cx_ag (fun q hq => hg q (by simp [hq])) h, e1, ?_, rfl⟩
          · exact ef_Tr_ag (fun q hq => hg q (by simp [ef_fl_mem hd hq])) (h8 d hd)
          · exact ef_Tr_ag (fun q hq => hg q (by simp [ef_fl_mem hd hq])) (h9 d hd)
          · simp only [ef_lR, List.cons_append]
            rw [e2]
theorem ef_cutA {α : Type} {l : List α} {m : Nat} (h : m < l.length) : ∃ a x b, l = a ++ x :: b ∧ b.length = m := by
  have hl : (l.drop (l.length - m - 1)).length = m + 1 := by rw [List.length_drop]; omega
  cases e : l.drop (l.length - m - 1) with
  | nil => rw [e] at hl; simp at hl
  | cons x b => exact ⟨l.take (l.length - m - 1), x, b, by rw [← e, List.take_append_drop], by rw [e, List.length_cons] at hl; omega⟩
section
variable {rt we wt : Int32} {kc ks vs bl fr nd sr sn sv dk hd wp wi wq : Nat → Int32}
theorem ef_lw_lp {post : SX → Prop} {R r : Nat} (hR : R ≤ 6) {kv : Nat × Nat} {B'' Lt : List (Nat × Nat)} {Pt : List Nat}
    (G : ∀ w y A Q K1 e P wp wi, ef_At (kc, ks, vs, bl) R r w 0 y A (kv :: B'') Q (K1 ++ [e]) [] P → A ++ (K1 ++ [e] ++ kv :: B'') = Lt → (P ++ Q).Perm Pt → ef_Wy wp wi ((y, K1.length) :: w) → post (rt, nI (w.length + 1), wt, kc, ks, vs, bl, fr, nd, sr, sn, sv, dk, hd, wp, wi, wq)) :
    ∀ (h : Nat) (w : List (Nat × Nat)) (y : Nat) (A : List (Nat × Nat)) (Q : List Nat) (K : List (Nat × Nat)) (cs : List ef_T) (P : List Nat) (wp wi : Nat → Int32) (f : Nat), h < f →
      ef_At (kc, ks, vs, bl) R r w h y A (kv :: B'') Q K cs P → A ++ (ef_mx K cs ++ kv :: B'') = Lt → (P ++ Q).Perm Pt → ef_Wy wp wi w → wX_lengthenWay_43 post f (nI y) rt (nI w.length) wt kc ks vs bl fr nd sr sn sv dk hd wp wi wq := by
  intro h
  induction h with
  | zero =>
    intro w y A Q K cs P wp wi f hf hA hL hP hW
    obtain ⟨f, rfl⟩ : ∃ g, f = g + 1 := ⟨f - 1, by omega⟩
    have hA' := hA
    obtain ⟨i1, i2, i3, i4, i5, i6⟩ := hA
    have hlen := ef_Cx_len i1
    cases i3
    have hy : y < 110 := i2.1.1
    have hk : kc y = nI K.length := ef_Pg_kc i2.1
    rcases List.eq_nil_or_concat K with rfl | ⟨K1, e, rfl⟩
    · simp at i5
    rw [List.concat_eq_append] at *
    rw [List.length_append, List.length_singleton] at hk i6
    rw [wX_lengthenWay_43]
    refine ef_leaf_t hy (ef_Pg_leaf i2.1) (br_f (by decide) ?_)
    simp (disch := omega) only [nI_clamp, hk, nI_pred]
    refine ⟨vp_in_nI hy (by decide), ef_pushWay (by omega) (by omega) (by omega) ?_⟩
    exact G w y A Q K1 e P _ _ hA' hL hP (ef_Wy_push hW)
  | succ h ih =>
    intro w y A Q K cs P wp wi f hf hA hL hP hW
    obtain ⟨f, rfl⟩ : ∃ g, f = g + 1 := ⟨f - 1, by omega⟩
    have hA' := hA
    obtain ⟨i1, i2, i3, i4, i5, i6⟩ := hA
    have hlen := ef_Cx_len i1
    have hy : y < 110 := i2.1.1
    have hk : kc y = nI K.length := ef_Pg_kc i2.1
    rw [← List.append_nil K] at hA'
    obtain ⟨c, Kc, csc, cs1, cs2, e, l1, l2, hb, hAt, hmx, hpm⟩ := ef_At_down hA'
    obtain ⟨c0, hc0, e0⟩ := ef_Pg_inner i2.1 (by rw [e]; simp)
    have hb : bl (6 * y + K.length) = nI c.1 := hb
    have hcs2 : cs2 = [] := List.eq_nil_of_length_eq_zero l2
    subst hcs2
    simp only [ef_lR, List.nil_append, List.append_nil] at hAt hmx
    rw [wX_lengthenWay_43]
    refine ef_leaf_f hy e0 hc0 (br_t rfl ?_)
    simp (disch := omega) only [nI_clamp, hk]
    refine ⟨vp_in_nI hy (by decide), ef_pushWay (by omega) (by omega) (by omega) ?_⟩
    simp (disch := omega) only [nI_clamp, hk, ef_m6, nI_add, hb]
    refine ⟨vp_in_nI hy (by decide), vp_in_nI (by omega) (by decide), nm_e ?_⟩
    refine ih ((y, K.length) :: w) c.1 _ _ Kc csc c.2.2 _ _ f (by omega) hAt ?_ (hpm.trans hP) (ef_Wy_push hW)
    rw [← hL, hmx]
    simp only [List.append_assoc]
/-- the levels that don't hold the key are passed -/
theorem ef_rm_skip {post : SX → Prop} {k W : Nat} {x2 x3 : Int32} (hk : k < 32768) (hW : W ≤ 7) : ∀ (d l f : Nat), (∀ m, l ≤ m → m < l + d → ∃ y i n, wp m = nI y ∧ wi m = nI i ∧ y < 110 ∧ n ≤ 4 ∧ i ≤ n ∧ kc y = nI n ∧ (i < n → ∃ k', ks (5 * y + i) = nI k' ∧ k' < 32768 ∧ k' ≠ k)) →
    l + d ≤ W → d < f → (∀ f', f' + d = f → wX_remove_41 post (nI k) x2 x3 f' (nI (l + d)) rt (nI (W + 1)) wt kc ks vs bl fr nd sr sn sv dk hd wp wi wq) → wX_remove_41 post (nI k) x2 x3 f (nI l) rt (nI (W + 1)) wt kc ks vs bl fr nd sr sn sv dk hd wp wi wq := by
  intro d
  induction d with
  | zero => intro l f _ _ _ G; exact G f rfl
  | succ d ih =>
    intro l f hm hl hf G
    obtain ⟨f, rfl⟩ : ∃ g, f = g + 1 := ⟨f - 1, by omega⟩
    obtain ⟨y, i, n, m1, m2, m3, m4, m5, m6, m7⟩ := hm l (by omega) (by omega)
    have next := ih (l + 1) f (fun m a b => hm m (by omega) (by omega)) (by omega) (by omega) (fun f' hf' => by
      have := G f' (by omega)
      rw [show l + (d + 1) = l + 1 + d from by omega] at this
      exact this)
    rw [wX_remove_41]
    simp (disch := omega) only [nI_pred, nI_clamp, m1, m2, m6, nI_1]
    refine br_f (nI_ge (by omega) (by omega)) ⟨vp_in_nI (by omega) (by decide), nm_e ⟨vp_in_nI (by omega) (by decide), nm_e ?_⟩⟩
    simp (disch := omega) only [nI_clamp, m6, ef_m5, nI_add]
    refine ⟨vp_in_nI m3 (by decide), br_c (fun _ => nm_e next) (fun h => ?_)⟩
    have h : ¬ n ≤ i := fun e => h ((nI_leI (by omega) (by omega)).mpr e)
    obtain ⟨k', k1, k2, k3⟩ := m7 (by omega)
    simp only [k1]
    refine ⟨vp_in_nI (by omega) (by decide), br_f (fun e => k3 (ef_inj (by omega) (by omega) e)) (nm_e next)⟩
/-- the leaf gives up an item; the rest follows -/
theorem ef_rm_end {post : SX → Prop} {R r x k : Nat} {w A B Q K1 e K2 P LS PS Lt} (hR : R ≤ 6) (hA : ef_At (kc, ks, vs, bl) R r w 0 x A B Q (K1 ++ e :: K2) [] P) (hW : ef_Wy wp wi ((x, K1.length) :: w)) (hfr : ∀ q ∈ (x, K1.length) :: w, fr q.1 = 1)
    (hI : ef_Inv kc ks vs bl fr sr sn sv LS PS (P ++ Q)) (hL : A ++ (K1 ++ K2 ++ B) = Lt) (hl : Lt.length ≤ 80) (hne : Lt ≠ [])
    (G : ∀ R' a P' we wt kc ks vs bl fr nd wp wi wq, ef_Rn (kc, ks, vs, bl) R' (a, Lt, P') → ef_Inv kc ks vs bl fr sr sn sv LS PS P' → post (nI a, we, wt, kc, ks, vs, bl, fr, nd, sr, sn, sv, dk, hd, wp, wi, wq)) (f : Nat) :
    wX_remove_41 post (nI k) (nI x) (nI K1.length) (f + 1) (nI w.length) (nI r) (nI (w.length + 1)) wt kc ks vs bl fr nd sr sn sv dk hd wp wi wq := by
  obtain ⟨i1, i2, i3, i4, i5, i6⟩ := hA
  have hlen := ef_Cx_len i1
  have xS := ef_Inv_fr hI (hfr _ (List.mem_cons_self ..))
  have eP : P = x :: ef_fl [] := i2.2.2
  rw [wX_remove_41]
  simp only [nI_pred]
  refine br_t (nI_le (by omega) (by omega)) (ef_close_pg i2.1 (fun kc' ks' vs' p hag => ?_))
  dsimp only
  refine nm_r (nI_pred w.length) ⟨w.length + 1, ?_⟩
  have hne2 : ∀ q ∈ Q, q ≠ x := fun q hq e => by
    have := hI.2.1
    rw [eP] at this
    exact (List.nodup_cons.mp (by simpa [ef_fl] using this : (x :: Q).Nodup)).1 (e ▸ hq)
  rw [List.length_append, List.length_cons] at i4 i6
  have hO : ef_O1 (kc', ks', vs', bl) R r w 0 x A B Q (K1 ++ K2) [] P := by
    refine ⟨ef_Cx_ag (fun q hq => hag q (hne2 q hq)) i1, ⟨p, rfl, i2.2.2⟩, rfl, fun h => ?_, ?_⟩
    · have := i4 h
      rw [List.length_append]
      omega
    · rw [List.length_append]; omega
  exact ef_rm_lp hl hne hR (fun R' a P' wt kc ks vs bl fr nd wq g1 g2 => G R' a P' _ wt kc ks vs bl fr nd _ _ wq g1 g2) w 0 x K1.length A B Q _ [] P _ _ _ _ _ _ _ _ (w.length + 1) (by omega) hO hL hW (ef_Inv_ag (fun q hq => hag q (fun e => xS (e ▸ hq))) hI) hfr
def ef_Rem (L : List (Nat × Nat)) (k : Nat) (L' : List (Nat × Nat)) : Prop := ∃ L1 v L2, L = L1 ++ (k, v) :: L2 ∧ L' = L1 ++ L2
theorem ef_remove {post : SX → Prop} {k : Nat} {L LS : List (Nat × Nat)} (hT : ef_TI rt kc ks vs bl fr sr sn sv L LS) (hk : k < 32768) (hm : ef_lk L k ≠ none) (h2 : 2 ≤ L.length)
    (G : ∀ L' rt we wt kc ks vs bl fr nd wp wi wq, ef_Rem L k L' → ef_TI rt kc ks vs bl fr sr sn sv L' LS → post (rt, we, wt, kc, ks, vs, bl, fr, nd, sr, sn, sv, dk, hd, wp, wi, wq)) : wpX_remove post (rt, we, wt, kc, ks, vs, bl, fr, nd, sr, sn, sv, dk, hd, wp, wi, wq) (nI k) := by
  obtain ⟨R, r, P, PS, rfl, hR, hS, hl, hI⟩ := hT
  have hR6 := ef_pow_bd (ef_Rn_ht hR) (by dsimp only; omega)
  have done : ∀ Lt, ef_Rem L k Lt → (∀ R' a P' we wt kc ks vs bl fr nd wp wi wq, ef_Rn (kc, ks, vs, bl) R' (a, Lt, P') → ef_Inv kc ks vs bl fr sr sn sv LS PS P' → post (nI a, we, wt, kc, ks, vs, bl, fr, nd, sr, sn, sv, dk, hd, wp, wi, wq)) ∧ Lt.length ≤ 80 ∧ Lt ≠ [] := fun Lt hrem => by
    have hrem' := hrem
    obtain ⟨L1, v, L2, e1, e2⟩ := hrem'
    have hlen : Lt.length + 1 = L.length := by rw [e1, e2]; simp; omega
    have hso : ef_So Lt := by
      rw [e1] at hS
      rw [e2]
      obtain ⟨s1, s2, s3⟩ := ef_So_app.mp hS
      exact ef_So_app.mpr ⟨s1, (ef_So_cons.mp s2).2, fun a ha b hb => s3 a ha b (List.mem_cons_of_mem _ hb)⟩
    refine ⟨fun R' a P' we wt kc ks vs bl fr nd wp wi wq g1 g2 => G Lt _ _ _ _ _ _ _ _ _ _ _ _ hrem ⟨R', a, P', PS, rfl, g1, hso, by omega, g2⟩, by omega, fun e => by rw [e] at hlen; simp at hlen; omega⟩
  unfold wpX_remove
  refine ef_find hk hR hS (by omega) rfl (fun we' wp' wi' h => ?_) (fun we' wp' wi' h => ?_)
  · obtain ⟨w, h, x, A, B, Q, K1, v, K2, cs, P', hA, eL, hp, hW, rfl⟩ := h
    have hlen := ef_Cx_len hA.1
    have hx : x < 110 := hA.2.1.1.1
    have h4 := hA.2.2.2.2.2
    rw [List.length_append, List.length_cons] at h4
    have w1 : wp' w.length = nI x := hW.1
    have w2 : wi' w.length = nI K1.length := hW.2.1
    dsimp only
    unfold wpX_lengthenWay
    simp (disch := omega) only [nI_pred, nI_clamp, w1, w2]
    refine ⟨vp_in_nI (by omega) (by decide), nm_e ?_⟩
    cases h with
    | zero =>
      have hcs := hA.2.2.1
      cases hcs
      refine ef_leaf_t hx (ef_Pg_leaf hA.2.1.1) (br_f (by decide) ?_)
      have hrem : ef_Rem L k (A ++ (K1 ++ K2 ++ B)) := ⟨A ++ K1, v, K2 ++ B, by rw [eL]; simp [ef_mx], by simp⟩
      obtain ⟨d1, d2, d3⟩ := done _ hrem
      refine ef_copyWay (by rw [← eL]; exact hl) (by omega) hA hW (ef_Inv_perm hp.symm hI) (fun r2 w2 x2 Q2 P2 wt2 kc2 ks2 vs2 bl2 fr2 nd2 wp2 wq2 g1 g2 g3 g4 g5 g6 => ?_)
      have hx2 : x2 < 110 := g1.2.1.1.1
      have u1 : wp2 w2.length = nI x2 := g2.1
      have u2 : wi' w2.length = nI K1.length := g2.2.1
      rw [← g4]
      simp (disch := omega) only [nI_pred, nI_clamp, u1, u2]
      refine ⟨vp_in_nI (by omega) (by decide), nm_e ⟨vp_in_nI (by omega) (by decide), nm_e ⟨w2.length + 1, ?_⟩⟩⟩
      have hB : ∀ q ∈ B, k < q.1 := fun q hq => by
        rw [eL] at hS
        have := (ef_So_app.mp (ef_So_app.mp hS).2.1).2.2 (k, v) (by simp [ef_mx]) q hq
        exact this
      have sk := ef_rm_skip (rt := nI r2) (wt := wt2) (kc := kc2) (ks := ks2) (vs := vs2) (bl := bl2) (fr := fr2) (nd := nd2) (sr := sr) (sn := sn) (sv := sv) (dk := dk) (hd := hd) (wp := wp2) (wi := wi') (wq := wq2) (post := post) (x2 := nI x2) (x3 := nI K1.length) (W := w2.length) hk (by omega) w2.length 0 (w2.length + 1)
        (fun m _ hm => by
          obtain ⟨a, ⟨y, i⟩, b, e, hb⟩ := ef_cutA (l := w2) (m := m) (by omega)
          obtain ⟨n, n1, n2, n3, n4, n5⟩ := ef_Cx_right g1.1 (y, i) (by rw [e]; simp)
          have hw := g2.2.2
          rw [e] at hw
          obtain ⟨q1, q2, _⟩ := ef_Wy_app hw
          rw [hb] at q1 q2
          refine ⟨y, i, n, q1, q2, n3, n2, n4, n1, fun hi => ?_⟩
          obtain ⟨q, q3, q4, q5⟩ := n5 hi
          exact ⟨q.1, q4, q5, by have := hB q q3; omega⟩) (by omega) (by omega)
        (fun f' hf' => by
          obtain rfl : f' = 0 + 1 := by omega
          rw [show 0 + w2.length = w2.length from Nat.zero_add _]
          exact ef_rm_end hR6 g1 g2 g5 g6 rfl d2 d3 d1 0)
      exact sk
    | succ h =>
      obtain ⟨c, Kc, csc, cs1, cs2, ecs, l1, l2, hb, hAt, hmx, hpm⟩ := ef_At_down hA
      obtain ⟨c0, hc0, e0⟩ := ef_Pg_inner hA.2.1.1 (by rw [ecs]; simp)
      have hb : bl (6 * x + K1.length) = nI c.1 := hb
      refine ef_leaf_f hx e0 hc0 (br_t rfl ?_)
      simp (disch := omega) only [ef_m6, nI_add, nI_clamp, hb]
      refine ⟨vp_in_nI (by omega) (by decide), vp_in_nI (by omega) (by decide), nm_e ⟨h + 1, ?_⟩⟩
      cases cs2 with
      | nil => simp at l2
      | cons c2 cs2 =>
        have eB : ef_lR ((k, v) :: K2) (c2 :: cs2) ++ B = (k, v) :: (c2.2.1 ++ ef_lR K2 cs2 ++ B) := by simp [ef_lR]
        rw [eB] at hAt
        refine ef_lw_lp (Lt := L) (Pt := P) hR6 (fun w3 y A3 Q3 K3 e3 P3 wp3 wi3 a1 a2 a3 a4 => ?_) h ((x, K1.length) :: w) c.1 _ _ Kc csc c.2.2 _ _ (h + 1) (by omega) hAt ?_ (hpm.trans hp) hW
        · dsimp only
          have hlen3 := ef_Cx_len a1.1
          have hrem : ef_Rem L k (A3 ++ (K3 ++ [] ++ (e3 :: (c2.2.1 ++ ef_lR K2 cs2 ++ B)))) := ⟨A3 ++ (K3 ++ [e3]), v, c2.2.1 ++ ef_lR K2 cs2 ++ B, by rw [← a2]; simp, by simp⟩
          obtain ⟨d1, d2, d3⟩ := done _ hrem
          refine ef_copyWay (by rw [show ef_mx (K3 ++ [e3]) [] = K3 ++ [e3] from rfl, a2]; exact hl) (by omega) a1 a4 (ef_Inv_perm a3.symm hI) (fun r2 w2 x2 Q2 P2 wt2 kc2 ks2 vs2 bl2 fr2 nd2 wp2 wq2 g1 g2 g3 g4 g5 g6 => ?_)
          have hx2 : x2 < 110 := g1.2.1.1.1
          have hk4 := g1.2.2.2.2.2
          rw [List.length_append, List.length_singleton] at hk4
          have u1 : wp2 w2.length = nI x2 := g2.1
          have u2 : wi3 w2.length = nI K3.length := g2.2.1
          rw [← g4]
          simp (disch := omega) only [nI_pred, nI_clamp, u1, u2]
          refine ⟨vp_in_nI (by omega) (by decide), nm_e ⟨vp_in_nI (by omega) (by decide), nm_e ⟨w2.length + 1, ?_⟩⟩⟩
          have hB : ∀ q ∈ c2.2.1 ++ ef_lR K2 cs2 ++ B, k < q.1 := fun q hq => by
            rw [← a2] at hS
            have := (ef_So_cons.mp (ef_So_app.mp (ef_So_app.mp hS).2.1).2.1).1 q hq
            exact this
          have hnd := List.nodup_append.mp g6.2.1
          obtain ⟨v1, z, j, v2, r1, r2', r3, r4, r5, r6, r7, r8⟩ := ef_Cx_rep g1.1 hnd.2.1
          obtain ⟨nz, z1, z2, z3⟩ := r3
          have z1 : kc2 z = nI nz := z1
          have r5 : ks2 (5 * z + j) = nI k := r5
          have hWw := g2.2.2
          rw [r1] at hWw
          obtain ⟨y1, y2, y3⟩ := ef_Wy_app hWw
          have hzw : (z, j) ∈ w2 := by rw [r1]; simp
          have hzQ : z ∈ Q2 := ef_Cx_mem g1.1 (z, j) hzw
          have hzx : z ≠ x2 := fun e => by
            have eP : P2 = x2 :: ef_fl [] := g1.2.1.2.2
            exact hnd.2.2 x2 (by rw [eP]; simp) z hzQ e.symm
          have hzS := ef_Inv_fr g6 (g5 (z, j) (List.mem_cons_of_mem _ hzw))
          obtain ⟨k1, k2, k3, k4⟩ := ef_Pg_key g1.2.1.1
          have k1 : ks2 (5 * x2 + K3.length) = nI e3.1 := k1
          have k2 : vs2 (5 * x2 + K3.length) = nI e3.2 := k2
          have hag : ∀ q, q ≠ z → ef_Ag (kc2, ks2, vs2, bl2) (kc2, upd ks2 (5 * z + j) (nI e3.1), upd vs2 (5 * z + j) (nI e3.2), bl2) q := fun q hq => ef_Ag_mk rfl (fun j j1 j2 => pk_un (by omega)) (fun j j1 j2 => pk_un (by omega)) (fun _ _ _ => rfl)
          have cx2 := r8 (kc2, upd ks2 (5 * z + j) (nI e3.1), upd vs2 (5 * z + j) (nI e3.2), bl2) e3 (fun q _ hq => hag q hq) (fun J1 J2 C hj hpz => by rw [← hj]; exact ef_Pg_set hpz k3 k4)
          have at2 : ef_At (kc2, upd ks2 (5 * z + j) (nI e3.1), upd vs2 (5 * z + j) (nI e3.2), bl2) R r2 w2 0 x2 A3 (e3 :: (c2.2.1 ++ ef_lR K2 cs2 ++ B)) Q2 (K3 ++ e3 :: []) [] P2 :=
            ⟨cx2, ⟨ef_Pg_ag (hag x2 hzx.symm) g1.2.1.1, g1.2.1.2⟩, rfl, g1.2.2.2.1, g1.2.2.2.2.1, g1.2.2.2.2.2⟩
          have hl2 : v1.length + (v2.length + 1) = w2.length := by rw [r1]; simp
          -- the levels above
          have sk1 := ef_rm_skip (rt := nI r2) (wt := wt2) (kc := kc2) (ks := ks2) (vs := vs2) (bl := bl2) (fr := fr2) (nd := nd2) (sr := sr) (sn := sn) (sv := sv) (dk := dk) (hd := hd) (wp := wp2) (wi := wi3) (wq := wq2) (post := post) (x2 := nI x2) (x3 := nI K3.length) (W := w2.length) hk (by omega) v2.length 0 (w2.length + 1)
            (fun m _ hm => by
              obtain ⟨a, ⟨y, i⟩, b, e, hb⟩ := ef_cutA (l := v2) (m := m) (by omega)
              obtain ⟨n, n1, n2, n3, n4, n5⟩ := r7 (y, i) (by rw [e]; simp)
              rw [e] at y3
              obtain ⟨q1, q2, _⟩ := ef_Wy_app y3
              rw [hb] at q1 q2
              refine ⟨y, i, n, q1, q2, n3, n2, n4, n1, fun hi => ?_⟩
              obtain ⟨q, q3, q4, q5⟩ := n5 hi
              exact ⟨q.1, q4, q5, by have := hB q q3; omega⟩) (by omega) (by omega)
            (fun f' hf' => by
              -- the level of the key
              obtain ⟨f', rfl⟩ : ∃ g, f' = g + 1 := ⟨f' - 1, by omega⟩
              rw [Nat.zero_add, wX_remove_41]
              simp (disch := omega) only [nI_pred, nI_clamp, y1, y2, nI_1]
              refine br_f (nI_ge (by omega) (by omega)) ⟨vp_in_nI (by omega) (by decide), nm_e ⟨vp_in_nI (by omega) (by decide), nm_e ?_⟩⟩
              simp (disch := omega) only [nI_clamp, z1, ef_m5, nI_add, r5, k1, k2]
              refine ⟨vp_in_nI r4 (by decide), br_f (nI_ge (by omega) (by omega)) ⟨vp_in_nI (by omega) (by decide), br_t (by trivial) ⟨vp_in_nI (by omega) (by decide), vp_in_nI (by omega) (by decide), ef_putAt r4 (by omega) k3 k4 ?_⟩⟩⟩
              dsimp only
              refine nm_e ?_
              -- the levels below
              refine ef_rm_skip hk (by omega) v1.length (v2.length + 1) f' (fun m hm1 hm2 => ?_) (by omega) (by omega) (fun f3 hf3 => ?_)
              · obtain ⟨a, ⟨y, i⟩, b, e, hb⟩ := ef_cutA (l := v1) (m := m - (v2.length + 1)) (by omega)
                obtain ⟨n, n1, n2, n3, n4⟩ := r2' (y, i) (by rw [e]; simp)
                have hw := hWw
                rw [e, List.append_assoc] at hw
                obtain ⟨q1, q2, _⟩ := ef_Wy_app hw
                have hbm : (b.append ((z, j) :: v2)).length = m := by
                  show (b ++ (z, j) :: v2).length = m
                  rw [List.length_append, List.length_cons]; omega
                rw [hbm] at q1 q2
                exact ⟨y, i, n, q1, q2, n3, n2, by have : i = n := n4; omega, n1, fun hi => by have : i = n := n4; omega⟩
              · obtain ⟨f3, rfl⟩ : ∃ g, f3 = g + 1 := ⟨f3 - 1, by omega⟩
                rw [show v2.length + 1 + v1.length = w2.length from by omega]
                exact ef_rm_end hR6 at2 g2 g5 (ef_Inv_ag (fun q hq => hag q (fun e => hzS (e ▸ hq))) g6) rfl d2 d3 d1 f3)
          exact sk1
        · rw [eL, hmx, ← eB]
          simp only [List.append_assoc]
  · exfalso
    obtain ⟨w, x, A, B, Q, K1, K2, P', hA, eL, hp, hW, rfl, h1, h2⟩ := h
    refine hm (ef_lk_none (fun e he => ?_))
    rw [eL] at he
    simp only [List.mem_append] at he h1 h2
    rcases he with he | (he | he) | he
    · have := h1 e (Or.inl he); omega
    · have := h1 e (Or.inr he); omega
    · have := h2 e (Or.inl he); omega
    · have := h2 e (Or.inr he); omega
end
end
section
/-! blocks, settling, and the trees as maps -/
def ef_cov (e : Nat × Nat) (b : Nat) : Prop := 128 ≤ e.1 % 256 ∧ e.2 / 16 ≤ b ∧ b < e.2 / 16 + e.2 % 16
def ef_mask (v : Nat) : Nat := (2 ^ (v % 16) - 1) * 2 ^ (v / 16)
theorem ef_mask_bit (v b : Nat) : (ef_mask v).testBit b = true ↔ v / 16 ≤ b ∧ b < v / 16 + v % 16 := by
  unfold ef_mask
  rw [Nat.testBit_mul_two_pow, Nat.testBit_two_pow_sub_one]
  simp only [Bool.and_eq_true, decide_eq_true_eq]
  omega
theorem ef_mask_lt {v : Nat} (h : v / 16 + v % 16 ≤ 48) : ef_mask v < 2 ^ 48 := by
  unfold ef_mask
  have h1 : 2 ^ (v % 16) - 1 < 2 ^ (v % 16) := Nat.sub_lt (Nat.two_pow_pos _) (by decide)
  have h2 : (2 ^ (v % 16) - 1) * 2 ^ (v / 16) < 2 ^ (v % 16) * 2 ^ (v / 16) := Nat.mul_lt_mul_of_pos_right h1 (Nat.two_pow_pos _)
  rw [← Nat.pow_add] at h2
  exact Nat.lt_of_lt_of_le h2 (Nat.pow_le_pow_right (by decide) (by omega))
theorem ef_and15 {v : Nat} (h : v < 32768) : nI v &&& 15 = nI (v % 16) := pk_andN (by omega) 4 (by decide)
theorem ef_and255 {v : Nat} (h : v < 32768) : nI v &&& 255 = nI (v % 256) := pk_andN (by omega) 8 (by decide)
theorem ef_shr4 {v : Nat} (h : v < 32768) : nI v >>> ((4 : Int32) &&& 31) = nI (v / 16) := pk_shrN (by omega) _ 4 (by decide)
theorem ef_item {v : Nat} (h : v < 32768) (hb : v / 16 + v % 16 ≤ 48) : (((1 : Int64) <<< ((nI v &&& 15).toInt64 &&& 63)) - 1) <<< ((nI v >>> ((4 : Int32) &&& 31)).toInt64 &&& 63) = lN (ef_mask v) := by
  rw [ef_and15 h, ef_shr4 h, show (1 : Int64) = lN 1 from rfl, wb_shl 1 (by omega), lN_sub (by rw [Nat.one_mul]; exact Nat.two_pow_pos _), wb_shl _ (by omega), Nat.one_mul]
  rfl
theorem ef_exc {α : Type} {P : α → Prop} {a : α} {l : List α} : (∃ c, c ∈ a :: l ∧ P c) ↔ P a ∨ ∃ c, c ∈ l ∧ P c := by
  constructor
  · rintro ⟨c, hc, h⟩
    rcases List.mem_cons.mp hc with rfl | hc
    · exact Or.inl h
    · exact Or.inr ⟨c, hc, h⟩
  · rintro (h | ⟨c, hc, h⟩)
    · exact ⟨a, List.mem_cons_self .., h⟩
    · exact ⟨c, List.mem_cons_of_mem _ hc, h⟩
theorem ef_lR_mem {e : Nat × Nat} : ∀ {K : List (Nat × Nat)} {cs : List ef_T}, K.length = cs.length → (e ∈ ef_lR K cs ↔ e ∈ K ∨ ∃ c ∈ cs, e ∈ c.2.1)
  | [], [], _ => by simp [ef_lR]
  | [], _ :: _, h => by simp at h
  | _ :: _, [], h => by simp at h
  | k :: K, c :: cs, h => by
    have ih := ef_lR_mem (e := e) (K := K) (cs := cs) (by simpa using h)
    show e ∈ k :: (c.2.1 ++ ef_lR K cs) ↔ _
    rw [List.mem_cons, List.mem_append, ih, ef_exc, List.mem_cons]
    clear ih h
    constructor
    · rintro (h | h | h | h)
      · exact Or.inl (Or.inl h)
      · exact Or.inr (Or.inl h)
      · exact Or.inl (Or.inr h)
      · exact Or.inr (Or.inr h)
    · rintro ((h | h) | h | h)
      · exact Or.inl h
      · exact Or.inr (Or.inr (Or.inl h))
      · exact Or.inr (Or.inl h)
      · exact Or.inr (Or.inr (Or.inr h))
theorem ef_mx_mem {e : Nat × Nat} {K : List (Nat × Nat)} {cs : List ef_T} (h : cs = [] ∨ cs.length = K.length + 1) : e ∈ ef_mx K cs ↔ e ∈ K ∨ ∃ c ∈ cs, e ∈ c.2.1 := by
  cases cs with
  | nil => simp [ef_mx]
  | cons c cs =>
    have h' : cs.length = K.length := by
      cases h with
      | inl h => simp at h
      | inr h => simp only [List.length_cons] at h; omega
    show e ∈ c.2.1 ++ ef_lR K cs ↔ _
    rw [List.mem_append, ef_lR_mem h'.symm, ef_exc]
    clear h h'
    constructor
    · rintro (h | h | h)
      · exact Or.inr (Or.inl h)
      · exact Or.inl h
      · exact Or.inr (Or.inr h)
    · rintro (h | h | h)
      · exact Or.inr (Or.inl h)
      · exact Or.inl h
      · exact Or.inr (Or.inr h)
section
variable {rt we wt : Int32} {kc ks vs bl fr nd sr sn sv dk hd wp wi wq : Nat → Int32}
theorem ef_bk23 {post : Int64 → SX → Prop} {J : Int64 → Int32 → Int32 → Int32 → (Nat → Int32) → (Nat → Int32) → (Nat → Int32) → (Nat → Int32) → (Nat → Int32) → (Nat → Int32) → (Nat → Int32) → (Nat → Int32) → (Nat → Int32) → (Nat → Int32) → (Nat → Int32) → (Nat → Int32) → (Nat → Int32) → (Nat → Int32) → Prop}
    {x : Nat} {K : List (Nat × Nat)} {C : List Nat} (hP : ef_Pg (kc, ks, vs, bl) x K C) (hb : ∀ e ∈ K, 128 ≤ e.1 % 256 → e.2 / 16 + e.2 % 16 ≤ 48) :
    ∀ (K2 K1 : List (Nat × Nat)) (f n : Nat), K = K1 ++ K2 → K2.length < f → n < 2 ^ 48 → (∀ n', n' < 2 ^ 48 → (∀ b, n'.testBit b = true ↔ n.testBit b = true ∨ ∃ e ∈ K2, ef_cov e b) → J (lN n') rt we wt kc ks vs bl fr nd sr sn sv dk hd wp wi wq) →
      wX_blocksIn_23 post J (nI x) rt we wt kc ks vs bl fr nd sr sn sv dk hd wp wi wq f (lN n) (nI K1.length) := by
  have hx := hP.1
  have hK5 := hP.2.1
  have hkc : kc x = nI K.length := hP.2.2.2.2.2.1
  intro K2
  induction K2 with
  | nil =>
    intro K1 f n e hf hn G
    obtain ⟨f, rfl⟩ : ∃ g, f = g + 1 := ⟨f - 1, by omega⟩
    rw [wX_blocksIn_23]
    simp (disch := omega) only [nI_clamp, hkc]
    refine ⟨vp_in_nI hx (by decide), br_t (nI_le (by rw [e]; simp) (by rw [List.append_nil] at e; rw [← e]; omega)) (G n hn (fun b => by simp))⟩
  | cons q K2 ih =>
    intro K1 f n e hf hn G
    obtain ⟨f, rfl⟩ : ∃ g, f = g + 1 := ⟨f - 1, by omega⟩
    have hl : K.length = K1.length + (K2.length + 1) := by rw [e, List.length_append, List.length_cons]
    rw [List.length_cons] at hf
    have hq := hP
    rw [e] at hq
    obtain ⟨q1, q2, q3, q4⟩ := ef_Pg_key hq
    have q1 : ks (5 * x + K1.length) = nI q.1 := q1
    have q2 : vs (5 * x + K1.length) = nI q.2 := q2
    have hbq := hb q (by rw [e]; simp)
    rw [wX_blocksIn_23]
    simp (disch := omega) only [nI_clamp, hkc, ef_m5, nI_add, q1, q2, nI_1, ef_and255]
    refine ⟨vp_in_nI hx (by decide), br_f (nI_ge (by omega) (by omega)) ⟨vp_in_nI (by omega) (by decide), br_c (fun h => ?_) (fun h => nm_e ?_)⟩⟩
    · have h : 128 ≤ q.1 % 256 := (nI_leI (a := 128) (by omega) (by omega)).mp h
      refine ⟨vp_in_nI (by omega) (by decide), nm_e ?_⟩
      rw [ef_item q4 (hbq h), wb_or (by omega) (by have := ef_mask_lt (hbq h); omega)]
      refine nm_e (nm_e ?_)
      have := ih (K1 ++ [q]) f (n ||| ef_mask q.2) (by rw [e]; simp) (by omega) (Nat.or_lt_two_pow hn (ef_mask_lt (hbq h))) (fun n' h1 h2 => G n' h1 (fun b => by
        rw [h2 b, Nat.testBit_or, Bool.or_eq_true, ef_mask_bit]
        rw [ef_exc]
        constructor
        · rintro ((h' | h') | h')
          · exact Or.inl h'
          · exact Or.inr (Or.inl ⟨h, h'⟩)
          · exact Or.inr (Or.inr h')
        · rintro (h' | h' | h')
          · exact Or.inl (Or.inl h')
          · exact Or.inl (Or.inr h'.2)
          · exact Or.inr h'))
      rw [List.length_append] at this
      exact this
    · have h : ¬ 128 ≤ q.1 % 256 := fun h' => h ((nI_leI (a := 128) (by omega) (by omega)).mpr h')
      have := ih (K1 ++ [q]) f n (by rw [e]; simp) (by omega) hn (fun n' h1 h2 => G n' h1 (fun b => by
        rw [h2 b]
        rw [ef_exc]
        constructor
        · rintro (h' | h')
          · exact Or.inl h'
          · exact Or.inr (Or.inr h')
        · rintro (h' | h' | h')
          · exact Or.inl h'
          · exact absurd h'.1 h
          · exact Or.inr h'))
      rw [List.length_append] at this
      exact this
theorem ef_bk_lp {post : Int64 → SX → Prop} : ∀ (N : Nat) (TS : List ef_T) (n0 : Nat) (wq : Nat → Int32) (f : Nat), (ef_fl TS).length = N → N < f → N ≤ 110 → ef_Hs wq 0 (TS.map (·.1)) →
    (∀ t ∈ TS, ∃ h, ef_Tr (kc, ks, vs, bl) 0 5 h t) → (∀ t ∈ TS, ∀ e ∈ t.2.1, 128 ≤ e.1 % 256 → e.2 / 16 + e.2 % 16 ≤ 48) → n0 < 2 ^ 48 →
    (∀ n wq', n < 2 ^ 48 → (∀ b, n.testBit b = true ↔ n0.testBit b = true ∨ ∃ t ∈ TS, ∃ e ∈ t.2.1, ef_cov e b) → post (lN n) (rt, we, 0, kc, ks, vs, bl, fr, nd, sr, sn, sv, dk, hd, wp, wi, wq')) → wX_blocksIn_7 post f (lN n0) rt we (nI TS.length) kc ks vs bl fr nd sr sn sv dk hd wp wi wq := by
  intro N
  induction N with
  | zero =>
    intro TS n0 wq f hN hf _ hq hT hB hn K
    obtain ⟨f, rfl⟩ : ∃ g, f = g + 1 := ⟨f - 1, by omega⟩
    cases TS with
    | nil =>
      rw [wX_blocksIn_7]
      exact br_t (by decide) (K n0 wq hn (fun y => by simp))
    | cons t TS =>
      obtain ⟨h, ht⟩ := hT t (List.mem_cons_self ..)
      have := List.length_pos_of_mem (ef_Tr_mem ht).1
      rw [ef_fl_cons, List.length_append] at hN
      omega
  | succ N ih =>
    intro TS n0 wq f hN hf hb hq hT hB hn K
    obtain ⟨f, rfl⟩ : ∃ g, f = g + 1 := ⟨f - 1, by omega⟩
    rcases List.eq_nil_or_concat TS with rfl | ⟨TS, t, rfl⟩
    · simp [ef_fl] at hN
    · simp only [List.concat_eq_append] at *
      obtain ⟨h, ht⟩ := hT t (by simp)
      have hcl : TS.length ≤ (ef_fl TS).length := ef_fl_ge (fun c hc => by
        obtain ⟨h, hc⟩ := hT c (by simp [hc])
        exact (ef_Tr_mem hc).1)
      have hfl : ef_fl (TS ++ [t]) = ef_fl TS ++ t.2.2 := by rw [ef_fl_app, ef_fl_cons, ef_fl_nil, List.append_nil]
      rw [hfl, List.length_append] at hN
      have htl : (TS ++ [t]).length ≤ 111 := by rw [List.length_append, List.length_singleton]; omega
      rw [wX_blocksIn_7]
      refine br_f (nI_nle (by rw [List.length_append, List.length_singleton]; omega) (by omega)) ?_
      refine ef_walk ht hq (by omega) (fun KK cs wq' n1 nl n2 n3 => ?_)
      have hP : t.2.2 = t.1 :: ef_fl cs := n1.2.2
      have hmem : ∀ e, e ∈ t.2.1 ↔ e ∈ KK ∨ ∃ c ∈ cs, e ∈ c.2.1 := fun e => by rw [n1.2.1]; exact ef_mx_mem nl
      refine ⟨6, ef_bk23 n1.1 (fun e he => hB t (by simp) e ((hmem e).mpr (Or.inl he))) KK [] 6 n0 rfl (by have := n1.1.2.1; omega) hn (fun n' h1 h2 => ?_)⟩
      refine ih (TS ++ cs) n' wq' f (by rw [ef_fl_app, List.length_append]; rw [hP, List.length_cons] at hN; omega) (by omega) (by omega) n3 (fun c hc => ?_) (fun c hc => ?_) h1 (fun n'' wq'' h3 h4 => K n'' wq'' h3 (fun b => ?_))
      · rcases List.mem_append.mp hc with hc | hc
        · exact hT c (by simp [hc])
        · exact n2 c hc
      · rcases List.mem_append.mp hc with hc | hc
        · exact hB c (by simp [hc])
        · exact fun e he => hB t (by simp) e ((hmem e).mpr (Or.inr ⟨c, hc, he⟩))
      · rw [h4 b, h2 b]
        constructor
        · rintro ((h' | ⟨e, he, h'⟩) | ⟨c, hc, e, he, h'⟩)
          · exact Or.inl h'
          · exact Or.inr ⟨t, by simp, e, (hmem e).mpr (Or.inl he), h'⟩
          · rcases List.mem_append.mp hc with hc | hc
            · exact Or.inr ⟨c, by simp [hc], e, he, h'⟩
            · exact Or.inr ⟨t, by simp, e, (hmem e).mpr (Or.inr ⟨c, hc, he⟩), h'⟩
        · rintro (h' | ⟨c, hc, e, he, h'⟩)
          · exact Or.inl (Or.inl h')
          · rcases List.mem_append.mp hc with hc | hc
            · exact Or.inr ⟨c, by simp [hc], e, he, h'⟩
            · rw [List.mem_singleton] at hc
              subst hc
              rcases (hmem e).mp he with he | ⟨d, hd, he⟩
              · exact Or.inl (Or.inr ⟨e, he, h'⟩)
              · exact Or.inr ⟨d, by simp [hd], e, he, h'⟩
theorem ef_blocks {post : Int64 → SX → Prop} {x h : Nat} {L : List (Nat × Nat)} {P : List Nat} (ht : ef_Tr (kc, ks, vs, bl) 0 5 h (x, L, P)) (hP : P.length ≤ 110) (hB : ∀ e ∈ L, 128 ≤ e.1 % 256 → e.2 / 16 + e.2 % 16 ≤ 48)
    (K : ∀ n wt' wq', n < 2 ^ 48 → (∀ b, n.testBit b = true ↔ ∃ e ∈ L, ef_cov e b) → post (lN n) (rt, we, wt', kc, ks, vs, bl, fr, nd, sr, sn, sv, dk, hd, wp, wi, wq')) : wpX_blocksIn post (rt, we, wt, kc, ks, vs, bl, fr, nd, sr, sn, sv, dk, hd, wp, wi, wq) (nI x) := by
  unfold wpX_blocksIn
  refine ef_start_p (ef_Tr_mem ht).2 ⟨P.length + 1, ?_⟩
  have hfl : ef_fl [(x, L, P)] = P := by simp [ef_fl]
  refine ef_bk_lp (n0 := 0) P.length [(x, L, P)] _ _ (by rw [hfl]) (by omega) hP ⟨pk_us, trivial⟩ (fun t ht' => ?_) (fun t ht' => ?_) (by decide) (fun n wq' h1 h2 => K n _ wq' h1 (fun b => ?_))
  · rw [List.mem_singleton] at ht'
    subst ht'
    exact ⟨h, ht⟩
  · rw [List.mem_singleton] at ht'
    subst ht'
    exact hB
  · rw [h2 b]
    simp
theorem ef_settle {post : SX → Prop} (K : ∀ fr', (∀ y, y < 110 → fr' y = 0) → post (rt, we, wt, kc, ks, vs, bl, fr', nd, sr, sn, sv, dk, hd, wp, wi, wq)) : wpX_settle post (rt, we, wt, kc, ks, vs, bl, fr, nd, sr, sn, sv, dk, hd, wp, wi, wq) := by
  unfold wpX_settle
  have lp : ∀ (k i : Nat) (fr : Nat → Int32) (f : Nat), i + k = 110 → k < f → (∀ y, y < i → fr y = 0) → wX_settle_2 post rt we wt f (nI i) kc ks vs bl fr nd sr sn sv dk hd wp wi wq := by
    intro k
    induction k with
    | zero =>
      intro i fr f hi hf hy
      obtain ⟨f, rfl⟩ : ∃ g, f = g + 1 := ⟨f - 1, by omega⟩
      obtain rfl : i = 110 := by omega
      rw [wX_settle_2]
      exact br_t (by decide) (K fr hy)
    | succ k ih =>
      intro i fr f hi hf hy
      obtain ⟨f, rfl⟩ : ∃ g, f = g + 1 := ⟨f - 1, by omega⟩
      rw [wX_settle_2]
      refine br_f (nI_ge (b := 110) (by omega) (by decide)) ?_
      simp (disch := omega) only [nI_clamp, nI_1, ef_nz0]
      refine ⟨vp_in_nI (by omega) (by decide), nm_e (nm_e (ih (i + 1) _ f (by omega) (by omega) (fun y hy' => ?_)))⟩
      by_cases e : y = i
      · rw [e, pk_us]
      · rw [pk_un e, hy y (by omega)]
  exact ⟨111, lp 110 0 fr 111 (by omega) (by omega) (fun y hy => absurd hy (by omega))⟩
/-- the number of bits below b -/
def ef_pc (n : Nat) : Nat → Nat
  | 0 => 0
  | b + 1 => ef_pc n b + n / 2 ^ b % 2
theorem ef_pc_le (n : Nat) : ∀ b, ef_pc n b ≤ b
  | 0 => Nat.le_refl _
  | b + 1 => by
    have := ef_pc_le n b
    unfold ef_pc
    omega
theorem ef_bits {post : Int32 → Prop} {n : Nat} (hn : n < 2 ^ 48) (K : post (nI (ef_pc n 48))) : wpX_bitsIn post (rt, we, wt, kc, ks, vs, bl, fr, nd, sr, sn, sv, dk, hd, wp, wi, wq) (lN n) := by
  unfold wpX_bitsIn
  have lp : ∀ (k i f : Nat), i + k = 48 → k < f → wX_bitsIn_5 post (lN n) rt we wt kc ks vs bl fr nd sr sn sv dk hd wp wi wq f (nI (ef_pc n i)) (nI i) := by
    intro k
    induction k with
    | zero =>
      intro i f hi hf
      obtain ⟨f, rfl⟩ : ∃ g, f = g + 1 := ⟨f - 1, by omega⟩
      obtain rfl : i = 48 := by omega
      rw [wX_bitsIn_5]
      exact br_t (by decide) K
    | succ k ih =>
      intro i f hi hf
      obtain ⟨f, rfl⟩ : ∃ g, f = g + 1 := ⟨f - 1, by omega⟩
      rw [wX_bitsIn_5]
      refine br_f (nI_ge (b := 48) (by omega) (by decide)) ?_
      rw [wb_bit (n := n) (k := i) (by omega) (by omega), lN_i, nI_add, nI_1]
      exact nm_e (nm_e (ih (i + 1) f (by omega) (by omega)))
  exact ⟨49, lp 48 0 49 (by omega) (by omega)⟩
end
end
section
/-! the trees as maps -/
def ef_ins (m : Nat → Option Nat) (k v : Nat) : Nat → Option Nat := fun q => if q = k then some v else m q
def ef_del (m : Nat → Option Nat) (k : Nat) : Nat → Option Nat := fun q => if q = k then none else m q
def ef_Cap (m : Nat → Option Nat) : Prop := ∃ f : Nat → Nat, (∀ k, m k ≠ none → f k < 80) ∧ (∀ k k', m k ≠ none → m k' ≠ none → f k = f k' → k = k')
def ef_TM (rt : Int32) (kc ks vs bl fr sr sn sv : Nat → Int32) (m ms : Nat → Option Nat) : Prop :=
  ∃ L LS, ef_TI rt kc ks vs bl fr sr sn sv L LS ∧ (∀ k, ef_lk L k = m k) ∧ (∀ k, ef_lk LS k = ms k)
theorem ef_nd_f {f : Nat → Nat} : ∀ {L : List (Nat × Nat)}, ef_So L → (∀ e ∈ L, ∀ e' ∈ L, f e.1 = f e'.1 → e.1 = e'.1) → (L.map (fun e => f e.1)).Nodup
  | [], _, _ => List.nodup_nil
  | a :: L, hs, hf => by
    obtain ⟨s1, s2⟩ := ef_So_cons.mp hs
    rw [List.map_cons, List.nodup_cons]
    refine ⟨fun hm => ?_, ef_nd_f s2 (fun e he e' he' => hf e (List.mem_cons_of_mem _ he) e' (List.mem_cons_of_mem _ he'))⟩
    obtain ⟨b, hb, e⟩ := List.mem_map.mp hm
    have := hf b (List.mem_cons_of_mem _ hb) a (List.mem_cons_self ..) e
    have := s1 b hb
    omega
theorem ef_cap_len {L : List (Nat × Nat)} {m : Nat → Option Nat} {k v : Nat} (hs : ef_So L) (hm : ∀ q, ef_lk L q = m q) (hc : ef_Cap (ef_ins m k v)) (hn : ef_lk L k = none) : L.length < 80 := by
  obtain ⟨f, f1, f2⟩ := hc
  have hin : ∀ e ∈ L, ef_ins m k v e.1 ≠ none := fun e he => by
    unfold ef_ins
    by_cases h : e.1 = k
    · rw [if_pos h]; simp
    · rw [if_neg h, ← hm, ef_lk_of hs he]; simp
  have hk : ef_ins m k v k ≠ none := by unfold ef_ins; rw [if_pos rfl]; simp
  have hd := ef_nd_f hs (fun e he e' he' h => f2 e.1 e'.1 (hin e he) (hin e' he') h)
  have hd2 : (f k :: L.map (fun e => f e.1)).Nodup := List.nodup_cons.mpr ⟨fun h => by
    obtain ⟨b, hb, e⟩ := List.mem_map.mp h
    exact ef_lk_none' hn b hb (f2 b.1 k (hin b hb) hk e), hd⟩
  have := List.Nodup.length_le_of_subset (l₂ := List.range 80) hd2 (fun y hy => by
    rw [List.mem_range]
    rcases List.mem_cons.mp hy with rfl | hy
    · exact f1 k hk
    · obtain ⟨b, hb, rfl⟩ := List.mem_map.mp hy
      exact f1 b.1 (hin b hb))
  rw [List.length_cons, List.length_map, List.length_range] at this
  omega
theorem ef_Rem_so {L : List (Nat × Nat)} {k : Nat} {L' : List (Nat × Nat)} (h : ef_Rem L k L') (hs : ef_So L) : ef_So L' := by
  obtain ⟨L1, v, L2, rfl, rfl⟩ := h
  obtain ⟨s1, s2, s3⟩ := ef_So_app.mp hs
  exact ef_So_app.mpr ⟨s1, (ef_So_cons.mp s2).2, fun a ha b hb => s3 a ha b (List.mem_cons_of_mem _ hb)⟩
theorem ef_Rem_lk {L : List (Nat × Nat)} {k : Nat} {L' : List (Nat × Nat)} (h : ef_Rem L k L') (hs : ef_So L) (q : Nat) : ef_lk L' q = if q = k then none else ef_lk L q := by
  obtain ⟨L1, v, L2, rfl, rfl⟩ := h
  obtain ⟨s1, s2, s3⟩ := ef_So_app.mp hs
  obtain ⟨s4, s5⟩ := ef_So_cons.mp s2
  by_cases e : q = k
  · subst e
    rw [if_pos rfl]
    refine ef_lk_none (fun b hb => ?_)
    rcases List.mem_append.mp hb with hb | hb
    · have := s3 b hb (q, v) (List.mem_cons_self ..)
      dsimp only at this
      omega
    · have := s4 b hb
      dsimp only at this
      omega
  · rw [if_neg e]
    refine ef_lk_app2 ?_
    show _ = (if k = q then _ else _)
    rw [if_neg (Ne.symm e)]
/-- the answer of nextKey -/
def ef_Nx (m : Nat → Option Nat) (k : Nat) (r : Int32) : Prop :=
  (r = -1 ∧ ∀ q, k < q → m q = none) ∨ ∃ q, r = nI q ∧ q < 32768 ∧ k < q ∧ m q ≠ none ∧ ∀ q', k < q' → q' < q → m q' = none
def ef_Ls (m : Nat → Option Nat) (k : Nat) (r : Int32) : Prop :=
  (r = -1 ∧ ∀ q, q ≤ k → m q = none) ∨ ∃ q, r = nI q ∧ q ≤ k ∧ m q ≠ none ∧ ∀ q', q < q' → q' ≤ k → m q' = none
theorem ef_Pg_bd {H : ef_H} {R : Nat} : ∀ {h : Nat} {t : ef_T}, ef_Tr H 0 5 h t → ∀ e ∈ t.2.1, e.1 < 32768 ∧ e.2 < 32768
  | 0, t, ⟨K, h1, h2, h3⟩, e, he => by
    rw [h3.2.1] at he
    exact h3.1.2.2.2.1 e he
  | h + 1, t, ⟨K, cs, h1, h2, h3, h4, h5⟩, e, he => by
    rw [h3.2.1, ef_mx_mem (Or.inr h4)] at he
    rcases he with he | ⟨c, hc, he⟩
    · exact h3.1.2.2.2.1 e he
    · exact ef_Pg_bd (R := R) (h5 c hc) e he
section
variable {rt we wt : Int32} {kc ks vs bl fr nd sr sn sv dk hd wp wi wq : Nat → Int32} {m ms : Nat → Option Nat}
theorem ef_mget {post : Int32 → SX → Prop} {k : Nat} (hT : ef_TM rt kc ks vs bl fr sr sn sv m ms) (hk : k < 32768) (K : ∀ we' wp' wi', post (ef_oI (m k)) (rt, we', wt, kc, ks, vs, bl, fr, nd, sr, sn, sv, dk, hd, wp', wi', wq)) : wpX_get post (rt, we, wt, kc, ks, vs, bl, fr, nd, sr, sn, sv, dk, hd, wp, wi, wq) (nI k) := by
  obtain ⟨L, LS, hT, h1, h2⟩ := hT
  rw [← h1] at K
  exact ef_get hT hk K
theorem ef_mput {post : SX → Prop} {k v : Nat} (hT : ef_TM rt kc ks vs bl fr sr sn sv m ms) (hk : k < 32768) (hv : v < 32768) (hc : ef_Cap (ef_ins m k v))
    (G : ∀ rt we wt kc ks vs bl fr nd wp wi wq, ef_TM rt kc ks vs bl fr sr sn sv (ef_ins m k v) ms → post (rt, we, wt, kc, ks, vs, bl, fr, nd, sr, sn, sv, dk, hd, wp, wi, wq)) : wpX_put post (rt, we, wt, kc, ks, vs, bl, fr, nd, sr, sn, sv, dk, hd, wp, wi, wq) (nI k) (nI v) := by
  obtain ⟨L, LS, hT, h1, h2⟩ := hT
  have hS : ef_So L := by obtain ⟨R, r, P, PS, _, _, hS, _⟩ := hT; exact hS
  refine ef_put hT hk hv (fun hn => ef_cap_len hS h1 hc hn) (fun L' rt we wt kc ks vs bl fr nd wp wi wq g1 g2 => G _ _ _ _ _ _ _ _ _ _ _ _ ⟨L', LS, g2, fun q => ?_, h2⟩)
  rw [ef_Put_lk g1 hS q, h1]
  rfl
theorem ef_mrem {post : SX → Prop} {k : Nat} (hT : ef_TM rt kc ks vs bl fr sr sn sv m ms) (hk : k < 32768) (hm : m k ≠ none) (h0 : m 0 ≠ none) (hk0 : k ≠ 0)
    (G : ∀ rt we wt kc ks vs bl fr nd wp wi wq, ef_TM rt kc ks vs bl fr sr sn sv (ef_del m k) ms → post (rt, we, wt, kc, ks, vs, bl, fr, nd, sr, sn, sv, dk, hd, wp, wi, wq)) : wpX_remove post (rt, we, wt, kc, ks, vs, bl, fr, nd, sr, sn, sv, dk, hd, wp, wi, wq) (nI k) := by
  obtain ⟨L, LS, hT, h1, h2⟩ := hT
  have hS : ef_So L := by obtain ⟨R, r, P, PS, _, _, hS, _⟩ := hT; exact hS
  have hl : 2 ≤ L.length := by
    obtain ⟨v, hv⟩ := Option.ne_none_iff_exists'.mp hm
    obtain ⟨v0, hv0⟩ := Option.ne_none_iff_exists'.mp h0
    rw [← h1] at hv hv0
    have a := ef_lk_mem hv
    have b := ef_lk_mem hv0
    match L, a, b with
    | [e], a, b =>
      rw [List.mem_singleton] at a b
      rw [← a] at b
      cases b
      exact absurd rfl hk0
    | _ :: _ :: _, _, _ => simp
  refine ef_remove hT hk (by rw [h1]; exact hm) hl (fun L' rt we wt kc ks vs bl fr nd wp wi wq g1 g2 => G _ _ _ _ _ _ _ _ _ _ _ _ ⟨L', LS, g2, fun q => ?_, h2⟩)
  rw [ef_Rem_lk g1 hS q, h1]
  rfl
theorem ef_mnext {post : Int32 → Prop} {k : Nat} (hT : ef_TM rt kc ks vs bl fr sr sn sv m ms) (hk : k < 32768) (K : ∀ r, ef_Nx m k r → post r) : wpX_nextKey post (rt, we, wt, kc, ks, vs, bl, fr, nd, sr, sn, sv, dk, hd, wp, wi, wq) (nI k) := by
  obtain ⟨L, LS, hT, h1, h2⟩ := hT
  obtain ⟨R, r, P, PS, er, hR, hS, hl, hI⟩ := hT
  have hbd := ef_Pg_bd (R := R) (ef_Rn_5 hR)
  refine ef_nextKey hk hR hS er (fun A B e hA hB => K _ ?_)
  subst e
  cases B with
  | nil =>
    refine Or.inl ⟨rfl, fun q hq => ?_⟩
    rw [← h1]
    exact ef_lk_none (fun e he => by rw [List.append_nil] at he; have := hA e he; omega)
  | cons b B =>
    obtain ⟨s1, s2, s3⟩ := ef_So_app.mp hS
    obtain ⟨s4, s5⟩ := ef_So_cons.mp s2
    refine Or.inr ⟨b.1, rfl, (hbd b (by simp)).1, hB b (by simp), ?_, fun q' a1 a2 => ?_⟩
    · rw [← h1, ef_lk_of hS (v := b.2) (by simp)]
      simp
    · rw [← h1]
      refine ef_lk_none (fun e he => ?_)
      rw [List.mem_append, List.mem_cons] at he
      rcases he with he | rfl | he
      · have := hA e he; omega
      · omega
      · have := s4 e he; omega
theorem ef_mlast {post : Int32 → Prop} {k : Nat} (hT : ef_TM rt kc ks vs bl fr sr sn sv m ms) (hk : k < 32768) (K : ∀ r, ef_Ls m k r → post r) : wpX_lastKey post (rt, we, wt, kc, ks, vs, bl, fr, nd, sr, sn, sv, dk, hd, wp, wi, wq) (nI k) := by
  obtain ⟨L, LS, hT, h1, h2⟩ := hT
  obtain ⟨R, r, P, PS, er, hR, hS, hl, hI⟩ := hT
  refine ef_lastKey hk hR hS er (fun A B e hA hB => K _ ?_)
  subst e
  rcases List.eq_nil_or_concat A with rfl | ⟨A, a, rfl⟩
  · refine Or.inl ⟨rfl, fun q hq => ?_⟩
    rw [← h1]
    exact ef_lk_none (fun e he => by rw [List.nil_append] at he; have := hB e he; omega)
  · rw [List.concat_eq_append] at *
    have hS' := hS
    rw [List.append_assoc] at hS'
    obtain ⟨s1, s2, s3⟩ := ef_So_app.mp hS'
    have ea : ef_la (A ++ [a]) = nI a.1 := ef_la_app (A := A) (B := []) (e := a)
    refine Or.inr ⟨a.1, ea, hA a (by simp), ?_, fun q' a1 a2 => ?_⟩
    · rw [← h1, ef_lk_of hS (v := a.2) (by simp)]
      simp
    · rw [← h1]
      refine ef_lk_none (fun e he => ?_)
      simp only [List.mem_append, List.mem_singleton] at he
      rcases he with (he | rfl) | he
      · have := s3 e he a (by simp); omega
      · omega
      · have := hB e he; omega
theorem ef_mblk {post : Int64 → SX → Prop} (hT : ef_TM rt kc ks vs bl fr sr sn sv m ms) (hB : ∀ k v, m k = some v → 128 ≤ k % 256 → v / 16 + v % 16 ≤ 48)
    (K : ∀ n wt' wq', n < 2 ^ 48 → (∀ b, n.testBit b = true ↔ ∃ k v, m k = some v ∧ ef_cov (k, v) b) → post (lN n) (rt, we, wt', kc, ks, vs, bl, fr, nd, sr, sn, sv, dk, hd, wp, wi, wq')) : wpX_blocksIn post (rt, we, wt, kc, ks, vs, bl, fr, nd, sr, sn, sv, dk, hd, wp, wi, wq) rt := by
  obtain ⟨L, LS, hT, h1, h2⟩ := hT
  obtain ⟨R, r, P, PS, er, hR, hS, hl, hI⟩ := hT
  have hc := ef_Rn_cnt hR
  dsimp only at hc
  have hm : ∀ k v, m k = some v ↔ (k, v) ∈ L := fun k v => by
    rw [← h1]
    exact ⟨ef_lk_mem, ef_lk_of hS⟩
  have e := ef_blocks (rt := rt) (we := we) (wt := wt) (kc := kc) (ks := ks) (vs := vs) (bl := bl) (fr := fr) (nd := nd) (sr := sr) (sn := sn) (sv := sv) (dk := dk) (hd := hd) (wp := wp) (wi := wi) (wq := wq) (post := post) (ef_Rn_5 hR) (by omega) (fun e he => hB e.1 e.2 ((hm e.1 e.2).mpr he)) (fun n wt' wq' g1 g2 => K n wt' wq' g1 (fun b => by
    rw [g2 b]
    exact ⟨fun ⟨e, he, h⟩ => ⟨e.1, e.2, (hm e.1 e.2).mpr he, h⟩, fun ⟨k, v, hv, h⟩ => ⟨(k, v), (hm k v).mp hv, h⟩⟩))
  rw [← er] at e
  exact e
theorem ef_mblkS {post : Int64 → SX → Prop} (hT : ef_TM rt kc ks vs bl fr sr sn sv m ms) (hB : ∀ k v, ms k = some v → 128 ≤ k % 256 → v / 16 + v % 16 ≤ 48)
    (K : ∀ n wt' wq', n < 2 ^ 48 → (∀ b, n.testBit b = true ↔ ∃ k v, ms k = some v ∧ ef_cov (k, v) b) → post (lN n) (rt, we, wt', kc, ks, vs, bl, fr, nd, sr, sn, sv, dk, hd, wp, wi, wq')) : wpX_blocksIn post (rt, we, wt, kc, ks, vs, bl, fr, nd, sr, sn, sv, dk, hd, wp, wi, wq) (sr (ef_vpl sn sv)) := by
  obtain ⟨L, LS, hT, h1, h2⟩ := hT
  obtain ⟨R, r, P, PS, er, hR, hS, hl, hI⟩ := hT
  obtain ⟨hl', hS', _, _, hc⟩ := hI.2.2.2
  have hm : ∀ k v, ms k = some v ↔ (k, v) ∈ LS := fun k v => by
    rw [← h2]
    exact ⟨ef_lk_mem, ef_lk_of hS'⟩
  rcases hc with ⟨e, rfl, _⟩ | ⟨x, RS, e, hRS⟩
  · rw [e]
    unfold wpX_blocksIn
    refine ef_start_n ⟨1, ?_⟩
    rw [wX_blocksIn_7]
    exact br_t (by decide) (K 0 _ _ (by decide) (fun b => by
      rw [Nat.zero_testBit]
      refine ⟨fun h => absurd h (by decide), fun ⟨k, v, hv, _⟩ => ?_⟩
      have := (hm k v).mp hv
      simp at this))
  · have hc := ef_Rn_cnt hRS
    dsimp only at hc
    rw [e]
    exact ef_blocks (ef_Rn_5 hRS) (by omega) (fun e he => hB e.1 e.2 ((hm e.1 e.2).mpr he)) (fun n wt' wq' g1 g2 => K n wt' wq' g1 (fun b => by
      rw [g2 b]
      exact ⟨fun ⟨e, he, h⟩ => ⟨e.1, e.2, (hm e.1 e.2).mpr he, h⟩, fun ⟨k, v, hv, h⟩ => ⟨(k, v), (hm k v).mp hv, h⟩⟩))
/-- the present tree becomes the saved one -/
theorem ef_TM_save {fr' sr' sn' sv' : Nat → Int32} (hT : ef_TM rt kc ks vs bl fr sr sn sv m ms) (hf : ∀ y, y < 110 → fr' y = 0) (hs : sr' (ef_vpl sn' sv') = rt) : ef_TM rt kc ks vs bl fr' sr' sn' sv' m m := by
  obtain ⟨L, LS, hT, h1, h2⟩ := hT
  obtain ⟨R, r, P, PS, er, hR, hS, hl, hI⟩ := hT
  obtain ⟨⟨a, b, c, d⟩, e, f, g⟩ := hI
  refine ⟨L, L, ⟨R, r, P, P, er, hR, hS, hl, ⟨⟨fun y hy => Or.inl (hf y hy), fun y hy => Or.inr hy, fun y hy => hf y (f y hy), fun y h3 h4 => ?_⟩, e, f, hl, hS, e, f, Or.inr ⟨r, R, by rw [hs]; exact er, hR⟩⟩⟩, h1, h1⟩
  rw [hf y h3] at h4
  exact absurd h4 (by decide)
/-- back to the saved tree -/
theorem ef_TM_back {rt' : Int32} {fr' sr' sn' sv' : Nat → Int32} (hT : ef_TM rt kc ks vs bl fr sr sn sv m ms) (h0 : ms 0 ≠ none) (hf : ∀ y, y < 110 → fr' y = 0) (hr : rt' = sr (ef_vpl sn sv)) (hs : sr' (ef_vpl sn' sv') = rt') :
    ef_TM rt' kc ks vs bl fr' sr' sn' sv' ms ms := by
  obtain ⟨L, LS, hT, h1, h2⟩ := hT
  obtain ⟨R, r, P, PS, er, hR, hS, hl, hI⟩ := hT
  obtain ⟨⟨a, b, c, d⟩, e, f, g1, g2, g3, g4, g5⟩ := hI
  rcases g5 with ⟨_, rfl, _⟩ | ⟨x, RS, ex, hRS⟩
  · exact absurd (h2 0).symm h0
  · refine ⟨LS, LS, ⟨RS, x, PS, PS, hr.trans ex, hRS, g2, g1, ⟨⟨fun y hy => Or.inl (hf y hy), fun y hy => Or.inr hy, fun y hy => hf y (g4 y hy), fun y h3 h4 => ?_⟩, g3, g4, g1, g2, g3, g4, Or.inr ⟨x, RS, by rw [hs, hr]; exact ex, hRS⟩⟩⟩, h2, h2⟩
    rw [hf y h3] at h4
    exact absurd h4 (by decide)
/-- the first item -/
theorem ef_put_0 {post : SX → Prop} (hs : sr (ef_vpl sn sv) = -1) (hf : ∀ y, y < 110 → fr y = 0)
    (G : ∀ r we wt kc ks vs bl fr nd wp wi wq, ef_Rn (kc, ks, vs, bl) 0 (r, [(0, 1)], [r]) → r < 110 → post (nI r, we, wt, kc, ks, vs, bl, fr, nd, sr, sn, sv, dk, hd, wp, wi, wq)) : wpX_put post (-1, we, wt, kc, ks, vs, bl, fr, nd, sr, sn, sv, dk, hd, wp, wi, wq) 0 1 := by
  unfold wpX_put wpX_find
  refine ⟨1, ?_⟩
  rw [wX_find_10]
  refine br_t ef_neg' ?_
  dsimp only
  unfold wpX_copyWay
  refine ⟨1, ?_⟩
  rw [wX_copyWay_2]
  refine br_t (by decide) ?_
  dsimp only
  refine br_t rfl (br_t rfl ?_)
  refine ef_newPage (P := []) (PS := []) (N := []) (Or.inl ⟨rfl, rfl⟩) (Or.inl ⟨hs, rfl⟩) (fun y hy => Or.inl (hf y hy)) (by decide) (fun y hy h => ?_) (fun r nd' wt' wq' hr h0 h1 h2 => ?_)
  · rcases h with h | h | h
    · exact absurd (hf y hy) h
    · simp at h
    · simp at h
  dsimp only
  refine ef_pushWay (i := 0) (l := 0) (by omega) (by omega) (by omega) ?_
  dsimp only
  unfold wX_put_71
  have w1 : upd wp 0 (nI r) 0 = nI r := pk_us
  have w2 : upd wi 0 (nI 0) 0 = nI 0 := pk_us
  have kk : upd kc r 0 r = nI 0 := pk_us
  simp (disch := omega) only [nI_pred]
  refine nm_e ?_
  simp (disch := omega) only [nI_clamp, w1, w2]
  refine ⟨vp_in_nI (by omega) (by decide), vp_in_nI (by omega) (by decide), ef_openPlace hr (by omega) (by omega) kk ?_⟩
  dsimp only
  rw [w1, w2]
  refine ⟨vp_in_nI (by omega) (by decide), vp_in_nI (by omega) (by decide), ef_putAt (k := 0) (v := 1) hr (by omega) (by omega) (by omega) ⟨1, ?_⟩⟩
  have p0 : ef_Pg (upd kc r 0, ks, vs, upd bl (6 * r) (-1)) r ([] ++ []) [] := ⟨hr, by simp, by simp, fun e he => by simp at he, fun e he => by simp at he, pk_us, trivial, trivial, fun _ => pk_us, trivial⟩
  have p1 := ef_Pg_ins (k := 0) (v := 1) p0 (by simp) (by omega) (by omega)
  have kk2 : upd (upd kc r 0) r (nI (0 + 1)) r = nI 1 := pk_us
  rw [wX_put_117]
  refine br_f (by decide) ?_
  simp (disch := omega) only [nI_clamp, w1, kk2]
  refine ⟨vp_in_nI (by omega) (by decide), vp_in_nI hr (by decide), br_f (by decide) ?_⟩
  exact G r _ _ _ _ _ _ _ _ _ _ _ ⟨[(0, 1)], [], by simp, by simp, ⟨p1, rfl, rfl⟩, rfl⟩ hr
end
end
section
/-! stretches, and the map against the plain numbers -/
/-- s b: the stretch that begins at block b; pl b: where block b lies -/
def ef_Sw (s pl : Nat → Option Nat) : Prop :=
  (∀ b v, b < 8 → s b = some v → 1 ≤ v % 16 ∧ b + v % 16 ≤ 8 ∧ v / 16 + v % 16 ≤ 48 ∧ (∀ i, i < v % 16 → pl (b + i) = some (v / 16 + i)) ∧ (∀ i, 1 ≤ i → i < v % 16 → s (b + i) = none)) ∧
  (∀ b p, b < 8 → pl b = some p → ∃ b' v, b' ≤ b ∧ s b' = some v ∧ b < b' + v % 16)
theorem ef_sw1 {s pl : Nat → Option Nat} {b v o : Nat} (h : ef_Sw s pl) (hb : b < 8) (hs : s b = some v) (ho : o < v % 16) :
    ef_Sw (fun c => if c = b then (if o = 0 then none else some (16 * (v / 16) + o)) else s c) (fun c => if b + o ≤ c ∧ c < b + v % 16 then none else pl c) := by
  obtain ⟨h1, h2⟩ := h
  obtain ⟨a1, a2, a3, a4, a5⟩ := h1 b v hb hs
  refine ⟨fun c w hc hw => ?_, fun c p hc hp => ?_⟩
  · dsimp only at hw
    by_cases e : c = b
    · subst e
      rw [if_pos rfl] at hw
      by_cases e0 : o = 0
      · rw [if_pos e0] at hw; cases hw
      · rw [if_neg e0] at hw
        have ew : w = 16 * (v / 16) + o := (Option.some.inj hw).symm
        have m1 : w % 16 = o := by omega
        have m2 : w / 16 = v / 16 := by omega
        rw [m1, m2]
        refine ⟨by omega, by omega, by omega, fun i hi => ?_, fun i i1 i2 => ?_⟩
        · dsimp only
          rw [if_neg (by omega)]
          exact a4 i (by omega)
        · dsimp only
          rw [if_neg (by omega)]
          exact a5 i i1 (by omega)
    · rw [if_neg e] at hw
      obtain ⟨d1, d2, d3, d4, d5⟩ := h1 c w hc hw
      have dis : ∀ i, i < w % 16 → ¬ (b ≤ c + i ∧ c + i < b + v % 16) := fun i hi hh => by
        by_cases hcb : c < b
        · have := d5 (b - c) (by omega) (by omega)
          rw [show c + (b - c) = b from by omega, hs] at this
          cases this
        · have := a5 (c - b) (by omega) (by omega)
          rw [show b + (c - b) = c from by omega, hw] at this
          cases this
      refine ⟨d1, d2, d3, fun i hi => ?_, fun i i1 i2 => ?_⟩
      · dsimp only
        rw [if_neg (fun hh => dis i hi ⟨by omega, hh.2⟩)]
        exact d4 i hi
      · dsimp only
        rw [if_neg (fun hh => dis i i2 ⟨by omega, by omega⟩)]
        exact d5 i i1 i2
  · dsimp only at hp
    by_cases hin : b + o ≤ c ∧ c < b + v % 16
    · rw [if_pos hin] at hp; cases hp
    · rw [if_neg hin] at hp
      obtain ⟨b', v', q1, q2, q3⟩ := h2 c p hc hp
      by_cases e : b' = b
      · subst e
        rw [hs] at q2
        cases q2
        refine ⟨b', 16 * (v / 16) + o, q1, ?_, by omega⟩
        dsimp only
        rw [if_pos rfl, if_neg (by omega)]
      · refine ⟨b', v', q1, ?_, q3⟩
        dsimp only
        rw [if_neg e]
        exact q2
theorem ef_sw2 {s pl : Nat → Option Nat} {c0 k p : Nat} (h : ef_Sw s pl) (hk : 1 ≤ k) (hc : c0 + k ≤ 8) (hp : p + k ≤ 48) (hn : ∀ c, c0 ≤ c → c < c0 + k → pl c = none) :
    ef_Sw (fun c => if c = c0 then some (16 * p + k) else s c) (fun c => if c0 ≤ c ∧ c < c0 + k then some (p + (c - c0)) else pl c) := by
  obtain ⟨h1, h2⟩ := h
  have m1 : (16 * p + k) % 16 = k := by omega
  have m2 : (16 * p + k) / 16 = p := by omega
  have hsn : ∀ c, c0 ≤ c → c < c0 + k → s c = none := fun c a b => by
    cases e : s c with
    | none => rfl
    | some w =>
      obtain ⟨d1, d2, d3, d4, d5⟩ := h1 c w (by omega) e
      have := d4 0 (by omega)
      rw [Nat.add_zero, hn c a b] at this
      cases this
  refine ⟨fun c w hc' hw => ?_, fun c q hc' hq => ?_⟩
  · dsimp only at hw
    by_cases e : c = c0
    · subst e
      rw [if_pos rfl] at hw
      have ew : w = 16 * p + k := (Option.some.inj hw).symm
      rw [ew, m1, m2]
      refine ⟨hk, hc, hp, fun i hi => ?_, fun i i1 i2 => ?_⟩
      · dsimp only
        rw [if_pos (by omega), Nat.add_sub_cancel_left]
      · dsimp only
        rw [if_neg (by omega)]
        exact hsn (c + i) (by omega) (by omega)
    · rw [if_neg e] at hw
      obtain ⟨d1, d2, d3, d4, d5⟩ := h1 c w hc' hw
      have dis : ∀ i, i < w % 16 → ¬ (c0 ≤ c + i ∧ c + i < c0 + k) := fun i hi hh => by
        have := d4 i hi
        rw [hn (c + i) hh.1 hh.2] at this
        cases this
      refine ⟨d1, d2, d3, fun i hi => ?_, fun i i1 i2 => ?_⟩
      · dsimp only
        rw [if_neg (dis i hi)]
        exact d4 i hi
      · dsimp only
        rw [if_neg (fun e => dis i i2 ⟨by omega, by omega⟩)]
        exact d5 i i1 i2
  · dsimp only at hq
    by_cases hin : c0 ≤ c ∧ c < c0 + k
    · refine ⟨c0, 16 * p + k, hin.1, ?_, by rw [m1]; exact hin.2⟩
      dsimp only
      rw [if_pos rfl]
    · rw [if_neg hin] at hq
      obtain ⟨b', v', q1, q2, q3⟩ := h2 c q hc' hq
      refine ⟨b', v', q1, ?_, q3⟩
      dsimp only
      by_cases e : b' = c0
      · subst e
        rw [hsn b' (by omega) (by omega)] at q2
        cases q2
      · rw [if_neg e]
        exact q2
/-- the map holds the nodes K I N and the places pl -/
def ef_Mp (m : Nat → Option Nat) (K I N : Nat → Nat) (pl : Nat → Nat → Option Nat) : Prop :=
  (∀ n, n < 16 → m (256 * n) = if K n = 0 then none else some (4 * I n + K n)) ∧
  (∀ n x j, n < 16 → x < 100 → (m (256 * n + 1 + x) = some j ↔ 1 ≤ j ∧ j < 16 ∧ 0 < K j ∧ I j = n ∧ N j = x)) ∧
  (∀ n, n < 16 → ef_Sw (fun b => m (256 * n + 128 + b)) (pl n)) ∧
  (∀ q, m q ≠ none → q < 4096 ∧ (q % 256 ≤ 100 ∨ (128 ≤ q % 256 ∧ q % 256 < 136)))
theorem ef_Sw_ext {s s' pl pl' : Nat → Option Nat} (h : ef_Sw s pl) (h1 : ∀ b, b < 8 → s' b = s b) (h2 : ∀ b, b < 8 → pl' b = pl b) : ef_Sw s' pl' := by
  refine ⟨fun b v hb hs => ?_, fun b p hb hp => ?_⟩
  · rw [h1 b hb] at hs
    obtain ⟨a1, a2, a3, a4, a5⟩ := h.1 b v hb hs
    exact ⟨a1, a2, a3, fun i hi => by rw [h2 _ (by omega)]; exact a4 i hi, fun i i1 i2 => by rw [h1 _ (by omega)]; exact a5 i i1 i2⟩
  · rw [h2 b hb] at hp
    obtain ⟨b', v, q1, q2, q3⟩ := h.2 b p hb hp
    exact ⟨b', v, q1, by rw [h1 b' (by omega)]; exact q2, q3⟩
/-- a change of one stretch item -/
theorem ef_Mp_st {m m' : Nat → Option Nat} {K I N : Nat → Nat} {pl pl' : Nat → Nat → Option Nat} {n b : Nat} (h : ef_Mp m K I N pl) (hn : n < 16) (hb : b < 8) (hm : ∀ q, q ≠ 256 * n + 128 + b → m' q = m q)
    (hp : ∀ n', n' ≠ n → pl' n' = pl n') (hs : ef_Sw (fun c => m' (256 * n + 128 + c)) (pl' n)) : ef_Mp m' K I N pl' := by
  obtain ⟨h1, h2, h3, h4⟩ := h
  refine ⟨fun n' hn' => by rw [hm _ (by omega)]; exact h1 n' hn', fun n' x j hn' hx => by rw [hm _ (by omega)]; exact h2 n' x j hn' hx, fun n' hn' => ?_, fun q hq => ?_⟩
  · by_cases e : n' = n
    · rw [e]; exact hs
    · refine ef_Sw_ext (h3 n' hn') (fun c hc => hm _ (by omega)) (fun c _ => by rw [hp n' e])
  · by_cases e : q = 256 * n + 128 + b
    · omega
    · rw [hm q e] at hq
      exact h4 q hq
theorem ef_op1 {m : Nat → Option Nat} {K I N : Nat → Nat} {pl : Nat → Nat → Option Nat} {n b v o : Nat} (h : ef_Mp m K I N pl) (hn : n < 16) (hb : b < 8) (hs : m (256 * n + 128 + b) = some v) (ho : o < v % 16) :
    ef_Mp (fun q => if q = 256 * n + 128 + b then (if o = 0 then none else some (16 * (v / 16) + o)) else m q) K I N (fun n' c => if n' = n ∧ b + o ≤ c ∧ c < b + v % 16 then none else pl n' c) := by
  refine ef_Mp_st h hn hb (fun q hq => if_neg hq) (fun n' e => ?_) ?_
  · funext c
    exact if_neg (fun hh => e hh.1)
  · refine ef_Sw_ext (ef_sw1 (h.2.2.1 n hn) hb hs ho) (fun c hc => ?_) (fun c hc => ?_)
    · by_cases e : c = b
      · rw [if_pos (by omega), if_pos e]
      · rw [if_neg (by omega), if_neg e]
    · by_cases e : b + o ≤ c ∧ c < b + v % 16
      · rw [if_pos ⟨rfl, e⟩, if_pos e]
      · rw [if_neg (fun hh => e hh.2), if_neg e]
theorem ef_op2 {m : Nat → Option Nat} {K I N : Nat → Nat} {pl : Nat → Nat → Option Nat} {n c0 k p : Nat} (h : ef_Mp m K I N pl) (hn : n < 16) (hk : 1 ≤ k) (hc : c0 + k ≤ 8) (hp : p + k ≤ 48) (hne : ∀ c, c0 ≤ c → c < c0 + k → pl n c = none) :
    ef_Mp (ef_ins m (256 * n + 128 + c0) (16 * p + k)) K I N (fun n' c => if n' = n ∧ c0 ≤ c ∧ c < c0 + k then some (p + (c - c0)) else pl n' c) := by
  refine ef_Mp_st h hn (by omega) (fun q hq => if_neg hq) (fun n' e => ?_) ?_
  · funext c
    exact if_neg (fun hh => e hh.1)
  · refine ef_Sw_ext (ef_sw2 (h.2.2.1 n hn) hk hc hp hne) (fun c hc' => ?_) (fun c hc' => ?_)
    · unfold ef_ins
      by_cases e : c = c0
      · rw [if_pos (by omega), if_pos e]
      · rw [if_neg (by omega), if_neg e]
    · by_cases e : c0 ≤ c ∧ c < c0 + k
      · rw [if_pos ⟨rfl, e⟩, if_pos e]
      · rw [if_neg (fun hh => e hh.2), if_neg e]
def ef_Ij (pl : Nat → Nat → Option Nat) : Prop := ∀ n b n' b' p, n < 16 → b < 8 → n' < 16 → b' < 8 → pl n b = some p → pl n' b' = some p → n = n' ∧ b = b'
theorem ef_Mp_cap {m : Nat → Option Nat} {K I N : Nat → Nat} {pl : Nat → Nat → Option Nat} (h : ef_Mp m K I N pl) (hj : ef_Ij pl) : ef_Cap m := by
  obtain ⟨h1, h2, h3, h4⟩ := h
  -- what an entry and a stretch are
  have en : ∀ q v, m q = some v → 1 ≤ q % 256 → q % 256 ≤ 100 → 1 ≤ v ∧ v < 16 ∧ I v = q / 256 ∧ N v = q % 256 - 1 := fun q v e a b => by
    have hq := (h4 q (by rw [e]; simp)).1
    have e' : q = 256 * (q / 256) + 1 + (q % 256 - 1) := by omega
    rw [e'] at e
    obtain ⟨r1, r2, r3, r4, r5⟩ := (h2 (q / 256) (q % 256 - 1) v (by omega) (by omega)).mp e
    exact ⟨r1, r2, r4, r5⟩
  have st : ∀ q v, m q = some v → 128 ≤ q % 256 → q % 256 < 136 ∧ v / 16 < 48 ∧ pl (q / 256) (q % 256 - 128) = some (v / 16) := fun q v e a => by
    obtain ⟨hq, hq2⟩ := h4 q (by rw [e]; simp)
    have hq3 : q % 256 < 136 := by omega
    have e' : q = 256 * (q / 256) + 128 + (q % 256 - 128) := by omega
    have es : (fun b => m (256 * (q / 256) + 128 + b)) (q % 256 - 128) = some v := by dsimp only; rw [← e']; exact e
    obtain ⟨r1, r2, r3, r4, r5⟩ := (h3 (q / 256) (by omega)).1 (q % 256 - 128) v (by omega) es
    have := r4 0 (by omega)
    rw [Nat.add_zero, Nat.add_zero] at this
    exact ⟨hq3, by omega, this⟩
  refine ⟨fun q => if q % 256 = 0 then q / 256 else if q % 256 ≤ 100 then 16 + (m q).getD 0 else 32 + (m q).getD 0 / 16, fun q hq => ?_, fun q q' hq hq' e => ?_⟩
  · obtain ⟨v, hv⟩ := Option.ne_none_iff_exists'.mp hq
    obtain ⟨a, b⟩ := h4 q hq
    dsimp only
    rw [hv, Option.getD_some]
    split
    · omega
    · split
      · have := en q v hv (by omega) (by omega)
        omega
      · have := st q v hv (by omega)
        omega
  · obtain ⟨v, hv⟩ := Option.ne_none_iff_exists'.mp hq
    obtain ⟨v', hv'⟩ := Option.ne_none_iff_exists'.mp hq'
    obtain ⟨a, b⟩ := h4 q hq
    obtain ⟨a', b'⟩ := h4 q' hq'
    dsimp only at e
    rw [hv, hv', Option.getD_some, Option.getD_some] at e
    by_cases c1 : q % 256 = 0
    · rw [if_pos c1] at e
      by_cases c2 : q' % 256 = 0
      · rw [if_pos c2] at e; omega
      · rw [if_neg c2] at e
        by_cases c3 : q' % 256 ≤ 100
        · rw [if_pos c3] at e; omega
        · rw [if_neg c3] at e; omega
    · rw [if_neg c1] at e
      by_cases d1 : q % 256 ≤ 100
      · rw [if_pos d1] at e
        have ev := en q v hv (by omega) d1
        by_cases c2 : q' % 256 = 0
        · rw [if_pos c2] at e; omega
        · rw [if_neg c2] at e
          by_cases c3 : q' % 256 ≤ 100
          · rw [if_pos c3] at e
            have ev' := en q' v' hv' (by omega) c3
            have : v = v' := by omega
            subst this
            omega
          · rw [if_neg c3] at e; omega
      · rw [if_neg d1] at e
        have sv := st q v hv (by omega)
        by_cases c2 : q' % 256 = 0
        · rw [if_pos c2] at e; omega
        · rw [if_neg c2] at e
          by_cases c3 : q' % 256 ≤ 100
          · rw [if_pos c3] at e
            have ev' := en q' v' hv' (by omega) c3
            omega
          · rw [if_neg c3] at e
            have sv' := st q' v' hv' (by omega)
            have hvv : v / 16 = v' / 16 := by omega
            have s1 := sv.2.2
            have s2 := sv'.2.2
            rw [← hvv] at s2
            have := hj _ _ _ _ _ (by omega) (by omega) (by omega) (by omega) s1 s2
            omega
theorem ef_Cap_mono {m m' : Nat → Option Nat} (h : ∀ q, m q ≠ none → m' q ≠ none) (hc : ef_Cap m') : ef_Cap m := by
  obtain ⟨f, f1, f2⟩ := hc
  exact ⟨f, fun k hk => f1 k (h k hk), fun k k' hk hk' e => f2 k k' (h k hk) (h k' hk') e⟩
/-- the items' values keep within the disk -/
theorem ef_Mp_bd {m : Nat → Option Nat} {K I N : Nat → Nat} {pl : Nat → Nat → Option Nat} (h : ef_Mp m K I N pl) : ∀ k v, m k = some v → 128 ≤ k % 256 → v / 16 + v % 16 ≤ 48 := fun q v e a => by
  obtain ⟨h1, h2, h3, h4⟩ := h
  obtain ⟨hq, hq2⟩ := h4 q (by rw [e]; simp)
  have e' : q = 256 * (q / 256) + 128 + (q % 256 - 128) := by omega
  have es : (fun b => m (256 * (q / 256) + 128 + b)) (q % 256 - 128) = some v := by dsimp only; rw [← e']; exact e
  obtain ⟨r1, r2, r3, r4, r5⟩ := (h3 (q / 256) (by omega)).1 (q % 256 - 128) v (by omega) es
  exact r3
/-- a place on the disk is covered if and only if a block lies there -/
theorem ef_Mp_cov {m : Nat → Option Nat} {K I N : Nat → Nat} {pl : Nat → Nat → Option Nat} (h : ef_Mp m K I N pl) (p : Nat) : (∃ k v, m k = some v ∧ ef_cov (k, v) p) ↔ ∃ n b, n < 16 ∧ b < 8 ∧ pl n b = some p := by
  obtain ⟨h1, h2, h3, h4⟩ := h
  constructor
  · rintro ⟨q, v, e, a, c1, c2⟩
    dsimp only at a c1 c2
    obtain ⟨hq, hq2⟩ := h4 q (by rw [e]; simp)
    have e' : q = 256 * (q / 256) + 128 + (q % 256 - 128) := by omega
    have es : (fun b => m (256 * (q / 256) + 128 + b)) (q % 256 - 128) = some v := by dsimp only; rw [← e']; exact e
    obtain ⟨r1, r2, r3, r4, r5⟩ := (h3 (q / 256) (by omega)).1 (q % 256 - 128) v (by omega) es
    have := r4 (p - v / 16) (by omega)
    rw [show v / 16 + (p - v / 16) = p from by omega] at this
    exact ⟨q / 256, q % 256 - 128 + (p - v / 16), by omega, by omega, this⟩
  · rintro ⟨n, b, hn, hb, e⟩
    obtain ⟨b', v, q1, q2, q3⟩ := (h3 n hn).2 b p hb e
    obtain ⟨r1, r2, r3, r4, r5⟩ := (h3 n hn).1 b' v (by omega) q2
    have := r4 (b - b') (by omega)
    rw [show b' + (b - b') = b from by omega, e] at this
    have hp : p = v / 16 + (b - b') := Option.some.inj this
    refine ⟨256 * n + 128 + b', v, q2, ?_, ?_, ?_⟩
    · dsimp only; omega
    · dsimp only; omega
    · dsimp only; omega
end
section
/-! where blocks lie; a block is left out -/
theorem ef_a128 (n : Nat) : nI n + 128 = nI (n + 128) := nI_add n 128
theorem ef_oI_neg : ef_oI none = -1 := rfl
theorem ef_del_eq {m : Nat → Option Nat} {k w o : Nat} (ho : o = 0) : (fun q => if q = k then (if o = 0 then none else some w) else m q) = ef_del m k := by
  funext q
  unfold ef_del
  rw [if_pos ho]
theorem ef_ins_eq {m : Nat → Option Nat} {k w o : Nat} (ho : ¬ o = 0) : (fun q => if q = k then (if o = 0 then none else some w) else m q) = ef_ins m k w := by
  funext q
  unfold ef_ins
  rw [if_neg ho]
theorem ef_Ij_sub {pl pl' : Nat → Nat → Option Nat} (h : ef_Ij pl) (hs : ∀ n b p, pl' n b = some p → pl n b = some p) : ef_Ij pl' := fun n b n' b' p a1 a2 a3 a4 e1 e2 => h n b n' b' p a1 a2 a3 a4 (hs _ _ _ e1) (hs _ _ _ e2)
/-- the answer of stretchAt -/
def ef_SA (m : Nat → Option Nat) (n b : Nat) (r : Int32) : Prop :=
  (r = -1 ∧ ∀ c, c ≤ b → m (256 * n + 128 + c) = none) ∨ ∃ b', b' ≤ b ∧ r = nI (256 * n + 128 + b') ∧ m (256 * n + 128 + b') ≠ none ∧ ∀ c, b' < c → c ≤ b → m (256 * n + 128 + c) = none
section
variable {rt we wt : Int32} {kc ks vs bl fr nd sr sn sv dk hd wp wi wq : Nat → Int32} {m ms : Nat → Option Nat} {K I N : Nat → Nat} {pl : Nat → Nat → Option Nat}
theorem ef_stretch {post : Int32 → Prop} {n b : Nat} (hT : ef_TM rt kc ks vs bl fr sr sn sv m ms) (hn : n < 16) (hb : b < 8) (G : ∀ r, ef_SA m n b r → post r) : wpX_stretchAt post (rt, we, wt, kc, ks, vs, bl, fr, nd, sr, sn, sv, dk, hd, wp, wi, wq) (nI n) (nI b) := by
  unfold wpX_stretchAt
  simp only [ef_m256, ef_a128, nI_add]
  refine ef_mlast hT (by omega) (fun r hr => ?_)
  rcases hr with ⟨rfl, h⟩ | ⟨q, rfl, h1, h2, h3⟩
  · exact br_t (by
      rw [Int32.lt_iff_toInt_lt, nI_toInt (by omega)]
      have : (-1 : Int32).toInt = -1 := by decide
      omega) (G _ (Or.inl ⟨rfl, fun c hc => h _ (by omega)⟩))
  · by_cases hq : q < 256 * n + 128
    · exact br_t (nI_lt hq (by omega)) (G _ (Or.inl ⟨rfl, fun c hc => h3 _ (by omega) (by omega)⟩))
    · refine br_f (nI_nlt (by omega) (by omega)) (G _ (Or.inr ⟨q - (256 * n + 128), by omega, ?_, ?_, fun c c1 c2 => h3 _ (by omega) (by omega)⟩))
      · rw [show 256 * n + 128 + (q - (256 * n + 128)) = q from by omega]
      · rw [show 256 * n + 128 + (q - (256 * n + 128)) = q from by omega]
        exact h2
/-- what stretchAt finds for a block that is there -/
theorem ef_SA_some {n b p : Nat} {r : Int32} (hM : ef_Mp m K I N pl) (hn : n < 16) (hb : b < 8) (hp : pl n b = some p) (h : ef_SA m n b r) : ∃ b' v, b' ≤ b ∧ r = nI (256 * n + 128 + b') ∧ m (256 * n + 128 + b') = some v ∧ b < b' + v % 16 ∧ p = v / 16 + (b - b') ∧
    1 ≤ v % 16 ∧ b' + v % 16 ≤ 8 ∧ v / 16 + v % 16 ≤ 48 ∧ (∀ i, i < v % 16 → pl n (b' + i) = some (v / 16 + i)) := by
  obtain ⟨c1, v1, q1, q2, q3⟩ := (hM.2.2.1 n hn).2 b p hb hp
  obtain ⟨r1, r2, r3, r4, r5⟩ := (hM.2.2.1 n hn).1 c1 v1 (by omega) q2
  dsimp only at q2 r5
  rcases h with ⟨_, h⟩ | ⟨b', h1, rfl, h2, h3⟩
  · rw [h c1 q1] at q2; cases q2
  · have e : b' = c1 := by
      by_cases e1 : b' < c1
      · rw [h3 c1 e1 q1] at q2; cases q2
      · by_cases e2 : c1 < b'
        · have := r5 (b' - c1) (by omega) (by omega)
          rw [show c1 + (b' - c1) = b' from by omega] at this
          exact absurd this h2
        · omega
    subst e
    have := r4 (b - b') (by omega)
    rw [show b' + (b - b') = b from by omega, hp] at this
    exact ⟨b', v1, h1, rfl, q2, q3, Option.some.inj this, r1, r2, r3, r4⟩
theorem ef_placeOf {post : Int32 → SX → Prop} {n b : Nat} (hT : ef_TM rt kc ks vs bl fr sr sn sv m ms) (hM : ef_Mp m K I N pl) (hn : n < 16) (hb : b < 8)
    (G : ∀ we' wp' wi', post (ef_oI (pl n b)) (rt, we', wt, kc, ks, vs, bl, fr, nd, sr, sn, sv, dk, hd, wp', wi', wq)) : wpX_placeOf post (rt, we, wt, kc, ks, vs, bl, fr, nd, sr, sn, sv, dk, hd, wp, wi, wq) (nI n) (nI b) := by
  unfold wpX_placeOf
  refine ef_stretch hT hn hb (fun r hr => ?_)
  cases hp : pl n b with
  | some p =>
    rw [hp] at G
    obtain ⟨b', v, h1, rfl, h2, h3, h4, h5, h6, h7, h8⟩ := ef_SA_some hM hn hb hp hr
    refine br_t (nI_pos' (by omega)) (ef_mget hT (by omega) (fun we' wp' wi' => ?_))
    rw [h2]
    have t1 : 256 * n + 128 + b - (256 * n + 128 + b') = b - b' := by omega
    simp (disch := omega) only [ef_m256, ef_a128, nI_add, pk_sub, t1, ef_oI, ef_and15, ef_shr4]
    refine nm_e (br_f (nI_ge (by omega) (by omega)) ?_)
    rw [nI_add, ← h4]
    exact G we' wp' wi'
  | none =>
    rw [hp] at G
    rcases hr with ⟨rfl, h⟩ | ⟨b', h1, rfl, h2, h3⟩
    · exact br_f ef_neg (G _ _ _)
    · refine br_t (nI_pos' (by omega)) (ef_mget hT (by omega) (fun we' wp' wi' => ?_))
      obtain ⟨v, hv⟩ := Option.ne_none_iff_exists'.mp h2
      obtain ⟨r1, r2, r3, r4, r5⟩ := (hM.2.2.1 n hn).1 b' v (by omega) hv
      rw [hv]
      have t1 : 256 * n + 128 + b - (256 * n + 128 + b') = b - b' := by omega
      simp (disch := omega) only [ef_m256, ef_a128, nI_add, pk_sub, t1, ef_oI, ef_and15, ef_shr4]
      have hlt : v % 16 ≤ b - b' := by
        by_cases hh : v % 16 ≤ b - b'
        · exact hh
        · have := r4 (b - b') (by omega)
          rw [show b' + (b - b') = b from by omega, hp] at this
          cases this
      exact nm_e (br_t (nI_le hlt (by omega)) (G we' wp' wi'))
theorem ef_leaveOut {post : SX → Prop} {n b p : Nat} (hT : ef_TM rt kc ks vs bl fr sr sn sv m ms) (hM : ef_Mp m K I N pl) (hj : ef_Ij pl) (h0 : m 0 ≠ none) (hn : n < 16) (hb : b < 8) (hp : pl n b = some p)
    (G : ∀ m' rt we wt kc ks vs bl fr nd wp wi wq, ef_TM rt kc ks vs bl fr sr sn sv m' ms → ef_Mp m' K I N (fun n' c => if n' = n ∧ c = b then none else pl n' c) → m' 0 = m 0 → post (rt, we, wt, kc, ks, vs, bl, fr, nd, sr, sn, sv, dk, hd, wp, wi, wq)) : wpX_leaveOut post (rt, we, wt, kc, ks, vs, bl, fr, nd, sr, sn, sv, dk, hd, wp, wi, wq) (nI n) (nI b) := by
  unfold wpX_leaveOut
  refine ef_stretch hT hn hb (fun r hr => ?_)
  obtain ⟨b', v, h1, rfl, h2, h3, h4, h5, h6, h7, h8⟩ := ef_SA_some hM hn hb hp hr
  refine ef_mget hT (by omega) (fun we' wp' wi' => ?_)
  rw [h2]
  have t1 : 256 * n + 128 + b - (256 * n + 128 + b') = b - b' := by omega
  simp (disch := omega) only [ef_m256, ef_a128, nI_add, pk_sub, t1, ef_oI, ef_and15, ef_shr4]
  refine nm_e (nm_e ?_)
  rw [pk_sub (a := v % 16) (b := b - b') (by omega), ef_s1 (by omega)]
  refine nm_e ?_
  have bo : b' + (b - b') = b := by omega
  have M1 := ef_op1 (o := b - b') hM hn (by omega) h2 (by omega)
  -- the rest, from the shortened stretch on
  have rest : ∀ m1 rt we wt kc ks vs bl fr nd wp wi wq, ef_TM rt kc ks vs bl fr sr sn sv m1 ms → ef_Mp m1 K I N (fun n' c => if n' = n ∧ b' + (b - b') ≤ c ∧ c < b' + v % 16 then none else pl n' c) → m1 0 = m 0 →
      wX_leaveOut_73 post (nI (256 * n + 128 + b')) (nI (b - b')) (nI (v / 16)) (nI (v % 16 - (b - b') - 1)) rt we wt kc ks vs bl fr nd sr sn sv dk hd wp wi wq := fun m1 rt we wt kc ks vs bl fr nd wp wi wq T1 M1 z1 => by
    unfold wX_leaveOut_73
    by_cases hbh : v % 16 - (b - b') - 1 = 0
    · rw [hbh]
      refine br_t (by decide) (G m1 _ _ _ _ _ _ _ _ _ _ _ _ T1 ?_ z1)
      have e : (fun n' c => if n' = n ∧ b' + (b - b') ≤ c ∧ c < b' + v % 16 then none else pl n' c) = (fun n' c => if n' = n ∧ c = b then none else pl n' c) := by
        funext n' c
        by_cases hc : n' = n ∧ c = b
        · rw [if_pos hc, if_pos (by omega)]
        · rw [if_neg hc, if_neg (by omega)]
      rw [← e]
      exact M1
    · refine br_f (nI_nle (by omega) (by omega)) ?_
      have k1 : 256 * n + 128 + b' + (b - b') + 1 = 256 * n + 128 + (b + 1) := by omega
      simp only [nI_add, nI_1, ef_m16, k1]
      have M2 := ef_op2 (n := n) (c0 := b + 1) (k := v % 16 - (b - b') - 1) (p := v / 16 + (b - b') + 1) M1 hn (by omega) (by omega) (by omega) (fun c c1 c2 => if_pos (by omega))
      have e : (fun n' c => if n' = n ∧ b + 1 ≤ c ∧ c < b + 1 + (v % 16 - (b - b') - 1) then some (v / 16 + (b - b') + 1 + (c - (b + 1))) else (fun n' c => if n' = n ∧ b' + (b - b') ≤ c ∧ c < b' + v % 16 then none else pl n' c) n' c) = (fun n' c => if n' = n ∧ c = b then none else pl n' c) := by
        funext n' c
        dsimp only
        by_cases hc : n' = n ∧ b + 1 ≤ c ∧ c < b + 1 + (v % 16 - (b - b') - 1)
        · obtain ⟨rfl, hc2, hc3⟩ := hc
          rw [if_pos ⟨rfl, hc2, hc3⟩, if_neg (by omega)]
          have := h8 (c - b') (by omega)
          rw [show b' + (c - b') = c from by omega] at this
          rw [this]
          exact congrArg some (by omega)
        · rw [if_neg hc]
          by_cases hd : n' = n ∧ c = b
          · rw [if_pos hd, if_pos (by omega)]
          · rw [if_neg hd, if_neg (by omega)]
      rw [e] at M2
      refine ef_mput T1 (by omega) (by omega) (ef_Mp_cap M2 (ef_Ij_sub hj (fun n' c q hq => ?_))) (fun rt we wt kc ks vs bl fr nd wp wi wq T2 => G _ _ _ _ _ _ _ _ _ _ _ _ _ T2 M2 ?_)
      · by_cases hd : n' = n ∧ c = b
        · rw [if_pos hd] at hq; cases hq
        · rw [if_neg hd] at hq; exact hq
      · unfold ef_ins
        rw [if_neg (by omega)]
        exact z1
  by_cases hz : b - b' = 0
  · rw [ef_del_eq hz] at M1
    refine br_t (by rw [hz]; decide) (ef_mrem hT (by omega) (by rw [h2]; simp) h0 (by omega) (fun rt we wt kc ks vs bl fr nd wp wi wq T1 => ?_))
    exact rest _ _ _ _ _ _ _ _ _ _ _ _ _ T1 M1 (by unfold ef_del; rw [if_neg (by omega)])
  · rw [ef_ins_eq hz] at M1
    refine br_f (nI_nle (by omega) (by omega)) ?_
    rw [ef_m16, nI_add]
    refine ef_mput hT (by omega) (by omega) (ef_Cap_mono (m' := m) (fun q hq => ?_) (ef_Mp_cap hM hj)) (fun rt we wt kc ks vs bl fr nd wp wi wq T1 => ?_)
    · unfold ef_ins at hq
      by_cases e : q = 256 * n + 128 + b'
      · rw [e, h2]; simp
      · rw [if_neg e] at hq; exact hq
    · exact rest _ _ _ _ _ _ _ _ _ _ _ _ _ T1 M1 (by unfold ef_ins; rw [if_neg (by omega)])
end
/-- how many of the k numbers from a on have the property -/
def ef_cnt (p : Nat → Bool) (a : Nat) : Nat → Nat
  | 0 => 0
  | k + 1 => ef_cnt p a k + (if p (a + k) = true then 1 else 0)
theorem ef_cnt_le (p : Nat → Bool) (a : Nat) : ∀ k, ef_cnt p a k ≤ k
  | 0 => Nat.le_refl _
  | k + 1 => by
    have := ef_cnt_le p a k
    unfold ef_cnt
    split <;> omega
theorem ef_cnt_ext {p q : Nat → Bool} {a : Nat} : ∀ {k : Nat}, (∀ i, i < k → p (a + i) = q (a + i)) → ef_cnt p a k = ef_cnt q a k
  | 0, _ => rfl
  | k + 1, h => by
    unfold ef_cnt
    rw [ef_cnt_ext (fun i hi => h i (by omega)), h k (by omega)]
section
variable {rt we wt : Int32} {kc ks vs bl fr nd sr sn sv dk hd wp wi wq : Nat → Int32} {m ms : Nat → Option Nat} {K I N : Nat → Nat} {pl : Nat → Nat → Option Nat}
theorem ef_cutBlocks {post : Int32 → SX → Prop} {n a : Nat} (hT : ef_TM rt kc ks vs bl fr sr sn sv m ms) (hM : ef_Mp m K I N pl) (hj : ef_Ij pl) (h0 : m 0 ≠ none) (hn : n < 16) (ha : a ≤ 8)
    (G : ∀ m' rt we wt kc ks vs bl fr nd wp wi wq, ef_TM rt kc ks vs bl fr sr sn sv m' ms → ef_Mp m' K I N (fun n' c => if n' = n ∧ a ≤ c ∧ c < 8 then none else pl n' c) → m' 0 = m 0 → post (nI (ef_cnt (fun c => (pl n c).isSome) a (8 - a))) (rt, we, wt, kc, ks, vs, bl, fr, nd, sr, sn, sv, dk, hd, wp, wi, wq)) :
    wpX_cutBlocks post (rt, we, wt, kc, ks, vs, bl, fr, nd, sr, sn, sv, dk, hd, wp, wi, wq) (nI n) (nI a) := by
  unfold wpX_cutBlocks
  have lp : ∀ (d k f : Nat) (m' : Nat → Option Nat) (rt we wt : Int32) (kc ks vs bl fr nd wp wi wq : Nat → Int32), a + k + d = 8 → d < f → ef_TM rt kc ks vs bl fr sr sn sv m' ms → ef_Mp m' K I N (fun n' c => if n' = n ∧ a ≤ c ∧ c < a + k then none else pl n' c) → m' 0 = m 0 →
      wX_cutBlocks_5 post (nI n) f (nI (ef_cnt (fun c => (pl n c).isSome) a k)) (nI (a + k)) rt we wt kc ks vs bl fr nd sr sn sv dk hd wp wi wq := by
    intro d
    induction d with
    | zero =>
      intro k f m' rt we wt kc ks vs bl fr nd wp wi wq hk hf T1 M1 z1
      obtain ⟨f, rfl⟩ : ∃ g, f = g + 1 := ⟨f - 1, by omega⟩
      obtain rfl : k = 8 - a := by omega
      have e8 : a + (8 - a) = 8 := by omega
      rw [wX_cutBlocks_5]
      rw [e8] at M1 ⊢
      exact br_t (by decide) (G m' _ _ _ _ _ _ _ _ _ _ _ _ T1 M1 z1)
    | succ d ih =>
      intro k f m' rt we wt kc ks vs bl fr nd wp wi wq hk hf T1 M1 z1
      obtain ⟨f, rfl⟩ : ∃ g, f = g + 1 := ⟨f - 1, by omega⟩
      rw [wX_cutBlocks_5]
      refine br_f (nI_ge (b := 8) (by omega) (by decide)) ?_
      refine ef_placeOf T1 M1 hn (by omega) (fun we' wp' wi' => ?_)
      dsimp only
      rw [if_neg (by omega)]
      have hext : (fun n' c => if n' = n ∧ c = a + k then none else (fun n' c => if n' = n ∧ a ≤ c ∧ c < a + k then none else pl n' c) n' c) = (fun n' c => if n' = n ∧ a ≤ c ∧ c < a + (k + 1) then none else pl n' c) := by
        funext n' c
        dsimp only
        by_cases h1 : n' = n ∧ c = a + k
        · rw [if_pos h1, if_pos (by omega)]
        · rw [if_neg h1]
          by_cases h2 : n' = n ∧ a ≤ c ∧ c < a + k
          · rw [if_pos h2, if_pos (by omega)]
          · rw [if_neg h2, if_neg (by omega)]
      have hjj : ef_Ij (fun n' c => if n' = n ∧ a ≤ c ∧ c < a + k then none else pl n' c) := ef_Ij_sub hj (fun n' c q hq => by
        by_cases h2 : n' = n ∧ a ≤ c ∧ c < a + k
        · rw [if_pos h2] at hq; cases hq
        · rw [if_neg h2] at hq; exact hq)
      cases hp : pl n (a + k) with
      | none =>
        refine br_f ef_neg (nm_r (nI_1 _) ?_)
        have e2 : (fun n' c => if n' = n ∧ a ≤ c ∧ c < a + k then none else pl n' c) = (fun n' c => if n' = n ∧ a ≤ c ∧ c < a + (k + 1) then none else pl n' c) := by
          funext n' c
          by_cases h2 : n' = n ∧ a ≤ c ∧ c < a + (k + 1)
          · rw [if_pos h2]
            by_cases h3 : c = a + k
            · rw [if_neg (by omega), h2.1, h3, hp]
            · rw [if_pos (by omega)]
          · rw [if_neg h2, if_neg (by omega)]
        rw [e2] at M1
        have := ih (k + 1) f m' rt we' wt kc ks vs bl fr nd wp' wi' wq (by omega) (by omega) T1 M1 z1
        have ec : ef_cnt (fun c => (pl n c).isSome) a (k + 1) = ef_cnt (fun c => (pl n c).isSome) a k := by
          show _ + (if (pl n (a + k)).isSome = true then 1 else 0) = _
          rw [hp]; rfl
        rw [ec] at this
        exact this
      | some p =>
        have hlt : p < 2 ^ 31 := by
          obtain ⟨b', v, q1, q2, q3⟩ := (hM.2.2.1 n hn).2 (a + k) p (by omega) hp
          obtain ⟨r1, r2, r3, r4, r5⟩ := (hM.2.2.1 n hn).1 b' v (by omega) q2
          have := r4 (a + k - b') (by omega)
          rw [show b' + (a + k - b') = a + k from by omega, hp] at this
          have := Option.some.inj this
          omega
        refine br_t (nI_pos' hlt) ?_
        refine ef_leaveOut (p := p) T1 M1 hjj (by rw [z1]; exact h0) hn (by omega) (by rw [if_neg (by omega)]; exact hp) (fun m2 rt we wt kc ks vs bl fr nd wp wi wq T2 M2 z2 => ?_)
        rw [hext] at M2
        dsimp only
        refine nm_r (nI_1 _) (nm_r (nI_1 _) ?_)
        have := ih (k + 1) f m2 rt we wt kc ks vs bl fr nd wp wi wq (by omega) (by omega) T2 M2 (z2.trans z1)
        have ec : ef_cnt (fun c => (pl n c).isSome) a (k + 1) = ef_cnt (fun c => (pl n c).isSome) a k + 1 := by
          show _ + (if (pl n (a + k)).isSome = true then 1 else 0) = _
          rw [hp]; rfl
        rw [ec] at this
        exact this
  have M0 : ef_Mp m K I N (fun n' c => if n' = n ∧ a ≤ c ∧ c < a + 0 then none else pl n' c) := by
    have e : (fun n' c => if n' = n ∧ a ≤ c ∧ c < a + 0 then none else pl n' c) = pl := by
      funext n' c
      rw [if_neg (by omega)]
    rw [e]
    exact hM
  exact ⟨9, lp (8 - a) 0 9 m rt we wt kc ks vs bl fr nd wp wi wq (by omega) (by omega) hT M0 rfl⟩
end
end
section
/-! a block gets a new place -/
theorem ef_bit0 {t k : Nat} (ht : t < 2 ^ 48) (hk : k < 64) : (((lN t).toUInt64 >>> ((nI k).toInt64.toUInt64 &&& Int64.toUInt64 63)).toInt64 &&& 1) = 0 ↔ t.testBit k = false := by
  rw [wb_bit (by omega) hk, show (0 : Int64) = lN 0 from rfl, lN_eq (by omega) (by omega), Nat.testBit_eq_decide_div_mod_eq]
  rw [decide_eq_false_iff_not]
  omega
theorem ef_oI_some {o : Option Nat} {q : Nat} (ho : ∀ v, o = some v → v < 2 ^ 31) (hq : q < 2 ^ 31) (h : ef_oI o = nI q) : o = some q := by
  cases o with
  | none => exact absurd h.symm (ef_nIm hq)
  | some v => exact congrArg some (ef_inj (ho v rfl) hq h)
section
variable {rt we wt : Int32} {kc ks vs bl fr nd sr sn sv dk hd wp wi wq : Nat → Int32} {m ms : Nat → Option Nat} {K I N : Nat → Nat} {pl : Nat → Nat → Option Nat}
theorem ef_pl_lt {n b q : Nat} (hM : ef_Mp m K I N pl) (hn : n < 16) (hb : b < 8) (h : pl n b = some q) : q < 48 := by
  obtain ⟨b', v, q1, q2, q3⟩ := (hM.2.2.1 n hn).2 b q hb h
  obtain ⟨r1, r2, r3, r4, r5⟩ := (hM.2.2.1 n hn).1 b' v (by omega) q2
  have := r4 (b - b') (by omega)
  rw [show b' + (b - b') = b from by omega, h] at this
  have := Option.some.inj this
  omega
theorem ef_begin {n b q : Nat} (hM : ef_Mp m K I N pl) (hn : n < 16) (hb : b + 1 < 8) (h0 : pl n b = none) (h1 : pl n (b + 1) = some q) : ∃ v, m (256 * n + 128 + (b + 1)) = some v ∧ v / 16 = q ∧ 1 ≤ v % 16 ∧ b + 1 + v % 16 ≤ 8 ∧ v / 16 + v % 16 ≤ 48 ∧
    ∀ i, i < v % 16 → pl n (b + 1 + i) = some (q + i) := by
  obtain ⟨b', v, q1, q2, q3⟩ := (hM.2.2.1 n hn).2 (b + 1) q hb h1
  obtain ⟨r1, r2, r3, r4, r5⟩ := (hM.2.2.1 n hn).1 b' v (by omega) q2
  have e : b' = b + 1 := by
    by_cases hb' : b' ≤ b
    · have := r4 (b - b') (by omega)
      rw [show b' + (b - b') = b from by omega, h0] at this
      cases this
    · omega
  subst e
  have := r4 0 (by omega)
  rw [Nat.add_zero, Nat.add_zero, h1] at this
  have hq := Option.some.inj this
  exact ⟨v, q2, hq.symm, r1, r2, r3, fun i hi => by rw [hq]; exact r4 i hi⟩
theorem ef_putIn {post : SX → Prop} {n b p : Nat} {bf bh : Int32} (hT : ef_TM rt kc ks vs bl fr sr sn sv m ms) (hM : ef_Mp m K I N pl) (hj : ef_Ij pl) (h0 : m 0 ≠ none) (hn : n < 16) (hb : b < 8) (hp : p < 48) (hnone : pl n b = none)
    (hfree : ∀ n' c, n' < 16 → c < 8 → pl n' c ≠ some p) (ebf : bf = if b = 0 then -1 else ef_oI (pl n (b - 1))) (ebh : bh = if b = 7 then -1 else ef_oI (pl n (b + 1)))
    (G : ∀ m' rt we wt kc ks vs bl fr nd wp wi wq, ef_TM rt kc ks vs bl fr sr sn sv m' ms → ef_Mp m' K I N (fun n' c => if n' = n ∧ c = b then some p else pl n' c) → m' 0 = m 0 → post (rt, we, wt, kc, ks, vs, bl, fr, nd, sr, sn, sv, dk, hd, wp, wi, wq)) : wpX_putIn post (rt, we, wt, kc, ks, vs, bl, fr, nd, sr, sn, sv, dk, hd, wp, wi, wq) (nI n) (nI b) (nI p) bf bh := by
  have hjt : ef_Ij (fun n' c => if n' = n ∧ c = b then some p else pl n' c) := fun n1 c1 n2 c2 q a1 a2 a3 a4 e1 e2 => by
    dsimp only at e1 e2
    by_cases d1 : n1 = n ∧ c1 = b
    · rw [if_pos d1] at e1
      have : p = q := Option.some.inj e1
      subst this
      by_cases d2 : n2 = n ∧ c2 = b
      · omega
      · rw [if_neg d2] at e2
        exact absurd e2 (hfree n2 c2 a3 a4)
    · rw [if_neg d1] at e1
      by_cases d2 : n2 = n ∧ c2 = b
      · rw [if_pos d2] at e2
        have : p = q := Option.some.inj e2
        subst this
        exact absurd e1 (hfree n1 c1 a1 a2)
      · rw [if_neg d2] at e2
        exact hj n1 c1 n2 c2 q a1 a2 a3 a4 e1 e2
  -- behind the first half
  have rest : ∀ m1 len rt we wt kc ks vs bl fr nd wp wi wq, ef_TM rt kc ks vs bl fr sr sn sv m1 ms → ef_Mp m1 K I N (fun n' c => if n' = n ∧ b + 1 ≤ c ∧ c < b + 1 + len then none else pl n' c) → b + 1 + len ≤ 8 → p + 1 + len ≤ 48 →
      (∀ i, i < len → pl n (b + 1 + i) = some (p + 1 + i)) → m1 0 = m 0 → wX_putIn_55 post (nI n) (nI b) (nI p) bf (nI (256 * n + 128 + b)) (nI (1 + len)) (nI p) rt we wt kc ks vs bl fr nd sr sn sv dk hd wp wi wq := fun m1 len rt we wt kc ks vs bl fr nd wp wi wq T1 M1 l1 l2 l3 z1 => by
    have single : wX_putIn_106 post (nI (256 * n + 128 + b)) (nI (1 + len)) (nI p) rt we wt kc ks vs bl fr nd sr sn sv dk hd wp wi wq := by
      unfold wX_putIn_106
      rw [ef_m16, nI_add]
      have M2 := ef_op2 (n := n) (c0 := b) (k := 1 + len) (p := p) M1 hn (by omega) (by omega) (by omega) (fun c c1 c2 => by
        by_cases e : c = b
        · rw [if_neg (by omega), e]; exact hnone
        · rw [if_pos (by omega)])
      have e : (fun n' c => if n' = n ∧ b ≤ c ∧ c < b + (1 + len) then some (p + (c - b)) else (fun n' c => if n' = n ∧ b + 1 ≤ c ∧ c < b + 1 + len then none else pl n' c) n' c) = (fun n' c => if n' = n ∧ c = b then some p else pl n' c) := by
        funext n' c
        dsimp only
        by_cases d1 : n' = n ∧ c = b
        · rw [if_pos (by omega), if_pos d1, d1.2, Nat.sub_self, Nat.add_zero]
        · rw [if_neg d1]
          by_cases d2 : n' = n ∧ b ≤ c ∧ c < b + (1 + len)
          · rw [if_pos d2]
            have := l3 (c - (b + 1)) (by omega)
            rw [show b + 1 + (c - (b + 1)) = c from by omega] at this
            rw [d2.1, this]
            exact congrArg some (by omega)
          · rw [if_neg d2, if_neg (by omega)]
      rw [e] at M2
      refine ef_mput T1 (by omega) (by omega) (ef_Mp_cap M2 hjt) (fun rt we wt kc ks vs bl fr nd wp wi wq T2 => G _ _ _ _ _ _ _ _ _ _ _ _ _ T2 M2 ?_)
      unfold ef_ins
      rw [if_neg (by omega)]
      exact z1
    unfold wX_putIn_55
    refine br_c (fun _ => single) (fun hneg => br_c (fun heq => ?_) (fun _ => single))
    -- the stretch before
    have hb0 : b ≠ 0 := fun e => by rw [ebf, if_pos e] at hneg; exact hneg ef_neg'
    rw [if_neg hb0] at ebf
    obtain ⟨q, hq⟩ : ∃ q, pl n (b - 1) = some q := by
      cases e : pl n (b - 1) with
      | none => rw [ebf, e] at hneg; exact absurd ef_neg' hneg
      | some q => exact ⟨q, rfl⟩
    have hq48 := ef_pl_lt hM hn (by omega) hq
    rw [hq] at ebf
    have ebf : bf = nI q := ebf
    have hp0 : 0 < p := by
      by_cases e : p = 0
      · subst e
        rw [ebf] at heq
        have := heq.trans (show nI 0 - 1 = (-1 : Int32) by decide)
        exact absurd this (ef_nIm (by omega))
      · omega
    rw [ebf, ef_s1 hp0] at heq
    have hqp : q = p - 1 := ef_inj (by omega) (by omega) heq
    rw [ef_s1 (by omega)]
    refine ef_stretch T1 hn (by omega) (fun r hr => ?_)
    have hpl1 : (fun n' c => if n' = n ∧ b + 1 ≤ c ∧ c < b + 1 + len then none else pl n' c) n (b - 1) = some q := by
      dsimp only
      rw [if_neg (by omega)]
      exact hq
    obtain ⟨b', v, h1, rfl, h2, h3, h4, h5, h6, h7, h8⟩ := ef_SA_some M1 hn (by omega) hpl1 hr
    have hend : b' + v % 16 = b := by
      by_cases e : b < b' + v % 16
      · have := h8 (b - b') (by omega)
        rw [show b' + (b - b') = b from by omega, if_neg (by omega), hnone] at this
        cases this
      · omega
    refine ef_mget T1 (by omega) (fun we' wp' wi' => ?_)
    rw [h2]
    simp (disch := omega) only [ef_oI, ef_and15, ef_shr4, nI_add]
    refine nm_e (nm_e ?_)
    unfold wX_putIn_106
    rw [ef_m16, nI_add]
    have M2 := ef_op1 (o := 0) M1 hn (by omega) h2 (by omega)
    have M3 := ef_op2 (n := n) (c0 := b') (k := 1 + len + v % 16) (p := v / 16) M2 hn (by omega) (by omega) (by omega) (fun c c1 c2 => by
      by_cases e1 : c < b
      · rw [if_pos (by omega)]
      · rw [if_neg (by omega)]
        by_cases e2 : c = b
        · rw [if_neg (by omega), e2]; exact hnone
        · rw [if_pos (by omega)])
    have e : (fun n' c => if n' = n ∧ b' ≤ c ∧ c < b' + (1 + len + v % 16) then some (v / 16 + (c - b')) else (fun n' c => if n' = n ∧ b' + 0 ≤ c ∧ c < b' + v % 16 then none else (fun n' c => if n' = n ∧ b + 1 ≤ c ∧ c < b + 1 + len then none else pl n' c) n' c) n' c) = (fun n' c => if n' = n ∧ c = b then some p else pl n' c) := by
      funext n' c
      dsimp only
      by_cases d1 : n' = n ∧ c = b
      · rw [if_pos (by omega), if_pos d1]
        exact congrArg some (by omega)
      · rw [if_neg d1]
        by_cases d2 : n' = n ∧ b' ≤ c ∧ c < b' + (1 + len + v % 16)
        · rw [if_pos d2, d2.1]
          by_cases d3 : c < b
          · have := h8 (c - b') (by omega)
            rw [show b' + (c - b') = c from by omega, if_neg (by omega)] at this
            rw [this]
          · have := l3 (c - (b + 1)) (by omega)
            rw [show b + 1 + (c - (b + 1)) = c from by omega] at this
            rw [this]
            exact congrArg some (by omega)
        · rw [if_neg d2, if_neg (by omega), if_neg (by omega)]
    rw [e] at M3
    have em : ef_ins (fun q => if q = 256 * n + 128 + b' then (if (0 : Nat) = 0 then none else some (16 * (v / 16) + 0)) else m1 q) (256 * n + 128 + b') (16 * (v / 16) + (1 + len + v % 16)) = ef_ins m1 (256 * n + 128 + b') (16 * (v / 16) + (1 + len + v % 16)) := by
      funext q
      unfold ef_ins
      by_cases e : q = 256 * n + 128 + b'
      · rw [if_pos e, if_pos e]
      · rw [if_neg e, if_neg e]
        exact if_neg e
    rw [em] at M3
    refine ef_mput T1 (by omega) (by omega) (ef_Mp_cap M3 hjt) (fun rt we wt kc ks vs bl fr nd wp wi wq T2 => G _ _ _ _ _ _ _ _ _ _ _ _ _ T2 M3 ?_)
    unfold ef_ins
    rw [if_neg (by omega)]
    exact z1
  unfold wpX_putIn
  simp only [ef_m256, ef_a128, nI_add]
  refine nm_e (br_c (fun heq => ?_) (fun _ => ?_))
  · -- the stretch behind
    have hb7 : b ≠ 7 := fun e => by
      rw [ebh, if_pos e, nI_1] at heq
      exact ef_nIm (n := p + 1) (by omega) heq.symm
    rw [if_neg hb7] at ebh
    rw [ebh, nI_1] at heq
    have hq := ef_oI_some (fun v hv => by have := ef_pl_lt hM hn (by omega) hv; omega) (by omega) heq
    obtain ⟨v, h1, h2, h3, h4, h5, h6⟩ := ef_begin hM hn (by omega) hnone hq
    rw [nI_1, show 256 * n + 128 + b + 1 = 256 * n + 128 + (b + 1) from by omega]
    refine ef_mget hT (by omega) (fun we' wp' wi' => ?_)
    rw [h1]
    simp (disch := omega) only [ef_oI, ef_and15]
    have t1 : 1 + nI (v % 16) = nI (1 + v % 16) := nI_add 1 (v % 16)
    rw [t1]
    refine nm_e (ef_mrem hT (by omega) (by rw [h1]; simp) h0 (by omega) (fun rt we wt kc ks vs bl fr nd wp wi wq T1 => ?_))
    have M1 := ef_op1 (o := 0) hM hn (by omega) h1 (by omega)
    rw [ef_del_eq rfl] at M1
    exact rest _ (v % 16) _ _ _ _ _ _ _ _ _ _ _ _ T1 M1 (by omega) (by omega) h6 (by unfold ef_del; rw [if_neg (by omega)])
  · have M1 : ef_Mp m K I N (fun n' c => if n' = n ∧ b + 1 ≤ c ∧ c < b + 1 + 0 then none else pl n' c) := by
      have e : (fun n' c => if n' = n ∧ b + 1 ≤ c ∧ c < b + 1 + 0 then none else pl n' c) = pl := by
        funext n' c
        rw [if_neg (by omega)]
      rw [e]
      exact hM
    exact rest m 0 _ _ _ _ _ _ _ _ _ _ _ _ hT M1 (by omega) (by omega) (fun i hi => absurd hi (by omega)) rfl
/-- what lies on the disk then: the old block or zeros at the new place -/
def ef_dk (dk : Nat → Int32) (o : Option Nat) (p k : Nat) : Nat → Int32 := fun j => if 4 * p ≤ j ∧ j < 4 * p + k then (match o with | some q => dk (4 * q + (j - 4 * p)) | none => 0) else dk j
theorem ef_dk_step {o : Option Nat} {p k : Nat} : upd (ef_dk dk o p k) (4 * p + k) (match o with | some q => dk (4 * q + k) | none => 0) = ef_dk dk o p (k + 1) := by
  funext j
  unfold upd ef_dk
  by_cases e : j = 4 * p + k
  · rw [if_pos e, if_pos (by omega), e, Nat.add_sub_cancel_left]
  · rw [if_neg e]
    by_cases e2 : 4 * p ≤ j ∧ j < 4 * p + k
    · rw [if_pos e2, if_pos (by omega)]
    · rw [if_neg e2, if_neg (by omega)]
theorem ef_mb135 {post : Int32 → SX → Prop} {x1 x2 x6 x7 : Int32} {p : Nat} {o : Option Nat} (hp : p < 48) (ho : ∀ q, o = some q → q < 48 ∧ q ≠ p)
    (G : wpX_putIn (fun u => match u with | (rt, we, wt, kc, ks, vs, bl, fr, nd, sr, sn, sv, dk, hd, wp, wi, wq) => post (nI p) (rt, we, wt, kc, ks, vs, bl, fr, nd, sr, sn, sv, dk, hd, wp, wi, wq)) (rt, we, wt, kc, ks, vs, bl, fr, nd, sr, sn, sv, ef_dk dk o p 4, hd, wp, wi, wq) x1 x2 (nI p) x6 x7) :
    ∀ (d k f : Nat), k + d = 4 → d < f → wX_moveBlock_135 post x1 x2 (ef_oI o) x6 x7 (nI p) rt we wt f (nI k) kc ks vs bl fr nd sr sn sv (ef_dk dk o p k) hd wp wi wq := by
  intro d
  induction d with
  | zero =>
    intro k f hk hf
    obtain ⟨f, rfl⟩ : ∃ g, f = g + 1 := ⟨f - 1, by omega⟩
    obtain rfl : k = 4 := by omega
    rw [wX_moveBlock_135]
    exact br_t (by decide) G
  | succ d ih =>
    intro k f hk hf
    obtain ⟨f, rfl⟩ : ∃ g, f = g + 1 := ⟨f - 1, by omega⟩
    rw [wX_moveBlock_135]
    refine br_f (nI_ge (b := 4) (by omega) (by decide)) ?_
    have next := ih (k + 1) f (by omega) (by omega)
    cases o with
    | none =>
      refine br_t ef_neg' ?_
      simp (disch := omega) only [ef_m4, nI_add, nI_clamp, nI_1]
      have e := ef_dk_step (dk := dk) (o := none) (p := p) (k := k)
      dsimp only at e
      rw [e]
      exact ⟨vp_in_nI (by omega) (by decide), nm_e (nm_e next)⟩
    | some q =>
      obtain ⟨q1, q2⟩ := ho q rfl
      refine br_f (nI_pos (by omega)) ?_
      have e0 : ef_dk dk (some q) p k (4 * q + k) = dk (4 * q + k) := if_neg (by omega)
      have e := ef_dk_step (dk := dk) (o := some q) (p := p) (k := k)
      dsimp only at e
      simp (disch := omega) only [ef_oI, ef_m4, nI_add, nI_clamp, nI_1, e0, e]
      exact ⟨vp_in_nI (by omega) (by decide), vp_in_nI (by omega) (by decide), nm_e (nm_e next)⟩
theorem ef_mb114 {post : Int32 → SX → Prop} {x1 x2 x3 x6 x7 : Int32} {t : Nat} (ht : t < 2 ^ 48) (hfree : ∃ q, q < 48 ∧ t.testBit q = false)
    (G : ∀ p, p < 48 → t.testBit p = false → ∃ f, wX_moveBlock_135 post x1 x2 x3 x6 x7 (nI p) rt we wt f 0 kc ks vs bl fr nd sr sn sv dk hd wp wi wq) :
    ∀ (d k f : Nat), k + d = 48 → d < f → (∀ q, q < k → t.testBit q = true) → wX_moveBlock_114 post x1 x2 x3 (lN t) x6 x7 rt we wt kc ks vs bl fr nd sr sn sv dk hd wp wi wq f (nI k) := by
  intro d
  induction d with
  | zero =>
    intro k f hk hf hq
    obtain ⟨q, q1, q2⟩ := hfree
    have := hq q (by omega)
    rw [q2] at this
    cases this
  | succ d ih =>
    intro k f hk hf hq
    obtain ⟨f, rfl⟩ : ∃ g, f = g + 1 := ⟨f - 1, by omega⟩
    rw [wX_moveBlock_114]
    refine br_c (fun h => G k (by omega) ((ef_bit0 ht (by omega)).mp h)) (fun h => ?_)
    have h' : t.testBit k = true := by
      cases e : t.testBit k with
      | true => rfl
      | false => exact absurd ((ef_bit0 ht (by omega)).mpr e) h
    refine nm_r (nI_1 k) (ih (k + 1) f (by omega) (by omega) (fun q hq' => ?_))
    by_cases e : q = k
    · rw [e]; exact h'
    · exact hq q (by omega)
theorem ef_mb46 {post : Int32 → SX → Prop} {x1 x2 x3 : Int32} {t : Nat} {bf bh : Option Nat} (ht : t < 2 ^ 48) (hfree : ∃ q, q < 48 ∧ t.testBit q = false) (hbf : ∀ q, bf = some q → q < 48) (hbh : ∀ q, bh = some q → q < 48)
    (G : ∀ p, p < 48 → t.testBit p = false → ∃ f, wX_moveBlock_135 post x1 x2 x3 (ef_oI bf) (ef_oI bh) (nI p) rt we wt f 0 kc ks vs bl fr nd sr sn sv dk hd wp wi wq) : wX_moveBlock_46 post x1 x2 x3 (lN t) (ef_oI bf) (ef_oI bh) rt we wt kc ks vs bl fr nd sr sn sv dk hd wp wi wq := by
  have scan : ∃ f, wX_moveBlock_114 post x1 x2 x3 (lN t) (ef_oI bf) (ef_oI bh) rt we wt kc ks vs bl fr nd sr sn sv dk hd wp wi wq f 0 := ⟨49, ef_mb114 ht hfree G 48 0 49 (by omega) (by omega) (fun q hq => absurd hq (by omega))⟩
  have lo : wX_moveBlock_86 post x1 x2 x3 (lN t) (ef_oI bf) (ef_oI bh) 0 rt we wt kc ks vs bl fr nd sr sn sv dk hd wp wi wq := by
    unfold wX_moveBlock_86
    cases bh with
    | none => exact br_t (by decide) scan
    | some q =>
      have hq := hbh q rfl
      by_cases hq0 : q = 0
      · subst hq0
        exact br_t (by decide) scan
      · refine br_f (nI_nle (by omega) (by omega)) ?_
        have e : ef_oI (some q) - 1 = nI (q - 1) := ef_s1 (by omega)
        rw [e]
        exact br_c (fun h => nm_e (G (q - 1) (by omega) ((ef_bit0 ht (by omega)).mp h))) (fun _ => scan)
  unfold wX_moveBlock_46
  cases bf with
  | none => exact br_t ef_neg' lo
  | some q =>
    have hq := hbf q rfl
    refine br_f (nI_pos (by omega)) (br_c (fun _ => lo) (fun h => ?_))
    have h47 : q < 47 := by
      by_cases h7 : q < 47
      · exact h7
      · exact absurd (nI_le (a := 47) (by omega) (by omega)) h
    have e : ef_oI (some q) + 1 = nI (q + 1) := nI_1 q
    rw [e]
    exact br_c (fun h => nm_e (G (q + 1) (by omega) ((ef_bit0 ht (by omega)).mp h))) (fun _ => lo)
theorem ef_moveBlock {post : Int32 → SX → Prop} {n b t : Nat} (hT : ef_TM rt kc ks vs bl fr sr sn sv m ms) (hM : ef_Mp m K I N pl) (hj : ef_Ij pl) (h0 : m 0 ≠ none) (hn : n < 16) (hb : b < 8) (ht : t < 2 ^ 48) (hfree : ∃ q, q < 48 ∧ t.testBit q = false)
    (hcov : ∀ n' c q, n' < 16 → c < 8 → pl n' c = some q → t.testBit q = true)
    (G : ∀ p m' rt we wt kc ks vs bl fr nd wp wi wq, p < 48 → t.testBit p = false → ef_TM rt kc ks vs bl fr sr sn sv m' ms → ef_Mp m' K I N (fun n' c => if n' = n ∧ c = b then some p else pl n' c) → m' 0 = m 0 →
      post (nI p) (rt, we, wt, kc, ks, vs, bl, fr, nd, sr, sn, sv, ef_dk dk (pl n b) p 4, hd, wp, wi, wq)) : wpX_moveBlock post (rt, we, wt, kc, ks, vs, bl, fr, nd, sr, sn, sv, dk, hd, wp, wi, wq) (nI n) (nI b) (ef_oI (pl n b)) (lN t) := by
  -- behind the block's leaving
  have rest : ∀ m1 rt we wt kc ks vs bl fr nd wp wi wq, ef_TM rt kc ks vs bl fr sr sn sv m1 ms → ef_Mp m1 K I N (fun n' c => if n' = n ∧ c = b then none else pl n' c) → m1 0 = m 0 → wX_moveBlock_10 post (nI n) (nI b) (ef_oI (pl n b)) (lN t) rt we wt kc ks vs bl fr nd sr sn sv dk hd wp wi wq := fun m1 rt we wt kc ks vs bl fr nd wp wi wq T1 M1 z1 => by
    have hj1 : ef_Ij (fun n' c => if n' = n ∧ c = b then none else pl n' c) := ef_Ij_sub hj (fun n' c q hq => by
      by_cases d : n' = n ∧ c = b
      · rw [if_pos d] at hq; cases hq
      · rw [if_neg d] at hq; exact hq)
    have e2 : ∀ p, (fun n' c => if n' = n ∧ c = b then some p else (fun n' c => if n' = n ∧ c = b then none else pl n' c) n' c) = (fun n' c => if n' = n ∧ c = b then some p else pl n' c) := fun p => by
      funext n' c
      dsimp only
      by_cases d : n' = n ∧ c = b
      · rw [if_pos d, if_pos d]
      · rw [if_neg d, if_neg d, if_neg d]
    have ho : ∀ p, t.testBit p = false → ∀ q, pl n b = some q → q < 48 ∧ q ≠ p := fun p hp q hq => ⟨ef_pl_lt hM hn hb hq, fun e => by
      have := hcov n b q hn hb hq
      rw [e, hp] at this
      cases this⟩
    -- both neighbours known
    have go : ∀ (bf bh : Option Nat) we wp wi, ef_oI bf = (if b = 0 then -1 else ef_oI ((fun n' c => if n' = n ∧ c = b then none else pl n' c) n (b - 1))) → ef_oI bh = (if b = 7 then -1 else ef_oI ((fun n' c => if n' = n ∧ c = b then none else pl n' c) n (b + 1))) →
        (∀ q, bf = some q → q < 48) → (∀ q, bh = some q → q < 48) → wX_moveBlock_46 post (nI n) (nI b) (ef_oI (pl n b)) (lN t) (ef_oI bf) (ef_oI bh) rt we wt kc ks vs bl fr nd sr sn sv dk hd wp wi wq := fun bf bh we wp wi ebf ebh lf lh => by
      refine ef_mb46 ht hfree lf lh (fun p hp hpt => ⟨5, ?_⟩)
      have := ef_mb135 (rt := rt) (we := we) (wt := wt) (kc := kc) (ks := ks) (vs := vs) (bl := bl) (fr := fr) (nd := nd) (sr := sr) (sn := sn) (sv := sv) (dk := dk) (hd := hd) (wp := wp) (wi := wi) (wq := wq) (post := post) (x1 := nI n) (x2 := nI b) (x6 := ef_oI bf) (x7 := ef_oI bh) hp (ho p hpt) (by
        refine ef_putIn (K := K) (I := I) (N := N) T1 M1 hj1 (by rw [z1]; exact h0) hn hb hp ?_ (fun n' c a1 a2 e => ?_) ebf ebh (fun m' rt we wt kc ks vs bl fr nd wp wi wq T2 M2 z2 => ?_)
        · rw [if_pos ⟨rfl, rfl⟩]
        · by_cases d : n' = n ∧ c = b
          · rw [if_pos d] at e; cases e
          · rw [if_neg d] at e
            have := hcov n' c p a1 a2 e
            rw [hpt] at this
            cases this
        · rw [e2 p] at M2
          exact G p m' _ _ _ _ _ _ _ _ _ _ _ _ hp hpt T2 M2 (z2.trans z1)) 4 0 5 (by omega) (by omega)
      have ed : ef_dk dk (pl n b) p 0 = dk := by
        funext j
        exact if_neg (by omega)
      rw [ed] at this
      exact this
    have l48 : ∀ c, c < 8 → ∀ q, (fun n' c => if n' = n ∧ c = b then none else pl n' c) n c = some q → q < 48 := fun c hc q hq => ef_pl_lt M1 hn hc hq
    -- the second neighbour
    have go2 : ∀ (bf : Option Nat) we wp wi, ef_oI bf = (if b = 0 then -1 else ef_oI ((fun n' c => if n' = n ∧ c = b then none else pl n' c) n (b - 1))) → (∀ q, bf = some q → q < 48) → wX_moveBlock_26 post (nI n) (nI b) (ef_oI (pl n b)) (lN t) (ef_oI bf) rt we wt kc ks vs bl fr nd sr sn sv dk hd wp wi wq := fun bf we wp wi ebf lf => by
      unfold wX_moveBlock_26
      by_cases h7 : b = 7
      · refine br_t (nI_le (a := 7) (by omega) (by omega)) ?_
        exact go bf none we wp wi ebf (by rw [if_pos h7]; rfl) lf (fun q hq => by cases hq)
      · refine br_f (nI_ge (b := 7) (by omega) (by decide)) ?_
        rw [nI_1]
        refine ef_placeOf T1 M1 hn (by omega) (fun we' wp' wi' => ?_)
        exact go bf _ we' wp' wi' ebf (by rw [if_neg h7]) lf (l48 (b + 1) (by omega))
    unfold wX_moveBlock_10
    by_cases hb0 : b = 0
    · refine br_t (by rw [hb0]; decide) ?_
      exact go2 none we wp wi (by rw [if_pos hb0]; rfl) (fun q hq => by cases hq)
    · refine br_f (nI_nle (by omega) (by omega)) ?_
      rw [ef_s1 (by omega)]
      refine ef_placeOf T1 M1 hn (by omega) (fun we' wp' wi' => ?_)
      exact go2 _ we' wp' wi' (by rw [if_neg hb0]) (l48 (b - 1) (by omega))
  unfold wpX_moveBlock
  cases hp : pl n b with
  | none =>
    rw [hp] at rest
    refine br_t ef_neg' (rest m _ _ _ _ _ _ _ _ _ _ _ _ hT ?_ rfl)
    have e : (fun n' c => if n' = n ∧ c = b then none else pl n' c) = pl := by
      funext n' c
      by_cases d : n' = n ∧ c = b
      · rw [if_pos d, d.1, d.2, hp]
      · rw [if_neg d]
    rw [e]
    exact hM
  | some q =>
    rw [hp] at rest
    refine br_f (nI_pos (by have := ef_pl_lt hM hn hb hp; omega)) ?_
    exact ef_leaveOut hT hM hj h0 hn hb hp (fun m' rt we wt kc ks vs bl fr nd wp wi wq T1 M1 z1 => rest m' _ _ _ _ _ _ _ _ _ _ _ _ T1 M1 z1)
end
end
section
/-! the relation, and the component's small methods over it -/
def ef_it (I : Nat → Nat) : Nat → Nat → Nat
  | 0, n => n
  | j + 1, n => ef_it I j (I n)
def ef_Wf (K I N C : Nat → Nat) : Prop :=
  K 0 = 1 ∧ I 0 = 0 ∧ (∀ n, n < 16 → K n ≤ 2 ∧ I n < 16 ∧ N n < 100) ∧ (∀ n, 1 ≤ n → n < 16 → 0 < K n → K (I n) = 1) ∧
  (∀ n n', 1 ≤ n → n < 16 → 1 ≤ n' → n' < 16 → 0 < K n → 0 < K n' → I n = I n' → N n = N n' → n = n') ∧
  (∀ n b, n < 16 → b < 8 → C (8 * n + b) ≤ 24 ∧ (K n ≠ 2 → C (8 * n + b) = 24)) ∧
  (∀ j j', j < 128 → j' < 128 → C j < 24 → C j = C j' → j = j') ∧
  (∀ n, n < 16 → 0 < K n → ∃ j, ef_it I j n = 0)
def ef_pl (φ C : Nat → Nat) : Nat → Nat → Option Nat := fun n b => if C (8 * n + b) < 24 then some (φ (C (8 * n + b))) else none
def ef_Ya (kd ip nm cy : Nat → Int32) (K I N C : Nat → Nat) : Prop := (∀ n, n < 16 → kd n = nI (K n) ∧ ip n = nI (I n) ∧ nm n = nI (N n)) ∧ (∀ j, j < 128 → cy j = nI (C j))
def ef_Us (C C' : Nat → Nat) (c : Nat) : Prop := c < 24 ∧ ((∃ j, j < 128 ∧ C j = c) ∨ (∃ j, j < 128 ∧ C' j = c))
def ef_Ph (φ C C' : Nat → Nat) (dk da : Nat → Int32) : Prop :=
  (∀ c, ef_Us C C' c → φ c < 48) ∧ (∀ c c', ef_Us C C' c → ef_Us C C' c' → φ c = φ c' → c = c') ∧ (∀ c i, ef_Us C C' c → i < 4 → dk (4 * φ c + i) = da (4 * c + i))
def ef_Hd (hd hn : Nat → Int32) (K Hn : Nat → Nat) : Prop :=
  Hn 0 = 0 ∧ ∀ h, h < 4 → Hn h ≤ 16 ∧ hn h = nI (Hn h) ∧ (Hn h < 16 → 0 < K (Hn h) ∧ hd h = nI (Hn h)) ∧ (Hn h = 16 → hd h = -1)
def ef_Vd (sn sv : Nat → Int32) (p s : Nat) : Prop :=
  p < 2 ∧ sn p = nI s ∧ sv p = 1 ∧ (sv (1 - p) = 0 ∨ (sv (1 - p) = 1 ∧ ∃ s', s' < s ∧ sn (1 - p) = nI s'))
def ef_Rel (k : Nat) (rt : Int32) (kc ks vs bl fr sr sn sv dk hd : Nat → Int32) (sg : Int32) (kd ip nm cy ok oi on oc da hn : Nat → Int32) : Prop :=
  ∃ m ms K I N C K' I' N' C' φ Hn p s, ef_TM rt kc ks vs bl fr sr sn sv m ms ∧ ef_Vd sn sv p s ∧ s ≤ k ∧ sg = nI s ∧ ef_Ya kd ip nm cy K I N C ∧ ef_Ya ok oi on oc K' I' N' C' ∧ ef_Wf K I N C ∧ ef_Wf K' I' N' C' ∧
    ef_Mp m K I N (ef_pl φ C) ∧ ef_Mp ms K' I' N' (ef_pl φ C') ∧ ef_Ph φ C C' dk da ∧ ef_Hd hd hn K Hn
theorem ef_Vd_vpl {sn sv : Nat → Int32} {p s : Nat} (h : ef_Vd sn sv p s) (hs : s < 2 ^ 30) : ef_vpl sn sv = p := by
  obtain ⟨h1, h2, h3, h4⟩ := h
  unfold ef_vpl
  have hp : p = 0 ∨ p = 1 := by omega
  rcases hp with rfl | rfl
  · rw [if_neg (by rw [h3]; decide)]
    rcases h4 with h4 | ⟨h4, s', h5, h6⟩
    · rw [if_pos h4]
    · have h4 : sv 1 = 1 := h4
      have h6 : sn 1 = nI s' := h6
      rw [if_neg (by rw [h4]; decide), h2, h6, if_neg (nI_ge h5 (by omega))]
  · rcases h4 with h4 | ⟨h4, s', h5, h6⟩
    · rw [if_pos h4]
    · have h4 : sv 0 = 1 := h4
      have h6 : sn 0 = nI s' := h6
      rw [if_neg (by rw [h4]; decide), if_neg (by rw [h3]; decide), h2, h6, if_pos (nI_le (by omega) (by omega))]
theorem ef_Ij_pl {φ C C' : Nat → Nat} {K I N : Nat → Nat} {dk da : Nat → Int32} (hW : ef_Wf K I N C) (hP : ef_Ph φ C C' dk da) : ef_Ij (ef_pl φ C) := fun n b n' b' p a1 a2 a3 a4 e1 e2 => by
  unfold ef_pl at e1 e2
  by_cases d1 : C (8 * n + b) < 24
  · rw [if_pos d1] at e1
    by_cases d2 : C (8 * n' + b') < 24
    · rw [if_pos d2] at e2
      have hc := hP.2.1 _ _ ⟨d1, Or.inl ⟨8 * n + b, by omega, rfl⟩⟩ ⟨d2, Or.inl ⟨8 * n' + b', by omega, rfl⟩⟩ ((Option.some.inj e1).trans (Option.some.inj e2).symm)
      have := hW.2.2.2.2.2.2.1 _ _ (by omega) (by omega) d1 hc
      omega
    · rw [if_neg d2] at e2; cases e2
  · rw [if_neg d1] at e1; cases e1
theorem ef_Mp_0 {m : Nat → Option Nat} {K I N C : Nat → Nat} {pl : Nat → Nat → Option Nat} (hM : ef_Mp m K I N pl) (hW : ef_Wf K I N C) : m 0 ≠ none := by
  have := hM.1 0 (by omega)
  rw [hW.1, if_neg (by omega)] at this
  rw [show (0 : Nat) = 256 * 0 from rfl, this]
  simp
/-- an int is a handle (a name), or it is none -/
theorem ef_dec {v : Int32} {n : Nat} (hn : n < 2 ^ 30) : (v < 0 ∨ nI n < v) ∨ ∃ h, h ≤ n ∧ v = nI h := by
  by_cases h0 : v < 0
  · exact Or.inl (Or.inl h0)
  · obtain ⟨j, hj, rfl⟩ := nI_of h0
    by_cases h : j ≤ n
    · exact Or.inr ⟨j, h, rfl⟩
    · exact Or.inl (Or.inr (nI_lt (by omega) hj))
theorem ef_sort3 {i c : Nat} (hi : i < 16) (hc : c ≤ 3) : nI (4 * i + c) &&& 3 = nI c := by
  have := pk_andN (n := 4 * i + c) (by omega) (m := 3) 2 (by decide)
  rw [this]
  exact congrArg nI (by omega)
theorem ef_par {i c : Nat} (hi : i < 16) (hc : c ≤ 3) : nI (4 * i + c) >>> ((2 : Int32) &&& 31) = nI i := by
  rw [pk_shrN (by omega) _ 2 (by decide)]
  exact congrArg nI (by omega)
section
variable {rt we wt : Int32} {kc ks vs bl fr nd sr sn sv dk hd wp wi wq : Nat → Int32} {m ms : Nat → Option Nat} {K I N C Hn : Nat → Nat} {pl : Nat → Nat → Option Nat}
theorem ef_xH_b {post : Int32 → Prop} {v : Int32} (h : v < 0 ∨ 3 < v) (G : post 0) : wpX_isHandle post (rt, we, wt, kc, ks, vs, bl, fr, nd, sr, sn, sv, dk, hd, wp, wi, wq) v := by
  unfold wpX_isHandle
  rcases h with h | h
  · exact br_t h G
  · exact br_f (fun h' => absurd (Int32.lt_trans h h') (by decide)) (br_t h G)
theorem ef_xH_g {post : Int32 → Prop} {h : Nat} (hh : h ≤ 3) (G : post 1) : wpX_isHandle post (rt, we, wt, kc, ks, vs, bl, fr, nd, sr, sn, sv, dk, hd, wp, wi, wq) (nI h) := by
  unfold wpX_isHandle
  exact br_f (nI_pos (by omega)) (br_f (nI_nlt (a := 3) hh (by omega)) G)
theorem ef_xN_b {post : Int32 → Prop} {v : Int32} (h : v < 0 ∨ 99 < v) (G : post 0) : wpX_isName post (rt, we, wt, kc, ks, vs, bl, fr, nd, sr, sn, sv, dk, hd, wp, wi, wq) v := by
  unfold wpX_isName
  rcases h with h | h
  · exact br_t h G
  · exact br_f (fun h' => absurd (Int32.lt_trans h h') (by decide)) (br_t h G)
theorem ef_xN_g {post : Int32 → Prop} {h : Nat} (hh : h ≤ 99) (G : post 1) : wpX_isName post (rt, we, wt, kc, ks, vs, bl, fr, nd, sr, sn, sv, dk, hd, wp, wi, wq) (nI h) := by
  unfold wpX_isName
  exact br_f (nI_pos (by omega)) (br_f (nI_nlt (a := 99) hh (by omega)) G)
theorem ef_sortOf {post : Int32 → SX → Prop} {n : Nat} (hT : ef_TM rt kc ks vs bl fr sr sn sv m ms) (hM : ef_Mp m K I N pl) (hW : ef_Wf K I N C) (hn : n < 16) (hk : 0 < K n)
    (G : ∀ we wp wi, post (nI (K n)) (rt, we, wt, kc, ks, vs, bl, fr, nd, sr, sn, sv, dk, hd, wp, wi, wq)) : wpX_sortOf post (rt, we, wt, kc, ks, vs, bl, fr, nd, sr, sn, sv, dk, hd, wp, wi, wq) (nI n) := by
  unfold wpX_sortOf
  rw [ef_m256]
  have h3 := hW.2.2.1 n hn
  have e := hM.1 n hn
  rw [if_neg (by omega)] at e
  refine ef_mget hT (by omega) (fun we' wp' wi' => ?_)
  rw [e]
  simp (disch := omega) only [ef_oI, ef_sort3]
  exact G we' wp' wi'
theorem ef_dirF {post : Int32 → SX → Prop} {h : Nat} {hn : Nat → Int32} (hT : ef_TM rt kc ks vs bl fr sr sn sv m ms) (hM : ef_Mp m K I N pl) (hW : ef_Wf K I N C) (hH : ef_Hd hd hn K Hn) (hh : h ≤ 3)
    (G1 : Hn h = 16 → post (-3) (rt, we, wt, kc, ks, vs, bl, fr, nd, sr, sn, sv, dk, hd, wp, wi, wq)) (G2 : Hn h < 16 → K (Hn h) = 2 → ∀ we wp wi, post (-4) (rt, we, wt, kc, ks, vs, bl, fr, nd, sr, sn, sv, dk, hd, wp, wi, wq)) (G3 : Hn h < 16 → K (Hn h) = 1 → ∀ we wp wi, post 0 (rt, we, wt, kc, ks, vs, bl, fr, nd, sr, sn, sv, dk, hd, wp, wi, wq)) : wpX_directoryFault post (rt, we, wt, kc, ks, vs, bl, fr, nd, sr, sn, sv, dk, hd, wp, wi, wq) (nI h) := by
  obtain ⟨q1, q2, q3, q4⟩ := hH.2 h (by omega)
  unfold wpX_directoryFault
  simp (disch := omega) only [nI_clamp]
  refine ⟨vp_in_nI (by omega) (by decide), ?_⟩
  by_cases e : Hn h = 16
  · rw [q4 e]
    exact br_f ef_neg (G1 e)
  · obtain ⟨q5, q6⟩ := q3 (by omega)
    rw [q6]
    refine br_t (nI_pos' (by omega)) ⟨vp_in_nI (by omega) (by decide), ef_sortOf hT hM hW (by omega) q5 (fun we wp wi => ?_)⟩
    have h2 := (hW.2.2.1 (Hn h) (by omega)).1
    by_cases e2 : K (Hn h) = 2
    · rw [e2]
      exact br_t rfl (G2 (by omega) e2 we wp wi)
    · have e1 : K (Hn h) = 1 := by omega
      rw [e1]
      exact br_f (by decide) (G3 (by omega) e1 we wp wi)
theorem ef_fileF {post : Int32 → SX → Prop} {h : Nat} {hn : Nat → Int32} (hT : ef_TM rt kc ks vs bl fr sr sn sv m ms) (hM : ef_Mp m K I N pl) (hW : ef_Wf K I N C) (hH : ef_Hd hd hn K Hn) (hh : h ≤ 3)
    (G1 : Hn h = 16 → post (-3) (rt, we, wt, kc, ks, vs, bl, fr, nd, sr, sn, sv, dk, hd, wp, wi, wq)) (G2 : Hn h < 16 → K (Hn h) = 1 → ∀ we wp wi, post (-4) (rt, we, wt, kc, ks, vs, bl, fr, nd, sr, sn, sv, dk, hd, wp, wi, wq)) (G3 : Hn h < 16 → K (Hn h) = 2 → ∀ we wp wi, post 0 (rt, we, wt, kc, ks, vs, bl, fr, nd, sr, sn, sv, dk, hd, wp, wi, wq)) : wpX_fileFault post (rt, we, wt, kc, ks, vs, bl, fr, nd, sr, sn, sv, dk, hd, wp, wi, wq) (nI h) := by
  obtain ⟨q1, q2, q3, q4⟩ := hH.2 h (by omega)
  unfold wpX_fileFault
  simp (disch := omega) only [nI_clamp]
  refine ⟨vp_in_nI (by omega) (by decide), ?_⟩
  by_cases e : Hn h = 16
  · rw [q4 e]
    exact br_f ef_neg (G1 e)
  · obtain ⟨q5, q6⟩ := q3 (by omega)
    rw [q6]
    refine br_t (nI_pos' (by omega)) ⟨vp_in_nI (by omega) (by decide), ef_sortOf hT hM hW (by omega) q5 (fun we wp wi => ?_)⟩
    have h2 := (hW.2.2.1 (Hn h) (by omega)).1
    by_cases e2 : K (Hn h) = 2
    · rw [e2]
      exact br_f (by decide) (G3 (by omega) e2 we wp wi)
    · have e1 : K (Hn h) = 1 := by omega
      rw [e1]
      exact br_t rfl (G2 (by omega) e1 we wp wi)
/-- the value at a node's own key tells whether it is there -/
theorem ef_mnode {n : Nat} (hM : ef_Mp m K I N pl) (hW : ef_Wf K I N C) (hn : n < 16) : (K n = 0 → ef_oI (m (256 * n)) = -1) ∧ (0 < K n → ef_oI (m (256 * n)) = nI (4 * I n + K n)) := by
  have e := hM.1 n hn
  refine ⟨fun h => ?_, fun h => ?_⟩
  · rw [e, if_pos h]; rfl
  · rw [e, if_neg (by omega)]; rfl
theorem ef_freeNode {post : Int32 → SX → Prop} (hT : ef_TM rt kc ks vs bl fr sr sn sv m ms) (hM : ef_Mp m K I N pl) (hW : ef_Wf K I N C)
    (G1 : (∀ n, 1 ≤ n → n < 16 → 0 < K n) → ∀ we wp wi, post (-1) (rt, we, wt, kc, ks, vs, bl, fr, nd, sr, sn, sv, dk, hd, wp, wi, wq)) (G2 : ∀ n, 1 ≤ n → n < 16 → K n = 0 → (∀ q, 1 ≤ q → q < n → 0 < K q) → ∀ we wp wi, post (nI n) (rt, we, wt, kc, ks, vs, bl, fr, nd, sr, sn, sv, dk, hd, wp, wi, wq)) : wpX_freeNode post (rt, we, wt, kc, ks, vs, bl, fr, nd, sr, sn, sv, dk, hd, wp, wi, wq) := by
  unfold wpX_freeNode
  have lp : ∀ (d n f : Nat) (we : Int32) (wp wi : Nat → Int32), n + d = 16 → d < f → 1 ≤ n → (∀ q, 1 ≤ q → q < n → 0 < K q) → wX_freeNode_2 post f (nI n) rt we wt kc ks vs bl fr nd sr sn sv dk hd wp wi wq := by
    intro d
    induction d with
    | zero =>
      intro n f we wp wi hn hf h1 hq
      obtain ⟨f, rfl⟩ : ∃ g, f = g + 1 := ⟨f - 1, by omega⟩
      obtain rfl : n = 16 := by omega
      rw [wX_freeNode_2]
      exact br_t (by decide) (G1 hq we wp wi)
    | succ d ih =>
      intro n f we wp wi hn hf h1 hq
      obtain ⟨f, rfl⟩ : ∃ g, f = g + 1 := ⟨f - 1, by omega⟩
      rw [wX_freeNode_2]
      refine br_f (nI_ge (b := 16) (by omega) (by decide)) ?_
      rw [ef_m256]
      refine ef_mget hT (by omega) (fun we' wp' wi' => ?_)
      obtain ⟨e1, e2⟩ := ef_mnode hM hW (n := n) (by omega)
      have h3 := hW.2.2.1 n (by omega)
      by_cases e : K n = 0
      · rw [e1 e]
        exact br_f ef_neg (G2 n h1 (by omega) e hq we' wp' wi')
      · rw [e2 (by omega)]
        refine br_t (nI_pos' (by omega)) (nm_r (nI_1 n) (ih (n + 1) f we' wp' wi' (by omega) (by omega) (by omega) (fun q a b => ?_)))
        by_cases e' : q = n
        · rw [e']; omega
        · exact hq q a (by omega)
  exact ⟨16, lp 15 1 16 we wp wi (by omega) (by omega) (by omega) (fun q a b => by omega)⟩
theorem ef_xnodes {post : Int32 → SX → Prop} (hT : ef_TM rt kc ks vs bl fr sr sn sv m ms) (hM : ef_Mp m K I N pl) (hW : ef_Wf K I N C)
    (G : ∀ we wp wi, post (nI (ef_cnt (fun n => decide (0 < K n)) 0 16)) (rt, we, wt, kc, ks, vs, bl, fr, nd, sr, sn, sv, dk, hd, wp, wi, wq)) : wpX_nodes post (rt, we, wt, kc, ks, vs, bl, fr, nd, sr, sn, sv, dk, hd, wp, wi, wq) := by
  unfold wpX_nodes
  have lp : ∀ (d n f : Nat) (we : Int32) (wp wi : Nat → Int32), n + d = 16 → d < f → wX_nodes_4 post f (nI (ef_cnt (fun n => decide (0 < K n)) 0 n)) (nI n) rt we wt kc ks vs bl fr nd sr sn sv dk hd wp wi wq := by
    intro d
    induction d with
    | zero =>
      intro n f we wp wi hn hf
      obtain ⟨f, rfl⟩ : ∃ g, f = g + 1 := ⟨f - 1, by omega⟩
      obtain rfl : n = 16 := by omega
      rw [wX_nodes_4]
      exact br_t (by decide) (G we wp wi)
    | succ d ih =>
      intro n f we wp wi hn hf
      obtain ⟨f, rfl⟩ : ∃ g, f = g + 1 := ⟨f - 1, by omega⟩
      rw [wX_nodes_4]
      refine br_f (nI_ge (b := 16) (by omega) (by decide)) ?_
      rw [ef_m256]
      refine ef_mget hT (by omega) (fun we' wp' wi' => ?_)
      obtain ⟨e1, e2⟩ := ef_mnode hM hW (n := n) (by omega)
      have h3 := hW.2.2.1 n (by omega)
      have next := ih (n + 1) f we' wp' wi' (by omega) (by omega)
      unfold ef_cnt at next
      rw [Nat.zero_add] at next
      by_cases e : K n = 0
      · rw [e1 e]
        rw [if_neg (by rw [e]; decide), Nat.add_zero] at next
        exact br_t ef_neg' (nm_r (nI_1 n) next)
      · rw [e2 (by omega)]
        rw [if_pos (decide_eq_true (by omega))] at next
        exact br_f (nI_pos (by omega)) (nm_r (nI_1 _) (nm_r (nI_1 n) next))
  exact ⟨17, lp 16 0 17 we wp wi (by omega) (by omega)⟩
/-- the entries of a directory, one key after another -/
theorem ef_cnt_none {p : Nat → Bool} {a : Nat} : ∀ {k l : Nat}, l ≤ k → (∀ i, l ≤ i → i < k → p (a + i) = false) → ef_cnt p a k = ef_cnt p a l
  | 0, l, h, _ => by rw [show l = 0 from by omega]
  | k + 1, l, h, hp => by
    by_cases e : l = k + 1
    · rw [e]
    · unfold ef_cnt
      rw [hp k (by omega) (by omega), ef_cnt_none (by omega) (fun i a b => hp i a (by omega))]
      cases l <;> rfl
theorem ef_entriesOf {post : Int32 → Prop} {n : Nat} (hT : ef_TM rt kc ks vs bl fr sr sn sv m ms) (hM : ef_Mp m K I N pl) (hn : n < 16)
    (G : post (nI (ef_cnt (fun x => (m (256 * n + 1 + x)).isSome) 0 100))) : wpX_entriesOf post (rt, we, wt, kc, ks, vs, bl, fr, nd, sr, sn, sv, dk, hd, wp, wi, wq) (nI n) := by
  unfold wpX_entriesOf
  have hM4 := hM.2.2.2
  have lp : ∀ (d k : Nat), k ≤ 100 → k + d = 100 → ∀ r, ef_Nx m (256 * n + k) r → ∀ f, d < f → wX_entriesOf_12 post (nI n) rt we wt kc ks vs bl fr nd sr sn sv dk hd wp wi wq f (nI (ef_cnt (fun x => (m (256 * n + 1 + x)).isSome) 0 k)) r := by
    intro d
    induction d using Nat.strongRecOn with
    | ind d ih =>
      intro k hk hkd r hr f hf
      obtain ⟨f, rfl⟩ : ∃ g, f = g + 1 := ⟨f - 1, by omega⟩
      rw [wX_entriesOf_12]
      rcases hr with ⟨rfl, hr⟩ | ⟨q, rfl, hq1, hq2, hq3, hq4⟩
      · refine br_t ef_neg' ?_
        rw [ef_cnt_none (l := k) (by omega) (fun i a b => by rw [Nat.zero_add, hr _ (by omega)]; rfl)] at G
        exact G
      · simp only [ef_m256, ef_a128]
        refine br_f (nI_pos (by omega)) ?_
        by_cases hq : 256 * n + 128 ≤ q
        · refine br_t (nI_le hq (by omega)) ?_
          rw [ef_cnt_none (l := k) (by omega) (fun i a b => by rw [Nat.zero_add, hq4 _ (by omega) (by omega)]; rfl)] at G
          exact G
        · refine br_f (nI_ge (by omega) (by omega)) (nm_r (nI_1 _) ?_)
          have hqb := (hM4 q hq3).2
          have hq100 : q - 256 * n ≤ 100 := by omega
          refine ef_mnext hT hq1 (fun r' hr' => ?_)
          have eq : q = 256 * n + (q - 256 * n) := by omega
          have hc : ef_cnt (fun x => (m (256 * n + 1 + x)).isSome) 0 (q - 256 * n) = ef_cnt (fun x => (m (256 * n + 1 + x)).isSome) 0 k + 1 := by
            obtain ⟨e, he⟩ : ∃ e, q - 256 * n = e + 1 := ⟨q - 256 * n - 1, by omega⟩
            rw [he]
            unfold ef_cnt
            rw [Nat.zero_add, if_pos, ef_cnt_none (l := k) (k := e) (by omega) (fun i a b => by rw [Nat.zero_add, hq4 _ (by omega) (by omega)]; rfl)]
            · cases k <;> rfl
            · rw [show 256 * n + 1 + e = q from by omega]
              exact Option.isSome_iff_ne_none.mpr hq3
          rw [← hc]
          rw [eq] at hr'
          exact ih (100 - (q - 256 * n)) (by omega) (q - 256 * n) hq100 (by omega) r' hr' f (by omega)
  rw [ef_m256]
  refine ef_mnext hT (by omega) (fun r hr => ⟨101, lp 100 0 (by omega) (by omega) r hr 101 (by omega)⟩)
/-- whether one comes from a directory over parents to a node -/
theorem ef_isAbove {post : Int32 → SX → Prop} {k d : Nat} (hT : ef_TM rt kc ks vs bl fr sr sn sv m ms) (hM : ef_Mp m K I N pl) (hW : ef_Wf K I N C) (hk : 1 ≤ k) (hk2 : k < 16) (hd16 : d < 16) (hKd : 0 < K d)
    (G1 : (∃ j, ef_it I j d = k ∧ ∀ i, i < j → ef_it I i d ≠ 0 ∧ ef_it I i d ≠ k) → ∀ we wp wi, post 1 (rt, we, wt, kc, ks, vs, bl, fr, nd, sr, sn, sv, dk, hd, wp, wi, wq)) (G0 : (∃ j, ef_it I j d = 0 ∧ ∀ i, i < j → ef_it I i d ≠ 0 ∧ ef_it I i d ≠ k) → ∀ we wp wi, post 0 (rt, we, wt, kc, ks, vs, bl, fr, nd, sr, sn, sv, dk, hd, wp, wi, wq)) : wpX_isAbove post (rt, we, wt, kc, ks, vs, bl, fr, nd, sr, sn, sv, dk, hd, wp, wi, wq) (nI k) (nI d) := by
  unfold wpX_isAbove
  have itS : ∀ j n, ef_it I (j + 1) n = I (ef_it I j n) := by
    intro j
    induction j with
    | zero => intro n; rfl
    | succ j ih => intro n; exact ih (I n)
  obtain ⟨J, hJ⟩ := hW.2.2.2.2.2.2.2 d hd16 hKd
  have lp : ∀ (e j f : Nat) (we : Int32) (wp wi : Nat → Int32), j + e = J → e < f → ef_it I j d < 16 → 0 < K (ef_it I j d) → (∀ i, i < j → ef_it I i d ≠ 0 ∧ ef_it I i d ≠ k) → wX_isAbove_2 post (nI k) f (nI (ef_it I j d)) rt we wt kc ks vs bl fr nd sr sn sv dk hd wp wi wq := by
    intro e
    induction e with
    | zero =>
      intro j f we wp wi hj hf h16 hK hi
      obtain ⟨f, rfl⟩ : ∃ g, f = g + 1 := ⟨f - 1, by omega⟩
      obtain rfl : j = J := by omega
      rw [wX_isAbove_2, hJ]
      refine br_t rfl ?_
      unfold wX_isAbove_30
      exact br_f (fun h => absurd (ef_inj (a := 0) (by omega) (by omega) h) (by omega)) (G0 ⟨j, hJ, hi⟩ we wp wi)
    | succ e ih =>
      intro j f we wp wi hj hf h16 hK hi
      obtain ⟨f, rfl⟩ : ∃ g, f = g + 1 := ⟨f - 1, by omega⟩
      rw [wX_isAbove_2]
      by_cases e0 : ef_it I j d = 0
      · rw [e0]
        refine br_t rfl ?_
        unfold wX_isAbove_30
        exact br_f (fun h => absurd (ef_inj (a := 0) (by omega) (by omega) h) (by omega)) (G0 ⟨j, e0, hi⟩ we wp wi)
      · refine br_f (nI_ne0 (by omega) (by omega)) ?_
        by_cases ek : ef_it I j d = k
        · rw [ek]
          refine br_t rfl ?_
          unfold wX_isAbove_30
          exact br_t rfl (G1 ⟨j, ek, hi⟩ we wp wi)
        · refine br_f (fun h => ek (ef_inj (by omega) (by omega) h)) ?_
          rw [ef_m256]
          refine ef_mget hT (by omega) (fun we' wp' wi' => ?_)
          have h3 := hW.2.2.1 _ h16
          rw [(ef_mnode hM hW h16).2 hK, ef_par h3.2.1 (by omega)]
          refine nm_e ?_
          rw [← itS]
          refine ih (j + 1) f we' wp' wi' (by omega) (by omega) (by rw [itS]; exact h3.2.1) (by rw [itS, hW.2.2.2.1 _ (by omega) h16 hK]; omega) (fun i hi' => ?_)
          by_cases e' : i = j
          · rw [e']; exact ⟨e0, ek⟩
          · exact hi i (by omega)
  exact ⟨J + 1, lp J 0 (J + 1) we wp wi (by omega) (by omega) hd16 hKd (fun i hi => absurd hi (by omega))⟩
end
end
section
/-! the reference's loops -/
theorem ef_le0 {a : Nat} (h : a < 2 ^ 31) : nI a ≤ 0 ↔ a = 0 := by
  constructor
  · intro h'
    by_cases e : a = 0
    · exact e
    · exact absurd h' (nI_nle (by omega) h)
  · intro e
    rw [e]
    decide
def ef_oJ : Option Nat → Int32
  | none => 16
  | some j => nI j
section
variable {sg : Int32} {kd ip nm cy ok oi on oc da us hn : Nat → Int32} {K I N C K' I' N' C' Hn : Nat → Nat}
theorem ef_yH_b {post : Int32 → Prop} {v : Int32} (h : v < 0 ∨ 3 < v) (G : post 0) : wpY_isHandle post (sg, kd, ip, nm, cy, ok, oi, on, oc, da, us, hn) v := by
  unfold wpY_isHandle
  rcases h with h | h
  · exact br_t h G
  · exact br_f (fun h' => absurd (Int32.lt_trans h h') (by decide)) (br_t h G)
theorem ef_yH_g {post : Int32 → Prop} {h : Nat} (hh : h ≤ 3) (G : post 1) : wpY_isHandle post (sg, kd, ip, nm, cy, ok, oi, on, oc, da, us, hn) (nI h) := by
  unfold wpY_isHandle
  exact br_f (nI_pos (by omega)) (br_f (nI_nlt (a := 3) hh (by omega)) G)
theorem ef_yN_b {post : Int32 → Prop} {v : Int32} (h : v < 0 ∨ 99 < v) (G : post 0) : wpY_isName post (sg, kd, ip, nm, cy, ok, oi, on, oc, da, us, hn) v := by
  unfold wpY_isName
  rcases h with h | h
  · exact br_t h G
  · exact br_f (fun h' => absurd (Int32.lt_trans h h') (by decide)) (br_t h G)
theorem ef_yN_g {post : Int32 → Prop} {h : Nat} (hh : h ≤ 99) (G : post 1) : wpY_isName post (sg, kd, ip, nm, cy, ok, oi, on, oc, da, us, hn) (nI h) := by
  unfold wpY_isName
  exact br_f (nI_pos (by omega)) (br_f (nI_nlt (a := 99) hh (by omega)) G)
theorem ef_want {post : Int32 → Prop} {h κ : Nat} {hd : Nat → Int32} (hY : ef_Ya kd ip nm cy K I N C) (hW : ef_Wf K I N C) (hH : ef_Hd hd hn K Hn) (hh : h ≤ 3) (hκ : κ < 2 ^ 31)
    (G1 : Hn h = 16 → post (-3)) (G2 : Hn h < 16 → K (Hn h) = κ → post 0) (G3 : Hn h < 16 → K (Hn h) ≠ κ → post (-4)) : wpY_want post (sg, kd, ip, nm, cy, ok, oi, on, oc, da, us, hn) (nI h) (nI κ) := by
  obtain ⟨q1, q2, q3, q4⟩ := hH.2 h (by omega)
  unfold wpY_want
  simp (disch := omega) only [nI_clamp, q2]
  refine ⟨vp_in_nI (by omega) (by decide), br_c (fun e => G1 (ef_inj (b := 16) (by omega) (by omega) e)) (fun e => ?_)⟩
  have e : Hn h < 16 := by
    by_cases e' : Hn h = 16
    · exact absurd (by rw [e']; rfl) e
    · omega
  have hk := (hY.1 (Hn h) e).1
  have h2 := (hW.2.2.1 (Hn h) e).1
  simp (disch := omega) only [nI_clamp, hk]
  refine ⟨vp_in_nI (by omega) (by decide), vp_in_nI e (by decide), br_c (fun e' => G2 e (ef_inj (by omega) hκ e')) (fun e' => G3 e (fun h => e' (by rw [h])))⟩
theorem ef_yfind {post : Int32 → Prop} {d x : Nat} {o : Option Nat} (hY : ef_Ya kd ip nm cy K I N C) (hW : ef_Wf K I N C) (hd : d < 16) (hx : x < 100) (ho : ∀ j, o = some j ↔ 1 ≤ j ∧ j < 16 ∧ 0 < K j ∧ I j = d ∧ N j = x)
    (G : post (ef_oJ o)) : wpY_find post (sg, kd, ip, nm, cy, ok, oi, on, oc, da, us, hn) (nI d) (nI x) := by
  unfold wpY_find
  have lp : ∀ (e j f : Nat), j + e = 16 → e < f → 1 ≤ j → (∀ q, 1 ≤ q → q < j → o ≠ some q) → wY_find_2 post (nI d) (nI x) sg kd ip nm cy ok oi on oc da us hn f (nI j) := by
    intro e
    induction e with
    | zero =>
      intro j f hj hf h1 hq
      obtain ⟨f, rfl⟩ : ∃ g, f = g + 1 := ⟨f - 1, by omega⟩
      obtain rfl : j = 16 := by omega
      rw [wY_find_2]
      have eo : o = none := by
        cases ho' : o with
        | none => rfl
        | some q =>
          obtain ⟨a, b, _⟩ := (ho q).mp ho'
          exact absurd ho' (hq q a b)
      rw [eo] at G
      exact br_t (by decide) G
    | succ e ih =>
      intro j f hj hf h1 hq
      obtain ⟨f, rfl⟩ : ∃ g, f = g + 1 := ⟨f - 1, by omega⟩
      obtain ⟨y1, y2, y3⟩ := hY.1 j (by omega)
      obtain ⟨w1, w2, w3⟩ := hW.2.2.1 j (by omega)
      have next : o ≠ some j → wY_find_2 post (nI d) (nI x) sg kd ip nm cy ok oi on oc da us hn f (nI (j + 1)) := fun hne => ih (j + 1) f (by omega) (by omega) (by omega) (fun q a b => by
        by_cases e' : q = j
        · rw [e']; exact hne
        · exact hq q a (by omega))
      rw [wY_find_2]
      refine br_f (nI_ge (b := 16) (by omega) (by decide)) ?_
      simp (disch := omega) only [nI_clamp, y1, y2, y3, nI_1]
      refine ⟨vp_in_nI (by omega) (by decide), br_c (fun hk => nm_e (next (fun ho' => ?_))) (fun hk => ⟨vp_in_nI (by omega) (by decide), br_c (fun hi => ⟨vp_in_nI (by omega) (by decide), br_c (fun hn => ?_) (fun hn => nm_e (next (fun ho' => ?_)))⟩) (fun hi => nm_e (next (fun ho' => ?_)))⟩)⟩
      · have := (ef_le0 (by omega)).mp hk
        have := ((ho j).mp ho').2.2.1
        omega
      · have hk' : K j ≠ 0 := fun e' => hk ((ef_le0 (by omega)).mpr e')
        have eo : o = some j := (ho j).mpr ⟨h1, by omega, by omega, ef_inj (by omega) (by omega) hi, ef_inj (by omega) (by omega) hn⟩
        rw [eo] at G
        exact G
      · exact hn (congrArg nI ((ho j).mp ho').2.2.2.2)
      · exact hi (congrArg nI ((ho j).mp ho').2.2.2.1)
  exact ⟨16, lp 15 1 16 (by omega) (by omega) (by omega) (fun q a b => by omega)⟩
theorem ef_ynodes {post : Int32 → Prop} (hY : ef_Ya kd ip nm cy K I N C) (hW : ef_Wf K I N C) (G : post (nI (ef_cnt (fun n => decide (0 < K n)) 0 16))) : wpY_nodes post (sg, kd, ip, nm, cy, ok, oi, on, oc, da, us, hn) := by
  unfold wpY_nodes
  have lp : ∀ (d n f : Nat), n + d = 16 → d < f → wY_nodes_4 post sg kd ip nm cy ok oi on oc da us hn f (nI (ef_cnt (fun n => decide (0 < K n)) 0 n)) (nI n) := by
    intro d
    induction d with
    | zero =>
      intro n f hn hf
      obtain ⟨f, rfl⟩ : ∃ g, f = g + 1 := ⟨f - 1, by omega⟩
      obtain rfl : n = 16 := by omega
      rw [wY_nodes_4]
      exact br_t (by decide) G
    | succ d ih =>
      intro n f hn hf
      obtain ⟨f, rfl⟩ : ∃ g, f = g + 1 := ⟨f - 1, by omega⟩
      obtain ⟨y1, y2, y3⟩ := hY.1 n (by omega)
      obtain ⟨w1, w2, w3⟩ := hW.2.2.1 n (by omega)
      rw [wY_nodes_4]
      refine br_f (nI_ge (b := 16) (by omega) (by decide)) ?_
      have next := ih (n + 1) f (by omega) (by omega)
      unfold ef_cnt at next
      rw [Nat.zero_add] at next
      simp (disch := omega) only [nI_clamp, y1, nI_1]
      refine ⟨vp_in_nI (by omega) (by decide), br_c (fun hk => ?_) (fun hk => ?_)⟩
      · rw [if_neg (by rw [(ef_le0 (by omega)).mp hk]; decide), Nat.add_zero] at next
        exact nm_e next
      · have hk' : K n ≠ 0 := fun e' => hk ((ef_le0 (by omega)).mpr e')
        rw [if_pos (decide_eq_true (by omega))] at next
        exact nm_e (nm_e next)
  exact ⟨17, lp 16 0 17 (by omega) (by omega)⟩
theorem ef_yentries {post : Int32 → Prop} {d : Nat} (hY : ef_Ya kd ip nm cy K I N C) (hW : ef_Wf K I N C) (hd : d < 16) (G : post (nI (ef_cnt (fun j => decide (0 < K j ∧ I j = d)) 1 15))) : wpY_entries post (sg, kd, ip, nm, cy, ok, oi, on, oc, da, us, hn) (nI d) := by
  unfold wpY_entries
  have lp : ∀ (e n f : Nat), n + e = 15 → e < f → wY_entries_4 post (nI d) sg kd ip nm cy ok oi on oc da us hn f (nI (ef_cnt (fun j => decide (0 < K j ∧ I j = d)) 1 n)) (nI (1 + n)) := by
    intro e
    induction e with
    | zero =>
      intro n f hn hf
      obtain ⟨f, rfl⟩ : ∃ g, f = g + 1 := ⟨f - 1, by omega⟩
      obtain rfl : n = 15 := by omega
      rw [wY_entries_4]
      exact br_t (by decide) G
    | succ e ih =>
      intro n f hn hf
      obtain ⟨f, rfl⟩ : ∃ g, f = g + 1 := ⟨f - 1, by omega⟩
      obtain ⟨y1, y2, y3⟩ := hY.1 (1 + n) (by omega)
      obtain ⟨w1, w2, w3⟩ := hW.2.2.1 (1 + n) (by omega)
      rw [wY_entries_4]
      refine br_f (nI_ge (b := 16) (by omega) (by decide)) ?_
      have next := ih (n + 1) f (by omega) (by omega)
      unfold ef_cnt at next
      rw [← Nat.add_assoc] at next
      simp (disch := omega) only [nI_clamp, y1, y2, nI_1]
      refine ⟨vp_in_nI (by omega) (by decide), br_c (fun hk => ?_) (fun hk => ⟨vp_in_nI (by omega) (by decide), br_c (fun hi => ?_) (fun hi => ?_)⟩)⟩
      · rw [if_neg (fun h => by have := (of_decide_eq_true h).1; have := (ef_le0 (by omega)).mp hk; omega), Nat.add_zero] at next
        exact nm_e next
      · have hk' : K (1 + n) ≠ 0 := fun e' => hk ((ef_le0 (by omega)).mpr e')
        rw [if_pos (decide_eq_true ⟨by omega, ef_inj (by omega) (by omega) hi⟩)] at next
        exact nm_e (nm_e next)
      · rw [if_neg (fun h => hi (congrArg nI (of_decide_eq_true h).2)), Nat.add_zero] at next
        exact nm_e next
  exact ⟨16, lp 15 0 16 (by omega) (by omega)⟩
/-- the answer of next: the least name behind v, or none -/
def ef_Ln (K I N : Nat → Nat) (d : Nat) (v r : Int32) : Prop :=
  (r = -3 ∧ ∀ j, 1 ≤ j → j < 16 → 0 < K j → I j = d → ¬ v < nI (N j)) ∨
  ∃ q, 1 ≤ q ∧ q < 16 ∧ 0 < K q ∧ I q = d ∧ v < nI (N q) ∧ r = nI (N q) ∧ ∀ j, 1 ≤ j → j < 16 → 0 < K j → I j = d → v < nI (N j) → N q ≤ N j
theorem ef_ynext {post : Int32 → Prop} {h : Nat} {v : Int32} {hd : Nat → Int32} (hY : ef_Ya kd ip nm cy K I N C) (hW : ef_Wf K I N C) (hH : ef_Hd hd hn K Hn) (hh : h ≤ 3) (h16 : Hn h < 16) (G : ∀ r, ef_Ln K I N (Hn h) v r → post r) :
    ∃ f, wY_next_30 post (nI h) v sg kd ip nm cy ok oi on oc da us hn f 100 1 := by
  obtain ⟨q1, q2, q3, q4⟩ := hH.2 h (by omega)
  have lp : ∀ (e j f l : Nat), j + e = 16 → e < f → 1 ≤ j → (l = 100 ∨ ∃ q, 1 ≤ q ∧ q < j ∧ 0 < K q ∧ I q = Hn h ∧ v < nI (N q) ∧ l = N q) → (∀ q, 1 ≤ q → q < j → 0 < K q → I q = Hn h → v < nI (N q) → l ≤ N q) → wY_next_30 post (nI h) v sg kd ip nm cy ok oi on oc da us hn f (nI l) (nI j) := by
    intro e
    induction e with
    | zero =>
      intro j f l hj hf h1 hl hm
      obtain ⟨f, rfl⟩ : ∃ g, f = g + 1 := ⟨f - 1, by omega⟩
      obtain rfl : j = 16 := by omega
      rw [wY_next_30]
      refine br_t (by decide) ?_
      rcases hl with rfl | ⟨q, a1, a2, a3, a4, a5, rfl⟩
      · refine br_t rfl (G _ (Or.inl ⟨rfl, fun j b1 b2 b3 b4 b5 => ?_⟩))
        have := hm j b1 b2 b3 b4 b5
        have := (hW.2.2.1 j b2).2.2
        omega
      · have := (hW.2.2.1 q a2).2.2
        exact br_f (fun e => by have := ef_inj (b := 100) (by omega) (by omega) e; omega) (G _ (Or.inr ⟨q, a1, a2, a3, a4, a5, rfl, hm⟩))
    | succ e ih =>
      intro j f l hj hf h1 hl hm
      obtain ⟨f, rfl⟩ : ∃ g, f = g + 1 := ⟨f - 1, by omega⟩
      obtain ⟨y1, y2, y3⟩ := hY.1 j (by omega)
      obtain ⟨w1, w2, w3⟩ := hW.2.2.1 j (by omega)
      have hl100 : l ≤ 100 := by
        rcases hl with rfl | ⟨q, a1, a2, a3, a4, a5, rfl⟩
        · omega
        · have := (hW.2.2.1 q (by omega)).2.2
          omega
      have skip : (0 < K j → I j = Hn h → v < nI (N j) → l ≤ N j) → wY_next_30 post (nI h) v sg kd ip nm cy ok oi on oc da us hn f (nI l) (nI (j + 1)) := fun hs => ih (j + 1) f l (by omega) (by omega) (by omega) (by
        rcases hl with hl | ⟨q, a1, a2, a3⟩
        · exact Or.inl hl
        · exact Or.inr ⟨q, a1, by omega, a3⟩) (fun q b1 b2 b3 b4 b5 => by
        by_cases e' : q = j
        · rw [e'] at b3 b4 b5 ⊢; exact hs b3 b4 b5
        · exact hm q b1 (by omega) b3 b4 b5)
      rw [wY_next_30]
      refine br_f (nI_ge (b := 16) (by omega) (by decide)) ?_
      simp (disch := omega) only [nI_clamp, y1, y2, y3, nI_1, q2]
      refine ⟨vp_in_nI (by omega) (by decide), br_c (fun hk => nm_e (skip (fun h' => ?_))) (fun hk => ⟨vp_in_nI (by omega) (by decide), vp_in_nI (by omega) (by decide), br_c (fun hi => ⟨vp_in_nI (by omega) (by decide), br_c (fun hv => nm_e (skip (fun _ _ h' => ?_))) (fun hv => ⟨vp_in_nI (by omega) (by decide), br_c (fun hx => nm_e (skip (fun _ _ _ => ?_))) (fun hx => ⟨vp_in_nI (by omega) (by decide), nm_e (nm_e ?_)⟩)⟩)⟩) (fun hi => nm_e (skip (fun _ h' _ => ?_)))⟩)⟩
      · have := (ef_le0 (by omega)).mp hk
        omega
      · exact absurd h' (Int32.not_lt.mpr hv)
      · exact (nI_leI (by omega) (by omega)).mp hx
      · have hk' : K j ≠ 0 := fun e' => hk ((ef_le0 (by omega)).mpr e')
        have hx' : ¬ l ≤ N j := fun e' => hx ((nI_leI (by omega) (by omega)).mpr e')
        have hv' : v < nI (N j) := Int32.not_le.mp hv
        refine ih (j + 1) f (N j) (by omega) (by omega) (by omega) (Or.inr ⟨j, h1, by omega, by omega, ef_inj (by omega) (by omega) hi, hv', rfl⟩) (fun q b1 b2 b3 b4 b5 => ?_)
        by_cases e' : q = j
        · rw [e']; exact Nat.le_refl _
        · have := hm q b1 (by omega) b3 b4 b5
          omega
      · exact absurd (congrArg nI h') hi
  exact ⟨16, lp 15 1 16 100 (by omega) (by omega) (by omega) (Or.inl rfl) (fun q a b => by omega)⟩
theorem ef_d8 {j : Nat} (h : j < 128) : nI j / 8 = nI (j / 8) := pk_div (d := 8) (by omega) (by omega) (by omega)
/-- which copies are in use -/
theorem ef_mk42 {post : SY → Prop} {x1 : Int32} (hY : ef_Ya kd ip nm cy K I N C) (hW : ef_Wf K I N C) (hx : x1 ≠ 0) : ∀ (e j f : Nat) (us : Nat → Int32), j + e = 128 → e < f →
    (∀ us', (∀ c, us' c ≠ 0 ↔ us c ≠ 0 ∨ ∃ q, j ≤ q ∧ q < 128 ∧ K (q / 8) = 2 ∧ C q = c) → post (sg, kd, ip, nm, cy, ok, oi, on, oc, da, us', hn)) → wY_mark_42 post x1 sg f (nI j) kd ip nm cy ok oi on oc da us hn := by
  intro e
  induction e with
  | zero =>
    intro j f us hj hf G
    obtain ⟨f, rfl⟩ : ∃ g, f = g + 1 := ⟨f - 1, by omega⟩
    obtain rfl : j = 128 := by omega
    rw [wY_mark_42]
    exact br_t (by decide) (G us (fun c => ⟨Or.inl, fun h => by rcases h with h | ⟨q, a, b, _⟩; exact h; omega⟩))
  | succ e ih =>
    intro j f us hj hf G
    obtain ⟨f, rfl⟩ : ∃ g, f = g + 1 := ⟨f - 1, by omega⟩
    obtain ⟨y1, _, _⟩ := hY.1 (j / 8) (by omega)
    have y4 := hY.2 j (by omega)
    have w1 := (hW.2.2.1 (j / 8) (by omega)).1
    have w6 := (hW.2.2.2.2.2.1 (j / 8) (j % 8) (by omega) (by omega)).1
    rw [show 8 * (j / 8) + j % 8 = j from by omega] at w6
    rw [wY_mark_42]
    refine br_f (nI_ge (b := 128) (by omega) (by decide)) (br_f hx ⟨by decide, ?_⟩)
    simp (disch := omega) only [ef_d8, nI_clamp, y1, y4, nI_1, ef_nz1]
    refine ⟨vp_in_nI (by omega) (by decide), br_c (fun hk => ⟨vp_in_nI (by omega) (by decide), vp_in_nI (by omega) (by decide), nm_e (nm_e (ih (j + 1) f _ (by omega) (by omega) (fun us' h => G us' (fun c => ?_))))⟩) (fun hk => nm_e (ih (j + 1) f us (by omega) (by omega) (fun us' h => G us' (fun c => ?_))))⟩
    · have hk : K (j / 8) = 2 := ef_inj (b := 2) (by omega) (by omega) hk
      rw [h c]
      constructor
      · rintro (h1 | ⟨q, a, b, c1, c2⟩)
        · by_cases ec : c = C j
          · exact Or.inr ⟨j, by omega, by omega, hk, ec.symm⟩
          · rw [pk_un ec] at h1
            exact Or.inl h1
        · exact Or.inr ⟨q, by omega, b, c1, c2⟩
      · rintro (h1 | ⟨q, a, b, c1, c2⟩)
        · refine Or.inl ?_
          by_cases ec : c = C j
          · rw [ec, pk_us]; decide
          · rw [pk_un ec]; exact h1
        · by_cases eq : q = j
          · refine Or.inl ?_
            rw [← c2, eq, pk_us]; decide
          · exact Or.inr ⟨q, by omega, b, c1, c2⟩
    · have hk : K (j / 8) ≠ 2 := fun e' => hk (by rw [e']; rfl)
      rw [h c]
      constructor
      · rintro (h1 | ⟨q, a, b, c1, c2⟩)
        · exact Or.inl h1
        · exact Or.inr ⟨q, by omega, b, c1, c2⟩
      · rintro (h1 | ⟨q, a, b, c1, c2⟩)
        · exact Or.inl h1
        · by_cases eq : q = j
          · rw [eq] at c1; exact absurd c1 hk
          · exact Or.inr ⟨q, by omega, b, c1, c2⟩
theorem ef_mk42n {post : SY → Prop} : ∀ (e j f : Nat), j + e = 128 → e < f → post (sg, kd, ip, nm, cy, ok, oi, on, oc, da, us, hn) → wY_mark_42 post 0 sg f (nI j) kd ip nm cy ok oi on oc da us hn := by
  intro e
  induction e with
  | zero =>
    intro j f hj hf G
    obtain ⟨f, rfl⟩ : ∃ g, f = g + 1 := ⟨f - 1, by omega⟩
    obtain rfl : j = 128 := by omega
    rw [wY_mark_42]
    exact br_t (by decide) G
  | succ e ih =>
    intro j f hj hf G
    obtain ⟨f, rfl⟩ : ∃ g, f = g + 1 := ⟨f - 1, by omega⟩
    rw [wY_mark_42]
    exact br_f (nI_ge (b := 128) (by omega) (by decide)) (br_t rfl (nm_r (nI_1 j) (ih (j + 1) f (by omega) (by omega) G)))
theorem ef_mk2 {post : SY → Prop} {x1 : Int32} (hY : ef_Ya ok oi on oc K' I' N' C') (hW : ef_Wf K' I' N' C') : ∀ (e j f : Nat) (us : Nat → Int32), j + e = 128 → e < f →
    (∀ us', (∀ c, us' c ≠ 0 ↔ us c ≠ 0 ∨ ∃ q, j ≤ q ∧ q < 128 ∧ K' (q / 8) = 2 ∧ C' q = c) → ∃ f', wY_mark_42 post x1 sg f' 0 kd ip nm cy ok oi on oc da us' hn) → wY_mark_2 post x1 sg f (nI j) kd ip nm cy ok oi on oc da us hn := by
  intro e
  induction e with
  | zero =>
    intro j f us hj hf G
    obtain ⟨f, rfl⟩ : ∃ g, f = g + 1 := ⟨f - 1, by omega⟩
    obtain rfl : j = 128 := by omega
    rw [wY_mark_2]
    exact br_t (by decide) (G us (fun c => ⟨Or.inl, fun h => by rcases h with h | ⟨q, a, b, _⟩; exact h; omega⟩))
  | succ e ih =>
    intro j f us hj hf G
    obtain ⟨f, rfl⟩ : ∃ g, f = g + 1 := ⟨f - 1, by omega⟩
    obtain ⟨y1, _, _⟩ := hY.1 (j / 8) (by omega)
    have y4 := hY.2 j (by omega)
    have w1 := (hW.2.2.1 (j / 8) (by omega)).1
    have w6 := (hW.2.2.2.2.2.1 (j / 8) (j % 8) (by omega) (by omega)).1
    rw [show 8 * (j / 8) + j % 8 = j from by omega] at w6
    rw [wY_mark_2]
    refine br_f (nI_ge (b := 128) (by omega) (by decide)) ⟨by decide, ?_⟩
    simp (disch := omega) only [ef_d8, nI_clamp, y1, y4, nI_1, ef_nz1]
    refine ⟨vp_in_nI (by omega) (by decide), br_c (fun hk => ⟨vp_in_nI (by omega) (by decide), vp_in_nI (by omega) (by decide), nm_e (nm_e (ih (j + 1) f _ (by omega) (by omega) (fun us' h => G us' (fun c => ?_))))⟩) (fun hk => nm_e (ih (j + 1) f us (by omega) (by omega) (fun us' h => G us' (fun c => ?_))))⟩
    · have hk : K' (j / 8) = 2 := ef_inj (b := 2) (by omega) (by omega) hk
      rw [h c]
      constructor
      · rintro (h1 | ⟨q, a, b, c1, c2⟩)
        · by_cases ec : c = C' j
          · exact Or.inr ⟨j, by omega, by omega, hk, ec.symm⟩
          · rw [pk_un ec] at h1
            exact Or.inl h1
        · exact Or.inr ⟨q, by omega, b, c1, c2⟩
      · rintro (h1 | ⟨q, a, b, c1, c2⟩)
        · refine Or.inl ?_
          by_cases ec : c = C' j
          · rw [ec, pk_us]; decide
          · rw [pk_un ec]; exact h1
        · by_cases eq : q = j
          · refine Or.inl ?_
            rw [← c2, eq, pk_us]; decide
          · exact Or.inr ⟨q, by omega, b, c1, c2⟩
    · have hk : K' (j / 8) ≠ 2 := fun e' => hk (by rw [e']; rfl)
      rw [h c]
      constructor
      · rintro (h1 | ⟨q, a, b, c1, c2⟩)
        · exact Or.inl h1
        · exact Or.inr ⟨q, by omega, b, c1, c2⟩
      · rintro (h1 | ⟨q, a, b, c1, c2⟩)
        · exact Or.inl h1
        · by_cases eq : q = j
          · rw [eq] at c1; exact absurd c1 hk
          · exact Or.inr ⟨q, by omega, b, c1, c2⟩
theorem ef_fu2 {post : SY → Prop} {x1 : Int32} : ∀ (e j f : Nat) (us : Nat → Int32), j + e = 25 → e < f → (∀ c, c < j → us c = 0) →
    (∀ us', (∀ c, c < 25 → us' c = 0) → wpY_mark post (sg, kd, ip, nm, cy, ok, oi, on, oc, da, us', hn) x1) → wY_findUsed_2 post x1 sg f (nI j) kd ip nm cy ok oi on oc da us hn := by
  intro e
  induction e with
  | zero =>
    intro j f us hj hf hc G
    obtain ⟨f, rfl⟩ : ∃ g, f = g + 1 := ⟨f - 1, by omega⟩
    obtain rfl : j = 25 := by omega
    rw [wY_findUsed_2]
    exact br_t (by decide) (G us hc)
  | succ e ih =>
    intro j f us hj hf hc G
    obtain ⟨f, rfl⟩ : ∃ g, f = g + 1 := ⟨f - 1, by omega⟩
    rw [wY_findUsed_2]
    refine br_f (nI_nlt (a := 24) (by omega) (by omega)) ?_
    simp (disch := omega) only [nI_clamp, nI_1, ef_nz0]
    refine ⟨vp_in_nI (by omega) (by decide), nm_e (nm_e (ih (j + 1) f _ (by omega) (by omega) (fun c hc' => ?_) G))⟩
    by_cases e' : c = j
    · rw [e', pk_us]
    · rw [pk_un e']; exact hc c (by omega)
theorem ef_findUsed1 {post : SY → Prop} (hY : ef_Ya kd ip nm cy K I N C) (hW : ef_Wf K I N C) (hY' : ef_Ya ok oi on oc K' I' N' C') (hW' : ef_Wf K' I' N' C')
    (G : ∀ us', (∀ c, c < 24 → (us' c ≠ 0 ↔ ef_Us C C' c)) → post (sg, kd, ip, nm, cy, ok, oi, on, oc, da, us', hn)) : wpY_findUsed post (sg, kd, ip, nm, cy, ok, oi, on, oc, da, us, hn) 1 := by
  unfold wpY_findUsed
  refine ⟨26, ef_fu2 25 0 26 us (by omega) (by omega) (fun c hc => absurd hc (by omega)) (fun us1 h1 => ?_)⟩
  unfold wpY_mark
  refine ⟨129, ef_mk2 hY' hW' 128 0 129 us1 (by omega) (by omega) (fun us2 h2 => ⟨129, ef_mk42 hY hW (by decide) 128 0 129 us2 (by omega) (by omega) (fun us3 h3 => G us3 (fun c hc => ?_))⟩)⟩
  rw [h3 c, h2 c, h1 c (by omega)]
  have k2 : ∀ {K I N C : Nat → Nat}, ef_Wf K I N C → ∀ q, q < 128 → C q < 24 → K (q / 8) = 2 := fun {K I N C} w q hq hlt => by
    have := (w.2.2.2.2.2.1 (q / 8) (q % 8) (by omega) (by omega)).2
    rw [show 8 * (q / 8) + q % 8 = q from by omega] at this
    by_cases e : K (q / 8) = 2
    · exact e
    · have := this e; omega
  constructor
  · rintro ((h | ⟨q, _, a, b, c1⟩) | ⟨q, _, a, b, c1⟩)
    · exact absurd rfl h
    · exact ⟨hc, Or.inr ⟨q, a, c1⟩⟩
    · exact ⟨hc, Or.inl ⟨q, a, c1⟩⟩
  · rintro ⟨_, ⟨q, a, c1⟩ | ⟨q, a, c1⟩⟩
    · exact Or.inr ⟨q, by omega, a, k2 hW q a (by omega), c1⟩
    · exact Or.inl (Or.inr ⟨q, by omega, a, k2 hW' q a (by omega), c1⟩)
theorem ef_findUsed0 {post : SY → Prop} (hY' : ef_Ya ok oi on oc K' I' N' C') (hW' : ef_Wf K' I' N' C')
    (G : ∀ us', (∀ c, c < 24 → (us' c ≠ 0 ↔ ∃ q, q < 128 ∧ C' q = c)) → post (sg, kd, ip, nm, cy, ok, oi, on, oc, da, us', hn)) : wpY_findUsed post (sg, kd, ip, nm, cy, ok, oi, on, oc, da, us, hn) 0 := by
  unfold wpY_findUsed
  refine ⟨26, ef_fu2 25 0 26 us (by omega) (by omega) (fun c hc => absurd hc (by omega)) (fun us1 h1 => ?_)⟩
  unfold wpY_mark
  refine ⟨129, ef_mk2 hY' hW' 128 0 129 us1 (by omega) (by omega) (fun us2 h2 => ⟨129, ef_mk42n 128 0 129 (by omega) (by omega) (G us2 (fun c hc => ?_))⟩)⟩
  rw [h2 c, h1 c (by omega)]
  constructor
  · rintro (h | ⟨q, _, a, b, c1⟩)
    · exact absurd rfl h
    · exact ⟨q, a, c1⟩
  · rintro ⟨q, a, c1⟩
    refine Or.inr ⟨q, by omega, a, ?_, c1⟩
    have := (hW'.2.2.2.2.2.1 (q / 8) (q % 8) (by omega) (by omega)).2
    rw [show 8 * (q / 8) + q % 8 = q from by omega] at this
    by_cases e : K' (q / 8) = 2
    · exact e
    · have := this e; omega
theorem ef_ycopies {post : Int32 → SY → Prop} (hY : ef_Ya kd ip nm cy K I N C) (hW : ef_Wf K I N C) (hY' : ef_Ya ok oi on oc K' I' N' C') (hW' : ef_Wf K' I' N' C')
    (G : ∀ us', (∀ c, c < 24 → (us' c ≠ 0 ↔ ef_Us C C' c)) → post (nI (ef_cnt (fun c => decide (us' c ≠ 0)) 0 24)) (sg, kd, ip, nm, cy, ok, oi, on, oc, da, us', hn)) : wpY_copies post (sg, kd, ip, nm, cy, ok, oi, on, oc, da, us, hn) := by
  unfold wpY_copies
  refine ef_findUsed1 hY hW hY' hW' (fun us' hu => ?_)
  have lp : ∀ (d n f : Nat), n + d = 24 → d < f → wY_copies_9 post sg kd ip nm cy ok oi on oc da us' hn f (nI (ef_cnt (fun c => decide (us' c ≠ 0)) 0 n)) (nI n) := by
    intro d
    induction d with
    | zero =>
      intro n f hn hf
      obtain ⟨f, rfl⟩ : ∃ g, f = g + 1 := ⟨f - 1, by omega⟩
      obtain rfl : n = 24 := by omega
      rw [wY_copies_9]
      exact br_t (by decide) (G us' hu)
    | succ d ih =>
      intro n f hn hf
      obtain ⟨f, rfl⟩ : ∃ g, f = g + 1 := ⟨f - 1, by omega⟩
      rw [wY_copies_9]
      refine br_f (nI_ge (b := 24) (by omega) (by decide)) ?_
      have next := ih (n + 1) f (by omega) (by omega)
      unfold ef_cnt at next
      rw [Nat.zero_add] at next
      simp (disch := omega) only [nI_clamp, nI_1]
      refine ⟨vp_in_nI (by omega) (by decide), br_c (fun hk => ?_) (fun hk => ?_)⟩
      · rw [if_neg (by rw [hk]; decide), Nat.add_zero] at next
        exact nm_e next
      · rw [if_pos (decide_eq_true hk)] at next
        exact nm_e (nm_e next)
  exact ⟨25, lp 24 0 25 (by omega) (by omega)⟩
end
end
section
/-! counting by pairs; the relation; the calls that only read -/
theorem ef_cnt_list {p : Nat → Bool} {a : Nat} : ∀ {k : Nat}, ef_cnt p a k = (((List.range k).map (a + ·)).filter p).length
  | 0 => rfl
  | k + 1 => by
    unfold ef_cnt
    rw [List.range_succ, List.map_append, List.filter_append, List.length_append, ef_cnt_list]
    simp only [List.map_cons, List.map_nil, List.filter_cons, List.filter_nil]
    split <;> rfl
theorem ef_cnt_mem {p : Nat → Bool} {a k x : Nat} : x ∈ ((List.range k).map (a + ·)).filter p ↔ (∃ i, i < k ∧ x = a + i) ∧ p x = true := by
  rw [List.mem_filter, List.mem_map]
  constructor
  · rintro ⟨⟨i, hi, rfl⟩, h⟩
    exact ⟨⟨i, List.mem_range.mp hi, rfl⟩, h⟩
  · rintro ⟨⟨i, hi, rfl⟩, h⟩
    exact ⟨⟨i, List.mem_range.mpr hi, rfl⟩, h⟩
theorem ef_nodup_map {f : Nat → Nat} : ∀ {l : List Nat}, l.Nodup → (∀ x ∈ l, ∀ y ∈ l, f x = f y → x = y) → (l.map f).Nodup
  | [], _, _ => List.nodup_nil
  | a :: l, h, hf => by
    rw [List.nodup_cons] at h
    rw [List.map_cons, List.nodup_cons]
    refine ⟨fun hm => ?_, ef_nodup_map h.2 (fun x hx y hy => hf x (List.mem_cons_of_mem _ hx) y (List.mem_cons_of_mem _ hy))⟩
    obtain ⟨b, hb, e⟩ := List.mem_map.mp hm
    have := hf b (List.mem_cons_of_mem _ hb) a (List.mem_cons_self ..) e
    exact h.1 (this ▸ hb)
theorem ef_cnt_nd {p : Nat → Bool} {a k : Nat} : (((List.range k).map (a + ·)).filter p).Nodup :=
  (ef_nodup_map List.nodup_range (fun x _ y _ e => by omega)).sublist List.filter_sublist
theorem ef_cnt_bij {p q : Nat → Bool} {a A b B : Nat} (f : Nat → Nat) (h1 : ∀ x, a ≤ x → x < a + A → p x = true → b ≤ f x ∧ f x < b + B ∧ q (f x) = true) (h2 : ∀ x y, a ≤ x → x < a + A → p x = true → a ≤ y → y < a + A → p y = true → f x = f y → x = y)
    (h3 : ∀ y, b ≤ y → y < b + B → q y = true → ∃ x, a ≤ x ∧ x < a + A ∧ p x = true ∧ f x = y) : ef_cnt p a A = ef_cnt q b B := by
  rw [ef_cnt_list, ef_cnt_list]
  have nd : ((((List.range A).map (a + ·)).filter p).map f).Nodup := ef_nodup_map ef_cnt_nd (fun x hx y hy e => by
    obtain ⟨⟨i, hi, rfl⟩, px⟩ := ef_cnt_mem.mp hx
    obtain ⟨⟨j, hj, rfl⟩, py⟩ := ef_cnt_mem.mp hy
    exact h2 _ _ (by omega) (by omega) px (by omega) (by omega) py e)
  have s1 : ((((List.range A).map (a + ·)).filter p).map f).length ≤ (((List.range B).map (b + ·)).filter q).length := List.Nodup.length_le_of_subset nd (fun y hy => by
    obtain ⟨x, hx, rfl⟩ := List.mem_map.mp hy
    obtain ⟨⟨i, hi, rfl⟩, px⟩ := ef_cnt_mem.mp hx
    obtain ⟨r1, r2, r3⟩ := h1 _ (by omega) (by omega) px
    exact ef_cnt_mem.mpr ⟨⟨f (a + i) - b, by omega, by omega⟩, r3⟩)
  have s2 : (((List.range B).map (b + ·)).filter q).length ≤ ((((List.range A).map (a + ·)).filter p).map f).length := List.Nodup.length_le_of_subset ef_cnt_nd (fun y hy => by
    obtain ⟨⟨i, hi, rfl⟩, qy⟩ := ef_cnt_mem.mp hy
    obtain ⟨x, x1, x2, x3, x4⟩ := h3 _ (by omega) (by omega) qy
    exact List.mem_map.mpr ⟨x, ef_cnt_mem.mpr ⟨⟨x - a, by omega, by omega⟩, x3⟩, x4⟩)
  rw [List.length_map] at s1 s2
  omega
theorem ef_pc_cnt {n : Nat} : ∀ {b : Nat}, ef_pc n b = ef_cnt (fun i => n.testBit i) 0 b
  | 0 => rfl
  | b + 1 => by
    unfold ef_pc ef_cnt
    rw [ef_pc_cnt, Nat.zero_add, Nat.testBit_eq_decide_div_mod_eq]
    by_cases h : n / 2 ^ b % 2 = 1
    · rw [if_pos (decide_eq_true h), h]
    · rw [if_neg (fun h' => h (of_decide_eq_true h'))]
      omega
theorem ef_cnt_pos {p : Nat → Bool} {a : Nat} : ∀ {k : Nat}, 0 < ef_cnt p a k ↔ ∃ x, a ≤ x ∧ x < a + k ∧ p x = true
  | 0 => by
    unfold ef_cnt
    exact ⟨fun h => by omega, fun ⟨x, h1, h2, _⟩ => by omega⟩
  | k + 1 => by
    unfold ef_cnt
    by_cases h : p (a + k) = true
    · rw [if_pos h]
      exact ⟨fun _ => ⟨a + k, by omega, by omega, h⟩, fun _ => by omega⟩
    · rw [if_neg h, Nat.add_zero, ef_cnt_pos]
      exact ⟨fun ⟨x, h1, h2, h3⟩ => ⟨x, h1, by omega, h3⟩, fun ⟨x, h1, h2, h3⟩ => ⟨x, h1, by
        by_cases e : x = a + k
        · rw [e] at h3; exact absurd h3 h
        · omega, h3⟩⟩
theorem ef_entries_eq {m : Nat → Option Nat} {K F N C : Nat → Nat} {pl : Nat → Nat → Option Nat} {n : Nat} (hM : ef_Mp m K F N pl) (hW : ef_Wf K F N C) (hn : n < 16) :
    ef_cnt (fun j => decide (0 < K j ∧ F j = n)) 1 15 = ef_cnt (fun x => (m (256 * n + 1 + x)).isSome) 0 100 := by
  have some' : ∀ j, 1 ≤ j → j < 16 → 0 < K j → F j = n → m (256 * n + 1 + N j) = some j := fun j a b c d => (hM.2.1 n (N j) j hn (hW.2.2.1 j b).2.2).mpr ⟨a, b, c, d, rfl⟩
  refine ef_cnt_bij N (fun j a b c => ?_) (fun j j' a b c a' b' c' e => ?_) (fun x a b c => ?_)
  · obtain ⟨c1, c2⟩ := of_decide_eq_true c
    exact ⟨by omega, by have := (hW.2.2.1 j (by omega)).2.2; omega, by rw [some' j a (by omega) c1 c2]; rfl⟩
  · obtain ⟨c1, c2⟩ := of_decide_eq_true c
    obtain ⟨d1, d2⟩ := of_decide_eq_true c'
    exact hW.2.2.2.2.1 j j' a (by omega) a' (by omega) c1 d1 (by omega) e
  · obtain ⟨j, hj⟩ := Option.isSome_iff_exists.mp c
    obtain ⟨r1, r2, r3, r4, r5⟩ := (hM.2.1 n x j hn (by omega)).mp hj
    exact ⟨j, r1, by omega, decide_eq_true ⟨r3, r4⟩, r5⟩
/-- the bits of both trees are as many as the copies in use -/
theorem ef_copies_eq {m ms : Nat → Option Nat} {K F N C K' F' N' C' φ : Nat → Nat} {dk da us : Nat → Int32} {n1 n2 : Nat} (hM : ef_Mp m K F N (ef_pl φ C)) (hM' : ef_Mp ms K' F' N' (ef_pl φ C')) (hP : ef_Ph φ C C' dk da)
    (h1 : ∀ b, n1.testBit b = true ↔ ∃ k v, m k = some v ∧ ef_cov (k, v) b) (h2 : ∀ b, n2.testBit b = true ↔ ∃ k v, ms k = some v ∧ ef_cov (k, v) b) (hu : ∀ c, c < 24 → (us c ≠ 0 ↔ ef_Us C C' c)) :
    (∀ b, (n1 ||| n2).testBit b = true ↔ ∃ c, ef_Us C C' c ∧ φ c = b) ∧ ef_cnt (fun c => decide (us c ≠ 0)) 0 24 = ef_pc (n1 ||| n2) 48 := by
  have pl' : ∀ {C : Nat → Nat} b, (∃ n c, n < 16 ∧ c < 8 ∧ ef_pl φ C n c = some b) ↔ ∃ j, j < 128 ∧ C j < 24 ∧ φ (C j) = b := fun {C} b => by
    constructor
    · rintro ⟨n, c, a1, a2, e⟩
      unfold ef_pl at e
      by_cases d : C (8 * n + c) < 24
      · rw [if_pos d] at e
        exact ⟨8 * n + c, by omega, d, Option.some.inj e⟩
      · rw [if_neg d] at e; cases e
    · rintro ⟨j, a1, a2, e⟩
      refine ⟨j / 8, j % 8, by omega, by omega, ?_⟩
      unfold ef_pl
      rw [show 8 * (j / 8) + j % 8 = j from by omega, if_pos a2, e]
  have hb : ∀ b, (n1 ||| n2).testBit b = true ↔ ∃ c, ef_Us C C' c ∧ φ c = b := fun b => by
    rw [Nat.testBit_or, Bool.or_eq_true, h1, h2, ef_Mp_cov hM, ef_Mp_cov hM', pl', pl']
    constructor
    · rintro (⟨j, a1, a2, a3⟩ | ⟨j, a1, a2, a3⟩)
      · exact ⟨C j, ⟨a2, Or.inl ⟨j, a1, rfl⟩⟩, a3⟩
      · exact ⟨C' j, ⟨a2, Or.inr ⟨j, a1, rfl⟩⟩, a3⟩
    · rintro ⟨c, ⟨a1, ⟨j, a2, a3⟩ | ⟨j, a2, a3⟩⟩, a4⟩
      · exact Or.inl ⟨j, a2, by omega, by rw [a3]; exact a4⟩
      · exact Or.inr ⟨j, a2, by omega, by rw [a3]; exact a4⟩
  refine ⟨hb, ?_⟩
  rw [ef_pc_cnt]
  refine ef_cnt_bij φ (fun c _ a b => ?_) (fun c c' _ a b _ a' b' e => ?_) (fun y _ a b => ?_)
  · have := (hu c (by omega)).mp (of_decide_eq_true b)
    exact ⟨by omega, by have := hP.1 c this; omega, (hb _).mpr ⟨c, this, rfl⟩⟩
  · exact hP.2.1 c c' ((hu c (by omega)).mp (of_decide_eq_true b)) ((hu c' (by omega)).mp (of_decide_eq_true b')) e
  · obtain ⟨c, hc, e⟩ := (hb y).mp b
    exact ⟨c, by omega, by have := hc.1; omega, decide_eq_true ((hu c hc.1).mpr hc), e⟩
/-- the relation at the head of a turn whose first cell is k -/
def i_Rel (k : Nat) (u : SX) (v : SY) : Prop := match u with
  | (rt, _, _, kc, ks, vs, bl, fr, _, sr, sn, sv, dk, hd, _, _, _) => match v with
    | (sg, kd, ip, nm, cy, ok, oi, on, oc, da, _, hn) => ef_Rel k rt kc ks vs bl fr sr sn sv dk hd sg kd ip nm cy ok oi on oc da hn
theorem ef_Rel_up {k : Nat} {rt : Int32} {kc ks vs bl fr sr sn sv dk hd : Nat → Int32} {sg : Int32} {kd ip nm cy ok oi on oc da hn : Nat → Int32} (h : ef_Rel k rt kc ks vs bl fr sr sn sv dk hd sg kd ip nm cy ok oi on oc da hn) :
    ef_Rel (k + 5) rt kc ks vs bl fr sr sn sv dk hd sg kd ip nm cy ok oi on oc da hn := by
  obtain ⟨m, ms, K, I, N, C, K', I', N', C', φ, Hn, p, s, h1, h2, h3, h4⟩ := h
  exact ⟨m, ms, K, I, N, C, K', I', N', C', φ, Hn, p, s, h1, h2, by omega, h4⟩
theorem i_up {k : Nat} {u : SX} {v : SY} (h : i_Rel k u v) : i_Rel (k + 5) u v := by
  obtain ⟨rt, we, wt, kc, ks, vs, bl, fr, nd, sr, sn, sv, dk, hd, wp, wi, wq⟩ := u
  obtain ⟨sg, kd, ip, nm, cy, ok, oi, on, oc, da, us, hn⟩ := v
  exact ef_Rel_up h
theorem i_vc_nodes {k : Nat} {u : SX} {v : SY} (I : i_Rel k u v) (hk : k + 5 ≤ 2560) : wpX_nodes (fun r u' => wpY_nodes (fun r' => r' = r ∧ i_Rel (k + 5) u' v) v) u := by
  obtain ⟨rt, we, wt, kc, ks, vs, bl, fr, nd, sr, sn, sv, dk, hd, wp, wi, wq⟩ := u
  obtain ⟨sg, kd, ip, nm, cy, ok, oi, on, oc, da, us, hn⟩ := v
  have J : ∀ we wt nd wp wi wq us, i_Rel (k + 5) (rt, we, wt, kc, ks, vs, bl, fr, nd, sr, sn, sv, dk, hd, wp, wi, wq) (sg, kd, ip, nm, cy, ok, oi, on, oc, da, us, hn) := fun _ _ _ _ _ _ _ => ef_Rel_up I
  obtain ⟨m, ms, K, F, N, C, K', F', N', C', φ, Hn, p, s, hT, hV, hs, eg, hY, hY', hW, hW', hM, hM', hP, hH⟩ := I
  exact ef_xnodes hT hM hW (fun we wp wi => ef_ynodes hY hW ⟨rfl, J we wt nd wp wi wq us⟩)
theorem i_vc_kind {k : Nat} {u : SX} {v : SY} (I : i_Rel k u v) (hk : k + 5 ≤ 2560) (v1 : Int32) : wpX_kind (fun r u' => wpY_kind (fun r' => r' = r ∧ i_Rel (k + 5) u' v) v v1) u v1 := by
  obtain ⟨rt, we, wt, kc, ks, vs, bl, fr, nd, sr, sn, sv, dk, hd, wp, wi, wq⟩ := u
  obtain ⟨sg, kd, ip, nm, cy, ok, oi, on, oc, da, us, hn⟩ := v
  have J : ∀ we wt nd wp wi wq us, i_Rel (k + 5) (rt, we, wt, kc, ks, vs, bl, fr, nd, sr, sn, sv, dk, hd, wp, wi, wq) (sg, kd, ip, nm, cy, ok, oi, on, oc, da, us, hn) := fun _ _ _ _ _ _ _ => ef_Rel_up I
  obtain ⟨m, ms, K, F, N, C, K', F', N', C', φ, Hn, p, s, hT, hV, hs, eg, hY, hY', hW, hW', hM, hM', hP, hH⟩ := I
  unfold wpX_kind
  rcases ef_dec (v := v1) (n := 3) (by omega) with hb | ⟨h, hh, rfl⟩
  · refine ef_xH_b hb (br_t rfl ?_)
    unfold wpY_kind
    exact ef_yH_b hb (br_t rfl ⟨rfl, J we wt nd wp wi wq us⟩)
  · obtain ⟨q1, q2, q3, q4⟩ := hH.2 h (by omega)
    refine ef_xH_g hh (br_f (by decide) ?_)
    simp (disch := omega) only [nI_clamp]
    refine ⟨vp_in_nI (by omega) (by decide), ?_⟩
    by_cases e : Hn h = 16
    · rw [q4 e]
      refine br_f ef_neg ?_
      unfold wpY_kind
      refine ef_yH_g hh (br_f (by decide) ?_)
      simp (disch := omega) only [nI_clamp, q2, e]
      exact ⟨vp_in_nI (by omega) (by decide), br_t rfl ⟨by trivial, J we wt nd wp wi wq us⟩⟩
    · obtain ⟨q5, q6⟩ := q3 (by omega)
      rw [q6]
      refine br_t (nI_pos' (by omega)) ⟨vp_in_nI (by omega) (by decide), ef_sortOf hT hM hW (by omega) q5 (fun we wp wi => ?_)⟩
      unfold wpY_kind
      refine ef_yH_g hh (br_f (by decide) ?_)
      have y1 := (hY.1 (Hn h) (by omega)).1
      simp (disch := omega) only [nI_clamp, q2, y1]
      exact ⟨vp_in_nI (by omega) (by decide), br_f (fun h' => e (ef_inj (b := 16) (by omega) (by omega) h')) ⟨vp_in_nI (by omega) (by decide), vp_in_nI (by omega) (by decide), by trivial, J we wt nd wp wi wq us⟩⟩
theorem i_vc_copies {k : Nat} {u : SX} {v : SY} (I : i_Rel k u v) (hk : k + 5 ≤ 2560) : wpX_copies (fun r u' => wpY_copies (fun r' v' => r' = r ∧ i_Rel (k + 5) u' v') v) u := by
  obtain ⟨rt, we, wt, kc, ks, vs, bl, fr, nd, sr, sn, sv, dk, hd, wp, wi, wq⟩ := u
  obtain ⟨sg, kd, ip, nm, cy, ok, oi, on, oc, da, us, hn⟩ := v
  have J : ∀ we wt nd wp wi wq us, i_Rel (k + 5) (rt, we, wt, kc, ks, vs, bl, fr, nd, sr, sn, sv, dk, hd, wp, wi, wq) (sg, kd, ip, nm, cy, ok, oi, on, oc, da, us, hn) := fun _ _ _ _ _ _ _ => ef_Rel_up I
  obtain ⟨m, ms, K, F, N, C, K', F', N', C', φ, Hn, p, s, hT, hV, hs, eg, hY, hY', hW, hW', hM, hM', hP, hH⟩ := I
  unfold wpX_copies
  refine ef_validPlace ?_
  refine ef_mblk hT (ef_Mp_bd hM) (fun n1 wt1 wq1 a1 a2 => ?_)
  have hv := ef_vpl_lt sn sv
  dsimp only
  rw [nI_clamp (by omega)]
  refine ⟨vp_in_nI hv (by decide), ef_mblkS hT (ef_Mp_bd hM') (fun n2 wt2 wq2 b1 b2 => ?_)⟩
  dsimp only
  rw [wb_or (by omega) (by omega)]
  refine nm_e (ef_bits (Nat.or_lt_two_pow a1 b1) ?_)
  refine ef_ycopies hY hW hY' hW' (fun us' hu => ⟨?_, J we wt2 nd wp wi wq2 us'⟩)
  rw [(ef_copies_eq hM hM' hP a2 b2 hu).2]
end
section
/-! read, next, size, open -/
theorem ef_shr2 {c : Nat} (h : c < 1000) : nI c >>> ((2 : Int32) &&& 31) = nI (c / 4) := pk_shrN (by omega) _ 2 (by decide)
theorem ef_and3 {c : Nat} (h : c < 1000) : nI c &&& 3 = nI (c % 4) := pk_andN (by omega) 2 (by decide)
theorem ef_dv4 {c : Nat} (h : c < 1000) : nI c / 4 = nI (c / 4) := pk_div (d := 4) (by omega) (by omega) (by omega)
theorem ef_rm4 {c : Nat} (h : c < 1000) : nI c - nI (c / 4) * 4 = nI (c % 4) := by
  have := pk_rem (a := c) (d := 4) (by omega) (by omega) (by omega)
  rw [pk_div (by omega) (by omega) (by omega)] at this
  exact this
theorem i_vc_read {k : Nat} {u : SX} {v : SY} (I : i_Rel k u v) (hk : k + 5 ≤ 2560) (v1 : Int32) (v2 : Int32) : wpX_read (fun r u' => wpY_read (fun r' => r' = r ∧ i_Rel (k + 5) u' v) v v1 v2) u v1 v2 := by
  obtain ⟨rt, we, wt, kc, ks, vs, bl, fr, nd, sr, sn, sv, dk, hd, wp, wi, wq⟩ := u
  obtain ⟨sg, kd, ip, nm, cy, ok, oi, on, oc, da, us, hn⟩ := v
  have J : ∀ we wt nd wp wi wq us, i_Rel (k + 5) (rt, we, wt, kc, ks, vs, bl, fr, nd, sr, sn, sv, dk, hd, wp, wi, wq) (sg, kd, ip, nm, cy, ok, oi, on, oc, da, us, hn) := fun _ _ _ _ _ _ _ => ef_Rel_up I
  obtain ⟨m, ms, K, F, N, C, K', F', N', C', φ, Hn, p, s, hT, hV, hs, eg, hY, hY', hW, hW', hM, hM', hP, hH⟩ := I
  unfold wpX_read
  rcases ef_dec (v := v1) (n := 3) (by omega) with hb | ⟨h, hh, rfl⟩
  · refine ef_xH_b hb (br_t rfl ?_)
    unfold wpY_read
    exact ef_yH_b hb (br_t rfl ⟨rfl, J we wt nd wp wi wq us⟩)
  obtain ⟨q1, q2, q3, q4⟩ := hH.2 h (by omega)
  refine ef_xH_g hh (br_f (by decide) ?_)
  refine br_c (fun c0 => ?_) (fun c0 => br_c (fun c1 => ?_) (fun c1 => ?_))
  · unfold wpY_read
    exact ef_yH_g hh (br_f (by decide) (br_t c0 ⟨rfl, J we wt nd wp wi wq us⟩))
  · unfold wpY_read
    exact ef_yH_g hh (br_f (by decide) (br_f c0 (br_t c1 ⟨rfl, J we wt nd wp wi wq us⟩)))
  obtain ⟨c, hc, rfl⟩ : ∃ c, c ≤ 31 ∧ v2 = nI c := by
    rcases ef_dec (v := v2) (n := 31) (by omega) with (h | h) | h
    · exact absurd h c0
    · exact absurd h c1
    · exact h
  simp (disch := omega) only [nI_clamp, ef_shr2, ef_and3]
  refine ⟨vp_in_nI (by omega) (by decide), ?_⟩
  by_cases e : Hn h = 16
  · rw [q4 e]
    refine br_t ef_neg' ?_
    unfold wpY_read
    refine ef_yH_g hh (br_f (by decide) (br_f c0 (br_f c1 ?_)))
    exact ef_want (κ := 2) hY hW hH hh (by decide) (fun _ => br_f (by decide) ⟨rfl, J we wt nd wp wi wq us⟩) (fun h' _ => by omega) (fun h' _ => by omega)
  obtain ⟨q5, q6⟩ := q3 (by omega)
  have w2 := (hW.2.2.1 (Hn h) (by omega)).1
  rw [q6]
  refine br_f (nI_pos (by omega)) ⟨vp_in_nI (by omega) (by decide), ef_sortOf hT hM hW (by omega) q5 (fun we wp wi => ?_)⟩
  refine br_c (fun e1 => ?_) (fun e1 => ?_)
  · have e1 : K (Hn h) = 1 := ef_inj (b := 1) (by omega) (by omega) e1
    unfold wpY_read
    refine ef_yH_g hh (br_f (by decide) (br_f c0 (br_f c1 ?_)))
    exact ef_want (κ := 2) hY hW hH hh (by decide) (fun h' => by omega) (fun _ h' => by omega) (fun _ _ => br_f (by decide) ⟨rfl, J we wt nd wp wi wq us⟩)
  have e2 : K (Hn h) = 2 := by
    have : K (Hn h) ≠ 1 := fun h' => e1 (by rw [h']; rfl)
    omega
  dsimp only
  rw [q6]
  refine ⟨vp_in_nI (by omega) (by decide), ef_placeOf hT hM (by omega) (by omega) (fun we wp wi => ?_)⟩
  have w6 := (hW.2.2.2.2.2.1 (Hn h) (c / 4) (by omega) (by omega)).1
  have y4 := hY.2 (8 * Hn h + c / 4) (by omega)
  have yside : ∀ r u', (C (8 * Hn h + c / 4) = 24 → 0 = r) → (C (8 * Hn h + c / 4) < 24 → da (4 * C (8 * Hn h + c / 4) + c % 4) = r) → i_Rel (k + 5) u' (sg, kd, ip, nm, cy, ok, oi, on, oc, da, us, hn) → wpY_read (fun r' => r' = r ∧ i_Rel (k + 5) u' (sg, kd, ip, nm, cy, ok, oi, on, oc, da, us, hn)) (sg, kd, ip, nm, cy, ok, oi, on, oc, da, us, hn) (nI h) (nI c) := fun r u' g1 g2 g3 => by
    unfold wpY_read
    refine ef_yH_g hh (br_f (by decide) (br_f c0 (br_f c1 ?_)))
    refine ef_want (κ := 2) hY hW hH hh (by decide) (fun h' => by omega) (fun _ _ => br_t rfl ?_) (fun _ h' => by omega)
    simp (disch := omega) only [nI_clamp, q2, ef_dv4, ef_m8, nI_add, y4, ef_rm4, ef_m4]
    refine ⟨vp_in_nI (by omega) (by decide), by decide, vp_in_nI (by omega) (by decide), nm_e (br_c (fun e24 => ?_) (fun e24 => ⟨by decide, ?_⟩))⟩
    · exact ⟨g1 (ef_inj (b := 24) (by omega) (by omega) e24), g3⟩
    · have : C (8 * Hn h + c / 4) ≠ 24 := fun h' => e24 (by rw [h']; rfl)
      simp (disch := omega) only [nI_clamp, ef_m4, nI_add]
      exact ⟨vp_in_nI (by omega) (by decide), g2 (by omega), g3⟩
  dsimp only
  unfold ef_pl
  by_cases e24 : C (8 * Hn h + c / 4) < 24
  · rw [if_pos e24]
    have hus : ef_Us C C' (C (8 * Hn h + c / 4)) := ⟨e24, Or.inl ⟨8 * Hn h + c / 4, by omega, rfl⟩⟩
    have hφ := hP.1 _ hus
    refine br_t (nI_pos' (by omega)) ?_
    simp (disch := omega) only [ef_oI, ef_m4, nI_add, nI_clamp]
    refine ⟨vp_in_nI (by omega) (by decide), yside _ _ (fun h' => by omega) (fun _ => ?_) (J we wt nd wp wi wq us)⟩
    exact (hP.2.2 _ _ hus (by omega)).symm
  · rw [if_neg e24]
    exact br_f ef_neg (yside _ _ (fun _ => rfl) (fun h' => absurd h' e24) (J we wt nd wp wi wq us))
theorem ef_next_eq {m : Nat → Option Nat} {K F N C : Nat → Nat} {pl : Nat → Nat → Option Nat} {n a : Nat} {v rX rY : Int32} (hM : ef_Mp m K F N pl) (hW : ef_Wf K F N C) (hn : n < 16) (ha : a ≤ 100) (hv : ∀ y, y < 100 → (v < nI y ↔ a ≤ y)) (hX : ef_Nx m (256 * n + a) rX) (hY : ef_Ln K F N n v rY) :
    (rX < 0 ∧ rY = -3) ∨ (∃ q, rX = nI q ∧ q < 32768 ∧ 256 * n + 128 ≤ q ∧ rY = -3) ∨ ∃ y, y < 100 ∧ rX = nI (256 * n + 1 + y) ∧ rY = nI y := by
  have some' : ∀ j, 1 ≤ j → j < 16 → 0 < K j → F j = n → m (256 * n + 1 + N j) = some j := fun j a b c d => (hM.2.1 n (N j) j hn (hW.2.2.1 j b).2.2).mpr ⟨a, b, c, d, rfl⟩
  rcases hX with ⟨rfl, h⟩ | ⟨q, rfl, h1, h2, h3, h4⟩
  · refine Or.inl ⟨ef_neg', ?_⟩
    rcases hY with ⟨e, _⟩ | ⟨q, a1, a2, a3, a4, a5, _⟩
    · exact e
    · have hN := (hW.2.2.1 q a2).2.2
      have := (hv (N q) hN).mp a5
      have e1 := h (256 * n + 1 + N q) (by omega)
      rw [some' q a1 a2 a3 a4] at e1
      cases e1
  · by_cases hq : 256 * n + 128 ≤ q
    · refine Or.inr (Or.inl ⟨q, rfl, h1, hq, ?_⟩)
      rcases hY with ⟨e, _⟩ | ⟨j, a1, a2, a3, a4, a5, _⟩
      · exact e
      · have hN := (hW.2.2.1 j a2).2.2
        have := (hv (N j) hN).mp a5
        have e1 := h4 (256 * n + 1 + N j) (by omega) (by omega)
        rw [some' j a1 a2 a3 a4] at e1
        cases e1
    · have hb := (hM.2.2.2 q h3).2
      obtain ⟨y, hy, ey⟩ : ∃ y, y < 100 ∧ q = 256 * n + 1 + y := ⟨q - (256 * n + 1), by omega, by omega⟩
      refine Or.inr (Or.inr ⟨y, hy, by rw [ey], ?_⟩)
      obtain ⟨j0, hj0⟩ := Option.ne_none_iff_exists'.mp h3
      rw [ey] at hj0
      obtain ⟨b1, b2, b3, b4, b5⟩ := (hM.2.1 n y j0 hn hy).mp hj0
      have hvy : v < nI (N j0) := by rw [b5]; exact (hv y hy).mpr (by omega)
      rcases hY with ⟨_, e⟩ | ⟨j, a1, a2, a3, a4, a5, a6, a7⟩
      · exact absurd hvy (e j0 b1 b2 b3 b4)
      · have l1 := a7 j0 b1 b2 b3 b4 hvy
        have hN := (hW.2.2.1 j a2).2.2
        have l2 : y ≤ N j := by
          by_cases hlt : N j < y
          · have := (hv (N j) hN).mp a5
            have e1 := h4 (256 * n + 1 + N j) (by omega) (by omega)
            rw [some' j a1 a2 a3 a4] at e1
            cases e1
          · omega
        rw [a6]
        exact congrArg nI (by omega)
theorem i_vc_next {k : Nat} {u : SX} {v : SY} (I : i_Rel k u v) (hk : k + 5 ≤ 2560) (v1 : Int32) (v2 : Int32) : wpX_next (fun r u' => wpY_next (fun r' => r' = r ∧ i_Rel (k + 5) u' v) v v1 v2) u v1 v2 := by
  obtain ⟨rt, we, wt, kc, ks, vs, bl, fr, nd, sr, sn, sv, dk, hd, wp, wi, wq⟩ := u
  obtain ⟨sg, kd, ip, nm, cy, ok, oi, on, oc, da, us, hn⟩ := v
  have J : ∀ we wt nd wp wi wq us, i_Rel (k + 5) (rt, we, wt, kc, ks, vs, bl, fr, nd, sr, sn, sv, dk, hd, wp, wi, wq) (sg, kd, ip, nm, cy, ok, oi, on, oc, da, us, hn) := fun _ _ _ _ _ _ _ => ef_Rel_up I
  obtain ⟨m, ms, K, F, N, C, K', F', N', C', φ, Hn, p, s, hT, hV, hs, eg, hY, hY', hW, hW', hM, hM', hP, hH⟩ := I
  unfold wpX_next
  rcases ef_dec (v := v1) (n := 3) (by omega) with hb | ⟨h, hh, rfl⟩
  · refine ef_xH_b hb (br_t rfl ?_)
    unfold wpY_next
    exact ef_yH_b hb (br_t rfl ⟨rfl, J we wt nd wp wi wq us⟩)
  obtain ⟨q1, q2, q3, q4⟩ := hH.2 h (by omega)
  refine ef_xH_g hh (br_f (by decide) ?_)
  refine ef_dirF hT hM hW hH hh (fun e => ?_) (fun e e2 we wp wi => ?_) (fun e e1 we wp wi => ?_)
  · refine br_f (by decide) ?_
    unfold wpY_next
    refine ef_yH_g hh (br_f (by decide) ?_)
    exact ef_want (κ := 1) hY hW hH hh (by decide) (fun _ => br_f (by decide) ⟨rfl, J we wt nd wp wi wq us⟩) (fun h' _ => by omega) (fun h' _ => by omega)
  · refine br_f (by decide) ?_
    unfold wpY_next
    refine ef_yH_g hh (br_f (by decide) ?_)
    exact ef_want (κ := 1) hY hW hH hh (by decide) (fun h' => by omega) (fun _ h' => by omega) (fun _ _ => br_f (by decide) ⟨rfl, J we wt nd wp wi wq us⟩)
  refine br_t rfl ?_
  obtain ⟨q5, q6⟩ := q3 e
  have yside : ∀ r u', (∀ r', ef_Ln K F N (Hn h) v2 r' → r' = r) → i_Rel (k + 5) u' (sg, kd, ip, nm, cy, ok, oi, on, oc, da, us, hn) → wpY_next (fun r' => r' = r ∧ i_Rel (k + 5) u' (sg, kd, ip, nm, cy, ok, oi, on, oc, da, us, hn)) (sg, kd, ip, nm, cy, ok, oi, on, oc, da, us, hn) (nI h) v2 := fun r u' g1 g2 => by
    unfold wpY_next
    refine ef_yH_g hh (br_f (by decide) ?_)
    exact ef_want (κ := 1) hY hW hH hh (by decide) (fun h' => by omega) (fun _ _ => br_t rfl (ef_ynext hY hW hH hh e (fun r' hr' => ⟨g1 r' hr', g2⟩))) (fun _ h' => absurd e1 h')
  have go : ∀ a, a ≤ 100 → (∀ y, y < 100 → (v2 < nI y ↔ a ≤ y)) → wX_next_59 (fun r u' => wpY_next (fun r' => r' = r ∧ i_Rel (k + 5) u' (sg, kd, ip, nm, cy, ok, oi, on, oc, da, us, hn)) (sg, kd, ip, nm, cy, ok, oi, on, oc, da, us, hn) (nI h) v2) (nI (256 * Hn h)) (nI (256 * Hn h + a)) rt we wt kc ks vs bl fr nd sr sn sv dk hd wp wi wq := fun a ha hv => by
    unfold wX_next_59
    refine ef_mnext hT (by omega) (fun rX hX => ?_)
    rw [ef_a128]
    have key := fun rY hLn => ef_next_eq (rY := rY) hM hW e ha hv hX hLn
    by_cases hneg : rX < 0
    · refine br_t hneg (yside _ _ (fun r' hr' => ?_) (J we wt nd wp wi wq us))
      rcases key r' hr' with ⟨_, h'⟩ | ⟨q, e', h1, _, h'⟩ | ⟨y, hy, e', h'⟩
      · exact h'
      · exact h'
      · rw [e'] at hneg
        exact absurd hneg (nI_pos (by omega))
    · refine br_f hneg ?_
      by_cases hlt : rX < nI (256 * Hn h + 128)
      · refine br_t hlt (yside _ _ (fun r' hr' => ?_) (J we wt nd wp wi wq us))
        rcases key r' hr' with ⟨h', _⟩ | ⟨q, e', h1, h2, _⟩ | ⟨y, hy, e', h'⟩
        · exact absurd h' hneg
        · rw [e'] at hlt
          exact absurd hlt (nI_nlt h2 (by omega))
        · rw [h', e', pk_sub (by omega), ef_s1 (by omega)]
          exact congrArg nI (by omega)
      · refine br_f hlt (yside _ _ (fun r' hr' => ?_) (J we wt nd wp wi wq us))
        rcases key r' hr' with ⟨_, h'⟩ | ⟨q, e', h1, h2, h'⟩ | ⟨y, hy, e', h'⟩
        · exact h'
        · exact h'
        · rw [e'] at hlt
          exact absurd (nI_lt (by omega) (by omega)) hlt
  refine br_c (fun h98 => ?_) (fun h98 => ?_)
  · simp (disch := omega) only [nI_clamp, q6, ef_m256]
    refine ⟨vp_in_nI (by omega) (by decide), nm_e (br_c (fun hp => ?_) (fun hp => ?_))⟩
    · obtain ⟨x, hx, rfl⟩ := nI_of (x := v2) (Int32.not_lt.mpr hp)
      have hx98 : x ≤ 98 := (nI_leI (b := 98) (by omega) (by omega)).mp h98
      rw [nI_1, nI_add, show 256 * Hn h + 1 + x = 256 * Hn h + (x + 1) from by omega]
      exact go (x + 1) (by omega) (fun y hy => by rw [nI_ltI (by omega) (by omega)]; omega)
    · have := go 0 (by omega) (fun y hy => ⟨fun _ => by omega, fun _ => Int32.lt_of_lt_of_le (Int32.not_le.mp hp) (nI_pos' (by omega))⟩)
      exact this
  · refine yside _ _ (fun r' hr' => ?_) (J we wt nd wp wi wq us)
    rcases hr' with ⟨h', _⟩ | ⟨j, a1, a2, a3, a4, a5, _⟩
    · exact h'
    · exfalso
      have hN := (hW.2.2.1 j a2).2.2
      have h1 : (98 : Int32) < v2 := Int32.not_le.mp h98
      have h2 := Int32.lt_iff_toInt_lt.mp h1
      have h3 := Int32.lt_iff_toInt_lt.mp a5
      rw [nI_toInt (by omega)] at h3
      have h4 : (98 : Int32).toInt = 98 := by decide
      omega
theorem i_vc_size {k : Nat} {u : SX} {v : SY} (I : i_Rel k u v) (hk : k + 5 ≤ 2560) (v1 : Int32) : wpX_size (fun r u' => wpY_size (fun r' => r' = r ∧ i_Rel (k + 5) u' v) v v1) u v1 := by
  obtain ⟨rt, we, wt, kc, ks, vs, bl, fr, nd, sr, sn, sv, dk, hd, wp, wi, wq⟩ := u
  obtain ⟨sg, kd, ip, nm, cy, ok, oi, on, oc, da, us, hn⟩ := v
  have J : ∀ we wt nd wp wi wq us, i_Rel (k + 5) (rt, we, wt, kc, ks, vs, bl, fr, nd, sr, sn, sv, dk, hd, wp, wi, wq) (sg, kd, ip, nm, cy, ok, oi, on, oc, da, us, hn) := fun _ _ _ _ _ _ _ => ef_Rel_up I
  obtain ⟨m, ms, K, F, N, C, K', F', N', C', φ, Hn, p, s, hT, hV, hs, eg, hY, hY', hW, hW', hM, hM', hP, hH⟩ := I
  unfold wpX_size
  rcases ef_dec (v := v1) (n := 3) (by omega) with hb | ⟨h, hh, rfl⟩
  · refine ef_xH_b hb (br_t rfl ?_)
    unfold wpY_size
    exact ef_yH_b hb (br_t rfl ⟨rfl, J we wt nd wp wi wq us⟩)
  obtain ⟨q1, q2, q3, q4⟩ := hH.2 h (by omega)
  refine ef_xH_g hh (br_f (by decide) ?_)
  simp (disch := omega) only [nI_clamp]
  refine ⟨vp_in_nI (by omega) (by decide), ?_⟩
  by_cases e : Hn h = 16
  · rw [q4 e]
    refine br_f ef_neg ?_
    unfold wpY_size
    refine ef_yH_g hh (br_f (by decide) ?_)
    simp (disch := omega) only [nI_clamp, q2, e]
    exact ⟨vp_in_nI (by omega) (by decide), br_t rfl ⟨by trivial, J we wt nd wp wi wq us⟩⟩
  obtain ⟨q5, q6⟩ := q3 (by omega)
  have w2 := (hW.2.2.1 (Hn h) (by omega)).1
  have y1 := (hY.1 (Hn h) (by omega)).1
  rw [q6]
  refine br_t (nI_pos' (by omega)) ⟨vp_in_nI (by omega) (by decide), ef_sortOf hT hM hW (by omega) q5 (fun we wp wi => ?_)⟩
  by_cases e1 : K (Hn h) = 1
  · rw [e1]
    dsimp only
    rw [q6]
    refine br_t rfl ⟨vp_in_nI (by omega) (by decide), ef_entriesOf hT hM (by omega) ?_⟩
    unfold wpY_size
    refine ef_yH_g hh (br_f (by decide) ?_)
    simp (disch := omega) only [nI_clamp, q2, y1, e1]
    refine ⟨vp_in_nI (by omega) (by decide), br_f (fun h' => e (ef_inj (b := 16) (by omega) (by omega) h')) ⟨vp_in_nI (by omega) (by decide), vp_in_nI (by omega) (by decide), br_t rfl ⟨vp_in_nI (by omega) (by decide), ef_yentries hY hW (by omega) ?_⟩⟩⟩
    rw [ef_entries_eq hM hW (by omega)]
    exact ⟨rfl, J we wt nd wp wi wq us⟩
  · refine br_f (fun h' => e1 (ef_inj (b := 1) (by omega) (by omega) h')) ?_
    -- the blocks, one by one
    have yl : ∀ r u', r = nI (ef_cnt (fun b => decide (C (8 * Hn h + b) < 24)) 0 8) → i_Rel (k + 5) u' (sg, kd, ip, nm, cy, ok, oi, on, oc, da, us, hn) → wpY_size (fun r' => r' = r ∧ i_Rel (k + 5) u' (sg, kd, ip, nm, cy, ok, oi, on, oc, da, us, hn)) (sg, kd, ip, nm, cy, ok, oi, on, oc, da, us, hn) (nI h) := fun r u' er g => by
      unfold wpY_size
      refine ef_yH_g hh (br_f (by decide) ?_)
      simp (disch := omega) only [nI_clamp, q2, y1]
      refine ⟨vp_in_nI (by omega) (by decide), br_f (fun h' => e (ef_inj (b := 16) (by omega) (by omega) h')) ⟨vp_in_nI (by omega) (by decide), vp_in_nI (by omega) (by decide), br_f (fun h' => e1 (ef_inj (b := 1) (by omega) (by omega) h')) ⟨9, ?_⟩⟩⟩
      have lp : ∀ (d n f : Nat), n + d = 8 → d < f → wY_size_53 (fun r' => r' = r ∧ i_Rel (k + 5) u' (sg, kd, ip, nm, cy, ok, oi, on, oc, da, us, hn)) (nI h) sg kd ip nm cy ok oi on oc da us hn f (nI (ef_cnt (fun b => decide (C (8 * Hn h + b) < 24)) 0 n)) (nI n) := by
        intro d
        induction d with
        | zero =>
          intro n f hn hf
          obtain ⟨f, rfl⟩ : ∃ g, f = g + 1 := ⟨f - 1, by omega⟩
          obtain rfl : n = 8 := by omega
          rw [wY_size_53]
          exact br_t (by decide) ⟨er.symm, g⟩
        | succ d ih =>
          intro n f hn hf
          obtain ⟨f, rfl⟩ : ∃ g, f = g + 1 := ⟨f - 1, by omega⟩
          have w6 := (hW.2.2.2.2.2.1 (Hn h) n (by omega) (by omega)).1
          have y4 := hY.2 (8 * Hn h + n) (by omega)
          rw [wY_size_53]
          refine br_f (nI_ge (b := 8) (by omega) (by decide)) ?_
          have next := ih (n + 1) f (by omega) (by omega)
          unfold ef_cnt at next
          rw [Nat.zero_add] at next
          simp (disch := omega) only [nI_clamp, q2, ef_m8, nI_add, y4, nI_1]
          refine ⟨vp_in_nI (by omega) (by decide), vp_in_nI (by omega) (by decide), br_c (fun hc => ?_) (fun hc => ?_)⟩
          · have hc : 24 ≤ C (8 * Hn h + n) := (nI_leI (a := 24) (by omega) (by omega)).mp hc
            rw [if_neg (fun h' => by have := of_decide_eq_true h'; omega), Nat.add_zero] at next
            exact nm_e next
          · have hc : ¬ 24 ≤ C (8 * Hn h + n) := fun h' => hc ((nI_leI (a := 24) (by omega) (by omega)).mpr h')
            rw [if_pos (decide_eq_true (by omega))] at next
            exact nm_e (nm_e next)
      exact lp 8 0 9 (by omega) (by omega)
    have xl : ∀ (d n f : Nat) (we : Int32) (wp wi : Nat → Int32), n + d = 8 → d < f → wX_size_50 (fun r u' => wpY_size (fun r' => r' = r ∧ i_Rel (k + 5) u' (sg, kd, ip, nm, cy, ok, oi, on, oc, da, us, hn)) (sg, kd, ip, nm, cy, ok, oi, on, oc, da, us, hn) (nI h)) (nI h) f (nI (ef_cnt (fun b => decide (C (8 * Hn h + b) < 24)) 0 n)) (nI n) rt we wt kc ks vs bl fr nd sr sn sv dk hd wp wi wq := by
      intro d
      induction d with
      | zero =>
        intro n f we wp wi hn hf
        obtain ⟨f, rfl⟩ : ∃ g, f = g + 1 := ⟨f - 1, by omega⟩
        obtain rfl : n = 8 := by omega
        rw [wX_size_50]
        exact br_t (by decide) (yl _ _ rfl (J we wt nd wp wi wq us))
      | succ d ih =>
        intro n f we wp wi hn hf
        obtain ⟨f, rfl⟩ : ∃ g, f = g + 1 := ⟨f - 1, by omega⟩
        rw [wX_size_50]
        refine br_f (nI_ge (b := 8) (by omega) (by decide)) ?_
        simp (disch := omega) only [nI_clamp, q6]
        refine ⟨vp_in_nI (by omega) (by decide), ef_placeOf hT hM (by omega) (by omega) (fun we wp wi => ?_)⟩
        have next := ih (n + 1) f we wp wi (by omega) (by omega)
        unfold ef_cnt at next
        rw [Nat.zero_add] at next
        dsimp only
        unfold ef_pl
        by_cases e24 : C (8 * Hn h + n) < 24
        · rw [if_pos e24]
          have hφ := hP.1 _ ⟨e24, Or.inl ⟨8 * Hn h + n, by omega, rfl⟩⟩
          rw [if_pos (decide_eq_true e24)] at next
          exact br_f (nI_pos (by omega)) (nm_r (nI_1 _) (nm_r (nI_1 _) next))
        · rw [if_neg e24]
          rw [if_neg (fun h' => e24 (of_decide_eq_true h')), Nat.add_zero] at next
          exact br_t ef_neg' (nm_r (nI_1 _) next)
    exact ⟨9, xl 8 0 9 we wp wi (by omega) (by omega)⟩
theorem ef_Hd_upd {hd hn : Nat → Int32} {K Hn : Nat → Nat} {h x : Nat} (H : ef_Hd hd hn K Hn) (h1 : 1 ≤ h) (h3 : h ≤ 3) (hx : x < 16) (hk : 0 < K x) : ef_Hd (upd hd h (nI x)) (upd hn h (nI x)) K (fun q => if q = h then x else Hn q) := by
  refine ⟨?_, fun q hq => ?_⟩
  · dsimp only
    rw [if_neg (by omega)]
    exact H.1
  · dsimp only
    by_cases e : q = h
    · rw [if_pos e, e, pk_us, pk_us]
      exact ⟨by omega, rfl, fun _ => ⟨hk, rfl⟩, fun h' => by omega⟩
    · rw [if_neg e, pk_un e, pk_un e]
      exact H.2 q hq
theorem i_vc_open {k : Nat} {u : SX} {v : SY} (I : i_Rel k u v) (hk : k + 5 ≤ 2560) (v1 : Int32) (v2 : Int32) (v3 : Int32) : wpX_open (fun r u' => wpY_open (fun r' v' => r' = r ∧ i_Rel (k + 5) u' v') v v1 v2 v3) u v1 v2 v3 := by
  obtain ⟨rt, we, wt, kc, ks, vs, bl, fr, nd, sr, sn, sv, dk, hd, wp, wi, wq⟩ := u
  obtain ⟨sg, kd, ip, nm, cy, ok, oi, on, oc, da, us, hn⟩ := v
  have J : ∀ we wt nd wp wi wq us, i_Rel (k + 5) (rt, we, wt, kc, ks, vs, bl, fr, nd, sr, sn, sv, dk, hd, wp, wi, wq) (sg, kd, ip, nm, cy, ok, oi, on, oc, da, us, hn) := fun _ _ _ _ _ _ _ => ef_Rel_up I
  obtain ⟨m, ms, K, F, N, C, K', F', N', C', φ, Hn, p, s, hT, hV, hs, eg, hY, hY', hW, hW', hM, hM', hP, hH⟩ := I
  unfold wpX_open
  refine br_c (fun c1 => ?_) (fun c1 => br_c (fun c2 => ?_) (fun c2 => ?_))
  · unfold wpY_open
    exact br_t c1 ⟨rfl, J we wt nd wp wi wq us⟩
  · unfold wpY_open
    exact br_f c1 (br_t c2 ⟨rfl, J we wt nd wp wi wq us⟩)
  obtain ⟨h0, h01, h03, rfl⟩ : ∃ h, 1 ≤ h ∧ h ≤ 3 ∧ v1 = nI h := by
    rcases ef_dec (v := v1) (n := 3) (by omega) with (h | h) | ⟨h, hh, rfl⟩
    · exact absurd (Int32.lt_trans h (by decide)) c1
    · exact absurd h c2
    · refine ⟨h, ?_, hh, rfl⟩
      by_cases e : h = 0
      · rw [e] at c1; exact absurd (by decide) c1
      · omega
  rcases ef_dec (v := v2) (n := 3) (by omega) with hb | ⟨h, hh, rfl⟩
  · refine ef_xH_b hb (br_t rfl ?_)
    unfold wpY_open
    exact br_f c1 (br_f c2 (ef_yH_b hb (br_t rfl ⟨rfl, J we wt nd wp wi wq us⟩)))
  obtain ⟨q1, q2, q3, q4⟩ := hH.2 h (by omega)
  refine ef_xH_g hh (br_f (by decide) (br_c (fun c3 => ?_) (fun c3 => br_c (fun c4 => ?_) (fun c4 => ?_))))
  · unfold wpY_open
    exact br_f c1 (br_f c2 (ef_yH_g hh (br_f (by decide) (br_t c3 ⟨rfl, J we wt nd wp wi wq us⟩))))
  rotate_left
  · unfold wpY_open
    exact br_f c1 (br_f c2 (ef_yH_g hh (br_f (by decide) (br_f c3 (br_f c4 ⟨rfl, J we wt nd wp wi wq us⟩)))))
  simp (disch := omega) only [nI_clamp]
  refine ⟨vp_in_nI (by omega) (by decide), ?_⟩
  by_cases e : Hn h = 16
  · rw [q4 e]
    refine br_f ef_neg ?_
    unfold wpY_open
    refine br_f c1 (br_f c2 (ef_yH_g hh (br_f (by decide) (br_f c3 (br_t c4 ?_)))))
    simp (disch := omega) only [nI_clamp, q2, e]
    exact ⟨vp_in_nI (by omega) (by decide), br_t rfl ⟨by trivial, J we wt nd wp wi wq us⟩⟩
  obtain ⟨q5, q6⟩ := q3 (by omega)
  have w2 := (hW.2.2.1 (Hn h) (by omega)).1
  have y1 := (hY.1 (Hn h) (by omega)).1
  have hne16 : ¬ nI (Hn h) = 16 := fun h' => e (ef_inj (b := 16) (by omega) (by omega) h')
  rw [q6]
  refine br_t (nI_pos' (by omega)) (br_c (fun c5 => ?_) (fun c5 => ?_))
  · -- by name
    obtain ⟨x, hx, rfl⟩ : ∃ x, x ≤ 99 ∧ v3 = nI x := nI_of2 (M := 99) (by decide) (Int32.not_lt.mpr c5) c4
    have hm1 : ¬ nI x = -1 := ef_nIm (by omega)
    refine ⟨vp_in_nI (by omega) (by decide), ef_sortOf hT hM hW (by omega) q5 (fun we wp wi => br_c (fun e2 => ?_) (fun e2 => ?_))⟩
    · have e2 : K (Hn h) = 2 := ef_inj (b := 2) (by omega) (by omega) e2
      unfold wpY_open
      refine br_f c1 (br_f c2 (ef_yH_g hh (br_f (by decide) (br_f c3 (br_t c4 ?_)))))
      simp (disch := omega) only [nI_clamp, q2, y1, e2]
      exact ⟨vp_in_nI (by omega) (by decide), br_f hne16 (br_f hm1 ⟨vp_in_nI (by omega) (by decide), vp_in_nI (by omega) (by decide), br_f (by decide) ⟨by trivial, J we wt nd wp wi wq us⟩⟩)⟩
    have e1 : K (Hn h) = 1 := by
      have : K (Hn h) ≠ 2 := fun h' => e2 (by rw [h']; rfl)
      omega
    simp (disch := omega) only [nI_clamp, q6, ef_m256, nI_1, nI_add]
    refine ⟨vp_in_nI (by omega) (by decide), ef_mget hT (by omega) (fun we wp wi => ?_)⟩
    have hmp := fun j => hM.2.1 (Hn h) x j (by omega) (by omega)
    -- the reference's side
    have yside : ∀ r u', (m (256 * Hn h + 1 + x) = none → (-3 = r ∧ i_Rel (k + 5) u' (sg, kd, ip, nm, cy, ok, oi, on, oc, da, us, hn))) → (∀ j, m (256 * Hn h + 1 + x) = some j → (0 = r ∧ i_Rel (k + 5) u' (sg, kd, ip, nm, cy, ok, oi, on, oc, da, us, upd hn h0 (nI j)))) →
        wpY_open (fun r' v' => r' = r ∧ i_Rel (k + 5) u' v') (sg, kd, ip, nm, cy, ok, oi, on, oc, da, us, hn) (nI h0) (nI h) (nI x) := fun r u' g1 g2 => by
      unfold wpY_open
      refine br_f c1 (br_f c2 (ef_yH_g hh (br_f (by decide) (br_f c3 (br_t c4 ?_)))))
      simp (disch := omega) only [nI_clamp, q2, y1, e1]
      refine ⟨vp_in_nI (by omega) (by decide), br_f hne16 (br_f hm1 ⟨vp_in_nI (by omega) (by decide), vp_in_nI (by omega) (by decide), br_t rfl ⟨vp_in_nI (by omega) (by decide), ef_yfind hY hW (by omega) (by omega) hmp ?_⟩⟩)⟩
      cases hj : m (256 * Hn h + 1 + x) with
      | none => exact br_t rfl (g1 hj)
      | some j =>
        have := ((hmp j).mp hj).2.1
        exact br_f (fun h' => by have := ef_inj (b := 16) (by omega) (by omega) h'; omega) ⟨vp_in_nI (by omega) (by decide), nm_e (g2 j hj)⟩
    cases hj : m (256 * Hn h + 1 + x) with
    | none => exact br_f ef_neg (yside _ _ (fun _ => ⟨rfl, J we wt nd wp wi wq us⟩) (fun j h' => by rw [hj] at h'; cases h'))
    | some j =>
      obtain ⟨b1, b2, b3, b4, b5⟩ := (hmp j).mp hj
      refine br_t (nI_pos' (by omega)) ?_
      simp (disch := omega) only [ef_oI, ef_t8, ef_nb]
      refine ⟨vp_in_nI (by omega) (by decide), nm_e (yside _ _ (fun h' => by rw [hj] at h'; cases h') (fun j' h' => ⟨rfl, ?_⟩))⟩
      rw [hj] at h'
      have : j = j' := Option.some.inj h'
      subst this
      exact ⟨m, ms, K, F, N, C, K', F', N', C', φ, _, p, s, hT, hV, by omega, eg, hY, hY', hW, hW', hM, hM', hP, ef_Hd_upd hH h01 h03 b2 b3⟩
  · -- the same node
    have e3 : v3 = -1 := by
      apply Int32.toInt_inj.mp
      have h1 : ¬ v3.toInt < (-1 : Int32).toInt := fun h' => c3 (Int32.lt_iff_toInt_lt.mpr h')
      have h2 : ¬ (0 : Int32).toInt ≤ v3.toInt := fun h' => c5 (Int32.le_iff_toInt_le.mpr h')
      have h3 : (-1 : Int32).toInt = -1 := by decide
      have h4 : (0 : Int32).toInt = 0 := by decide
      omega
    simp (disch := omega) only [ef_nb]
    refine ⟨vp_in_nI (by omega) (by decide), vp_in_nI (by omega) (by decide), nm_e ?_⟩
    unfold wpY_open
    refine br_f c1 (br_f c2 (ef_yH_g hh (br_f (by decide) (br_f c3 (br_t c4 ?_)))))
    simp (disch := omega) only [nI_clamp, q2]
    refine ⟨vp_in_nI (by omega) (by decide), br_f hne16 (br_t e3 ⟨vp_in_nI (by omega) (by decide), vp_in_nI (by omega) (by decide), nm_e ⟨by trivial, ?_⟩⟩)⟩
    exact ⟨m, ms, K, F, N, C, K', F', N', C', φ, _, p, s, hT, hV, by omega, eg, hY, hY', hW, hW', hM, hM', hP, ef_Hd_upd hH h01 h03 (by omega) q5⟩
end
section
/-! savings, crashes, the beginning -/
theorem ef_Vd_save {sn sv : Nat → Int32} {p s : Nat} (h : ef_Vd sn sv p s) : ef_Vd (upd sn (1 - p) (nI (s + 1))) (upd sv (1 - p) 1) (1 - p) (s + 1) := by
  obtain ⟨h1, h2, h3, h4⟩ := h
  have e : 1 - (1 - p) = p := by omega
  refine ⟨by omega, pk_us, pk_us, ?_⟩
  rw [e]
  refine Or.inr ⟨?_, s, by omega, ?_⟩
  · rw [pk_un (by omega)]; exact h3
  · rw [pk_un (by omega)]; exact h2
theorem ef_Vd_spoil {sn sv : Nat → Int32} {p s : Nat} {x : Int32} (h : ef_Vd sn sv p s) : ef_Vd (upd sn (1 - p) x) (upd sv (1 - p) 0) p s := by
  obtain ⟨h1, h2, h3, h4⟩ := h
  exact ⟨h1, by rw [pk_un (by omega)]; exact h2, by rw [pk_un (by omega)]; exact h3, Or.inl pk_us⟩
theorem ef_TM_rt {rt : Int32} {kc ks vs bl fr sr sn sv : Nat → Int32} {m ms : Nat → Option Nat} (h : ef_TM rt kc ks vs bl fr sr sn sv m ms) : ∃ r, r < 110 ∧ rt = nI r := by
  obtain ⟨L, LS, hT, _⟩ := h
  obtain ⟨R, r, P, PS, er, hR, _⟩ := hT
  exact ⟨r, (ef_Tr_mem (ef_Rn_5 hR)).2, er⟩
section
variable {rt we wt : Int32} {kc ks vs bl fr nd sr sn sv dk hd wp wi wq : Nat → Int32} {m ms : Nat → Option Nat}
theorem ef_writeRoot {post : SX → Prop} {p s r : Nat} {w : Int32} (hV : ef_Vd sn sv p s) (hs : s < 2 ^ 29) (hr : r < 110) (er : rt = nI r) (hw : w = 0 ∨ w = 1)
    (G : post (rt, we, wt, kc, ks, vs, bl, fr, nd, upd sr (1 - p) rt, upd sn (1 - p) (nI (s + 1)), upd sv (1 - p) w, dk, hd, wp, wi, wq)) : wpX_writeRoot post (rt, we, wt, kc, ks, vs, bl, fr, nd, sr, sn, sv, dk, hd, wp, wi, wq) w := by
  have hp := hV.1
  have e2 := hV.2.1
  unfold wpX_writeRoot
  refine ef_validPlace ?_
  rw [ef_Vd_vpl hV (by omega)]
  have e1 : 1 - nI p = nI (1 - p) := pk_sub (a := 1) (by omega)
  have ew : vp_nar .boolean w = w := by rcases hw with rfl | rfl <;> rfl
  have et : vp_nar .byte rt.toInt8.toInt32 = rt := by rw [er, ef_t8 (by omega), ef_nb (by omega)]
  simp (disch := omega) only [e1, nI_clamp, ew, et, e2, nI_1]
  refine nm_e ?_
  simp (disch := omega) only [nI_clamp]
  exact ⟨vp_in_nI (by omega) (by decide), nm_e ⟨vp_in_nI (by omega) (by decide), nm_e ⟨vp_in_nI (by omega) (by decide), vp_in_nI (by omega) (by decide), nm_e G⟩⟩⟩
theorem ef_xcrash {post : Int32 → SX → Prop} {p s : Nat} (hV : ef_Vd sn sv p s) (hs : s < 2 ^ 29)
    (G : ∀ fr' hd', (∀ y, y < 110 → fr' y = 0) → (∀ h, hd' h = if 1 ≤ h ∧ h < 4 then -1 else hd h) → post (nI s) (sr p, we, wt, kc, ks, vs, bl, fr', nd, sr, sn, sv, dk, hd', wp, wi, wq)) : wX_crash_29 post rt we wt kc ks vs bl fr nd sr sn sv dk hd wp wi wq := by
  have hp := hV.1
  unfold wX_crash_29
  refine ef_validPlace ?_
  rw [ef_Vd_vpl hV (by omega), nI_clamp (by omega)]
  refine ⟨vp_in_nI hp (by decide), nm_e ⟨4, ?_⟩⟩
  have lp : ∀ (d n f : Nat) (hd1 : Nat → Int32), n + d = 4 → d < f → 1 ≤ n → (∀ h, hd1 h = if 1 ≤ h ∧ h < n then -1 else hd h) → wX_crash_44 post (sr p) we wt f (nI n) kc ks vs bl fr nd sr sn sv dk hd1 wp wi wq := by
    intro d
    induction d with
    | zero =>
      intro n f hd1 hn hf h1 hh
      obtain ⟨f, rfl⟩ : ∃ g, f = g + 1 := ⟨f - 1, by omega⟩
      obtain rfl : n = 4 := by omega
      rw [wX_crash_44]
      refine br_t (by decide) (ef_settle (fun fr' hf' => ?_))
      dsimp only
      refine ef_validPlace ?_
      rw [ef_Vd_vpl hV (by omega), nI_clamp (by omega), hV.2.1]
      exact ⟨vp_in_nI hp (by decide), G fr' hd1 hf' hh⟩
    | succ d ih =>
      intro n f hd1 hn hf h1 hh
      obtain ⟨f, rfl⟩ : ∃ g, f = g + 1 := ⟨f - 1, by omega⟩
      rw [wX_crash_44]
      refine br_f (nI_ge (b := 4) (by omega) (by decide)) ?_
      simp (disch := omega) only [nI_clamp, nI_1, ef_nbm]
      refine ⟨vp_in_nI (by omega) (by decide), nm_e (nm_e (ih (n + 1) f _ (by omega) (by omega) (by omega) (fun h => ?_)))⟩
      unfold upd
      by_cases e : h = n
      · rw [if_pos e, if_pos (by omega)]
      · rw [if_neg e, hh h]
        by_cases e2 : 1 ≤ h ∧ h < n
        · rw [if_pos e2, if_pos (by omega)]
        · rw [if_neg e2, if_neg (by omega)]
  exact lp 3 1 4 hd (by omega) (by omega) (by omega) (fun h => by rw [if_neg (by omega)])
end
section
variable {sg : Int32} {kd ip nm cy ok oi on oc da us hn : Nat → Int32}
theorem ef_ysave {post : Int32 → SY → Prop} (G : ∀ ok' oi' on' oc', (∀ n, n < 16 → ok' n = kd n ∧ oi' n = ip n ∧ on' n = nm n) → (∀ j, j < 128 → oc' j = cy j) → post (sg + 1) (sg + 1, kd, ip, nm, cy, ok', oi', on', oc', da, us, hn)) : wpY_save post (sg, kd, ip, nm, cy, ok, oi, on, oc, da, us, hn) := by
  unfold wpY_save
  have lp2 : ∀ (ok oi on : Nat → Int32), (∀ n, n < 16 → ok n = kd n ∧ oi n = ip n ∧ on n = nm n) → ∀ (d j f : Nat) (oc : Nat → Int32), j + d = 128 → d < f → (∀ q, q < j → oc q = cy q) → wY_save_52 post sg f (nI j) kd ip nm cy ok oi on oc da us hn := by
    intro ok oi on h16 d
    induction d with
    | zero =>
      intro j f oc hj hf hq
      obtain ⟨f, rfl⟩ : ∃ g, f = g + 1 := ⟨f - 1, by omega⟩
      obtain rfl : j = 128 := by omega
      rw [wY_save_52]
      exact br_t (by decide) (nm_e (G ok oi on oc h16 hq))
    | succ d ih =>
      intro j f oc hj hf hq
      obtain ⟨f, rfl⟩ : ∃ g, f = g + 1 := ⟨f - 1, by omega⟩
      rw [wY_save_52]
      refine br_f (nI_ge (b := 128) (by omega) (by decide)) ?_
      simp (disch := omega) only [nI_clamp, nI_1]
      refine ⟨vp_in_nI (by omega) (by decide), vp_in_nI (by omega) (by decide), nm_e (nm_e (ih (j + 1) f _ (by omega) (by omega) (fun q hq' => ?_)))⟩
      by_cases e : q = j
      · rw [e, pk_us]
      · rw [pk_un e]; exact hq q (by omega)
  have lp1 : ∀ (d j f : Nat) (ok oi on : Nat → Int32), j + d = 16 → d < f → (∀ n, n < j → ok n = kd n ∧ oi n = ip n ∧ on n = nm n) → wY_save_2 post sg f (nI j) kd ip nm cy ok oi on oc da us hn := by
    intro d
    induction d with
    | zero =>
      intro j f ok oi on hj hf hq
      obtain ⟨f, rfl⟩ : ∃ g, f = g + 1 := ⟨f - 1, by omega⟩
      obtain rfl : j = 16 := by omega
      rw [wY_save_2]
      exact br_t (by decide) ⟨129, lp2 ok oi on hq 128 0 129 oc (by omega) (by omega) (fun q h => absurd h (by omega))⟩
    | succ d ih =>
      intro j f ok oi on hj hf hq
      obtain ⟨f, rfl⟩ : ∃ g, f = g + 1 := ⟨f - 1, by omega⟩
      rw [wY_save_2]
      refine br_f (nI_ge (b := 16) (by omega) (by decide)) ?_
      simp (disch := omega) only [nI_clamp, nI_1]
      refine ⟨vp_in_nI (by omega) (by decide), vp_in_nI (by omega) (by decide), nm_e ⟨vp_in_nI (by omega) (by decide), vp_in_nI (by omega) (by decide), nm_e ⟨vp_in_nI (by omega) (by decide), vp_in_nI (by omega) (by decide), nm_e (nm_e (ih (j + 1) f _ _ _ (by omega) (by omega) (fun q hq' => ?_)))⟩⟩⟩
      by_cases e : q = j
      · rw [e, pk_us, pk_us, pk_us]; exact ⟨rfl, rfl, rfl⟩
      · rw [pk_un e, pk_un e, pk_un e]; exact hq q (by omega)
  exact ⟨17, lp1 16 0 17 ok oi on (by omega) (by omega) (fun q h => absurd h (by omega))⟩
theorem ef_ycrash {post : Int32 → SY → Prop} (G : ∀ kd' ip' nm' cy' hn', (∀ n, n < 16 → kd' n = ok n ∧ ip' n = oi n ∧ nm' n = on n) → (∀ j, j < 128 → cy' j = oc j) → (∀ h, hn' h = if 1 ≤ h ∧ h < 4 then 16 else hn h) → post sg (sg, kd', ip', nm', cy', ok, oi, on, oc, da, us, hn')) :
    ∃ f, wY_crash_23 post sg f 0 kd ip nm cy ok oi on oc da us hn := by
  have lp3 : ∀ (kd ip nm cy : Nat → Int32), (∀ n, n < 16 → kd n = ok n ∧ ip n = oi n ∧ nm n = on n) → (∀ j, j < 128 → cy j = oc j) → ∀ (d j f : Nat) (hn1 : Nat → Int32), j + d = 4 → d < f → 1 ≤ j → (∀ h, hn1 h = if 1 ≤ h ∧ h < j then 16 else hn h) → wY_crash_100 post sg f (nI j) kd ip nm cy ok oi on oc da us hn1 := by
    intro kd ip nm cy h16 h128 d
    induction d with
    | zero =>
      intro j f hn1 hj hf h1 hq
      obtain ⟨f, rfl⟩ : ∃ g, f = g + 1 := ⟨f - 1, by omega⟩
      obtain rfl : j = 4 := by omega
      rw [wY_crash_100]
      exact br_t (by decide) (G kd ip nm cy hn1 h16 h128 hq)
    | succ d ih =>
      intro j f hn1 hj hf h1 hq
      obtain ⟨f, rfl⟩ : ∃ g, f = g + 1 := ⟨f - 1, by omega⟩
      rw [wY_crash_100]
      refine br_f (nI_ge (b := 4) (by omega) (by decide)) ?_
      simp (disch := omega) only [nI_clamp, nI_1]
      refine ⟨vp_in_nI (by omega) (by decide), nm_e (nm_e (ih (j + 1) f _ (by omega) (by omega) (by omega) (fun h => ?_)))⟩
      unfold upd
      by_cases e : h = j
      · rw [if_pos e, if_pos (by omega)]
      · rw [if_neg e, hq h]
        by_cases e2 : 1 ≤ h ∧ h < j
        · rw [if_pos e2, if_pos (by omega)]
        · rw [if_neg e2, if_neg (by omega)]
  have lp2 : ∀ (kd ip nm : Nat → Int32), (∀ n, n < 16 → kd n = ok n ∧ ip n = oi n ∧ nm n = on n) → ∀ (d j f : Nat) (cy : Nat → Int32), j + d = 128 → d < f → (∀ q, q < j → cy q = oc q) → wY_crash_73 post sg f (nI j) kd ip nm cy ok oi on oc da us hn := by
    intro kd ip nm h16 d
    induction d with
    | zero =>
      intro j f cy hj hf hq
      obtain ⟨f, rfl⟩ : ∃ g, f = g + 1 := ⟨f - 1, by omega⟩
      obtain rfl : j = 128 := by omega
      rw [wY_crash_73]
      exact br_t (by decide) ⟨4, lp3 kd ip nm cy h16 hq 3 1 4 hn (by omega) (by omega) (by omega) (fun h => by rw [if_neg (by omega)])⟩
    | succ d ih =>
      intro j f cy hj hf hq
      obtain ⟨f, rfl⟩ : ∃ g, f = g + 1 := ⟨f - 1, by omega⟩
      rw [wY_crash_73]
      refine br_f (nI_ge (b := 128) (by omega) (by decide)) ?_
      simp (disch := omega) only [nI_clamp, nI_1]
      refine ⟨vp_in_nI (by omega) (by decide), vp_in_nI (by omega) (by decide), nm_e (nm_e (ih (j + 1) f _ (by omega) (by omega) (fun q hq' => ?_)))⟩
      by_cases e : q = j
      · rw [e, pk_us]
      · rw [pk_un e]; exact hq q (by omega)
  have lp1 : ∀ (d j f : Nat) (kd ip nm : Nat → Int32), j + d = 16 → d < f → (∀ n, n < j → kd n = ok n ∧ ip n = oi n ∧ nm n = on n) → wY_crash_23 post sg f (nI j) kd ip nm cy ok oi on oc da us hn := by
    intro d
    induction d with
    | zero =>
      intro j f kd ip nm hj hf hq
      obtain ⟨f, rfl⟩ : ∃ g, f = g + 1 := ⟨f - 1, by omega⟩
      obtain rfl : j = 16 := by omega
      rw [wY_crash_23]
      exact br_t (by decide) ⟨129, lp2 kd ip nm hq 128 0 129 cy (by omega) (by omega) (fun q h => absurd h (by omega))⟩
    | succ d ih =>
      intro j f kd ip nm hj hf hq
      obtain ⟨f, rfl⟩ : ∃ g, f = g + 1 := ⟨f - 1, by omega⟩
      rw [wY_crash_23]
      refine br_f (nI_ge (b := 16) (by omega) (by decide)) ?_
      simp (disch := omega) only [nI_clamp, nI_1]
      refine ⟨vp_in_nI (by omega) (by decide), vp_in_nI (by omega) (by decide), nm_e ⟨vp_in_nI (by omega) (by decide), vp_in_nI (by omega) (by decide), nm_e ⟨vp_in_nI (by omega) (by decide), vp_in_nI (by omega) (by decide), nm_e (nm_e (ih (j + 1) f _ _ _ (by omega) (by omega) (fun q hq' => ?_)))⟩⟩⟩
      by_cases e : q = j
      · rw [e, pk_us, pk_us, pk_us]; exact ⟨rfl, rfl, rfl⟩
      · rw [pk_un e, pk_un e, pk_un e]; exact hq q (by omega)
  exact ⟨17, lp1 16 0 17 kd ip nm (by omega) (by omega) (fun q h => absurd h (by omega))⟩
end
theorem ef_Ya_eq {kd ip nm cy kd' ip' nm' cy' : Nat → Int32} {K F N C : Nat → Nat} (h : ef_Ya kd ip nm cy K F N C) (h1 : ∀ n, n < 16 → kd' n = kd n ∧ ip' n = ip n ∧ nm' n = nm n) (h2 : ∀ j, j < 128 → cy' j = cy j) : ef_Ya kd' ip' nm' cy' K F N C :=
  ⟨fun n hn => ⟨(h1 n hn).1.trans (h.1 n hn).1, (h1 n hn).2.1.trans (h.1 n hn).2.1, (h1 n hn).2.2.trans (h.1 n hn).2.2⟩, fun j hj => (h2 j hj).trans (h.2 j hj)⟩
theorem ef_Ph_sub {φ C C' D D' : Nat → Nat} {dk da : Nat → Int32} (h : ef_Ph φ C C' dk da) (hs : ∀ c, ef_Us D D' c → ef_Us C C' c) : ef_Ph φ D D' dk da :=
  ⟨fun c hc => h.1 c (hs c hc), fun c c' a b e => h.2.1 c c' (hs c a) (hs c' b) e, fun c i a b => h.2.2 c i (hs c a) b⟩
theorem i_vc_save {k : Nat} {u : SX} {v : SY} (I : i_Rel k u v) (hk : k + 5 ≤ 2560) : wpX_save (fun r u' => wpY_save (fun r' v' => r' = r ∧ i_Rel (k + 5) u' v') v) u := by
  obtain ⟨rt, we, wt, kc, ks, vs, bl, fr, nd, sr, sn, sv, dk, hd, wp, wi, wq⟩ := u
  obtain ⟨sg, kd, ip, nm, cy, ok, oi, on, oc, da, us, hn⟩ := v
  have J : ∀ we wt nd wp wi wq us, i_Rel (k + 5) (rt, we, wt, kc, ks, vs, bl, fr, nd, sr, sn, sv, dk, hd, wp, wi, wq) (sg, kd, ip, nm, cy, ok, oi, on, oc, da, us, hn) := fun _ _ _ _ _ _ _ => ef_Rel_up I
  obtain ⟨m, ms, K, F, N, C, K', F', N', C', φ, Hn, p, s, hT, hV, hs, eg, hY, hY', hW, hW', hM, hM', hP, hH⟩ := I
  obtain ⟨r, hr, er⟩ := ef_TM_rt hT
  unfold wpX_save
  refine ef_writeRoot hV (by omega) hr er (Or.inr rfl) ?_
  dsimp only
  refine ef_settle (fun fr' hf => ?_)
  dsimp only
  have hV2 := ef_Vd_save hV
  have hp := hV.1
  refine ef_validPlace ?_
  rw [ef_Vd_vpl hV2 (by omega), nI_clamp (by omega), hV2.2.1]
  refine ⟨vp_in_nI (by omega) (by decide), ef_ysave (fun ok' oi' on' oc' h1 h2 => ?_)⟩
  subst eg
  rw [nI_1]
  refine ⟨rfl, m, m, K, F, N, C, K, F, N, C, φ, Hn, 1 - p, s + 1, ?_, hV2, by omega, rfl, hY, ef_Ya_eq hY h1 h2, hW, hW, hM, hM, ef_Ph_sub hP (fun c hc => ⟨hc.1, Or.inl ?_⟩), hH⟩
  · refine ef_TM_save hT hf ?_
    rw [ef_Vd_vpl hV2 (by omega)]
    exact pk_us
  · rcases hc.2 with h | h <;> exact h
theorem i_vc_crash {k : Nat} {u : SX} {v : SY} (I : i_Rel k u v) (hk : k + 5 ≤ 2560) (v1 : Int32) : wpX_crash (fun r u' => wpY_crash (fun r' v' => r' = r ∧ i_Rel (k + 5) u' v') v v1) u v1 := by
  obtain ⟨rt, we, wt, kc, ks, vs, bl, fr, nd, sr, sn, sv, dk, hd, wp, wi, wq⟩ := u
  obtain ⟨sg, kd, ip, nm, cy, ok, oi, on, oc, da, us, hn⟩ := v
  have J : ∀ we wt nd wp wi wq us, i_Rel (k + 5) (rt, we, wt, kc, ks, vs, bl, fr, nd, sr, sn, sv, dk, hd, wp, wi, wq) (sg, kd, ip, nm, cy, ok, oi, on, oc, da, us, hn) := fun _ _ _ _ _ _ _ => ef_Rel_up I
  obtain ⟨m, ms, K, F, N, C, K', F', N', C', φ, Hn, p, s, hT, hV, hs, eg, hY, hY', hW, hW', hM, hM', hP, hH⟩ := I
  obtain ⟨r, hr, er⟩ := ef_TM_rt hT
  have hp := hV.1
  have h0s := ef_Mp_0 hM' hW'
  -- the handles afterwards
  have hHd : ∀ {K1 : Nat → Nat} {hd' hn' : Nat → Int32}, K1 0 = 1 → (∀ h, hd' h = if 1 ≤ h ∧ h < 4 then -1 else hd h) → (∀ h, hn' h = if 1 ≤ h ∧ h < 4 then 16 else hn h) → ef_Hd hd' hn' K1 (fun h => if h = 0 then 0 else 16) := fun {K1 hd' hn'} e1 g1 g2 => by
    refine ⟨rfl, fun h hh => ?_⟩
    dsimp only
    rw [g1 h, g2 h]
    by_cases e : h = 0
    · subst e
      obtain ⟨z1, z2, z3, z4⟩ := hH.2 0 (by omega)
      rw [hH.1] at z2 z3
      rw [if_pos rfl, if_neg (by omega), if_neg (by omega)]
      exact ⟨by omega, z2, fun _ => ⟨by rw [e1]; omega, (z3 (by omega)).2⟩, fun h' => by omega⟩
    · rw [if_neg e, if_pos (by omega), if_pos (by omega)]
      exact ⟨by omega, rfl, fun h' => by omega, fun _ => rfl⟩
  -- back to the saved tree, whatever the other place holds
  have back : ∀ (sr1 sn1 sv1 : Nat → Int32) (wt : Int32), ef_Vd sn1 sv1 p s → sr1 p = sr p → ¬ v1 < 0 → v1 ≤ 2 → ¬ v1 = 1 → wX_crash_29 (fun r u' => wpY_crash (fun r' v' => r' = r ∧ i_Rel (k + 5) u' v') (sg, kd, ip, nm, cy, ok, oi, on, oc, da, us, hn) v1) rt we wt kc ks vs bl fr nd sr1 sn1 sv1 dk hd wp wi wq := fun sr1 sn1 sv1 wt hV1 hsr c0 c2 c1 => by
    refine ef_xcrash hV1 (by omega) (fun fr' hd' hf g1 => ?_)
    unfold wpY_crash
    refine br_f c0 (br_t c2 (br_f c1 (ef_ycrash (fun kd' ip' nm' cy' hn' h1 h2 g2 => ⟨eg, ?_⟩))))
    refine ⟨ms, ms, K', F', N', C', K', F', N', C', φ, _, p, s, ?_, hV1, by omega, eg, ef_Ya_eq hY' h1 h2, hY', hW', hW', hM', hM', ef_Ph_sub hP (fun c hc => ⟨hc.1, Or.inr ?_⟩), hHd hW'.1 g1 g2⟩
    · refine ef_TM_back hT h0s hf ?_ ?_
      · rw [ef_Vd_vpl hV (by omega)]; exact hsr
      · rw [ef_Vd_vpl hV1 (by omega)]
    · rcases hc.2 with h | h <;> exact h
  unfold wpX_crash
  refine br_c (fun c0 => ?_) (fun c0 => br_c (fun c2 => ?_) (fun c2 => ?_))
  · unfold wpY_crash
    exact br_t c0 ⟨rfl, J we wt nd wp wi wq us⟩
  · refine br_c (fun c00 => ?_) (fun c00 => br_c (fun c1 => ?_) (fun c1 => ?_))
    · refine back sr sn sv wt hV rfl c0 c2 (fun e => ?_)
      rw [e] at c00
      exact absurd c00 (by decide)
    · unfold wX_crash_26
      refine ef_writeRoot hV (by omega) hr er (Or.inr rfl) ?_
      have hV2 := ef_Vd_save hV
      refine ef_xcrash hV2 (by omega) (fun fr' hd' hf g1 => ?_)
      unfold wpY_crash
      refine br_f c0 (br_t c2 (br_t c1 (ef_ysave (fun ok' oi' on' oc' h1 h2 => ?_))))
      dsimp only
      subst eg
      rw [nI_1]
      refine ef_ycrash (fun kd' ip' nm' cy' hn' h3 h4 g2 => ⟨rfl, ?_⟩)
      have hY2 := ef_Ya_eq hY h1 h2
      refine ⟨m, m, K, F, N, C, K, F, N, C, φ, _, 1 - p, s + 1, ?_, hV2, by omega, rfl, ef_Ya_eq hY2 h3 h4, hY2, hW, hW, hM, hM, ef_Ph_sub hP (fun c hc => ⟨hc.1, Or.inl ?_⟩), hHd hW.1 g1 g2⟩
      · rw [show upd sr (1 - p) rt (1 - p) = rt from pk_us]
        refine ef_TM_save hT hf ?_
        rw [ef_Vd_vpl hV2 (by omega)]
        exact pk_us
      · rcases hc.2 with h | h <;> exact h
    · unfold wX_crash_26
      refine ef_writeRoot hV (by omega) hr er (Or.inl rfl) ?_
      exact back _ _ _ wt (ef_Vd_spoil hV) (pk_un (by omega)) c0 c2 c1
  · unfold wpY_crash
    exact br_f c0 (br_f c2 ⟨rfl, J we wt nd wp wi wq us⟩)
theorem ef_fill {post : SY → Prop} : ∀ (d j f : Nat) (cy : Nat → Int32) (sg : Int32) (kd ip nm ok oi on oc da us hn : Nat → Int32), j + d = 128 → d < f → (∀ q, q < j → cy q = 24) →
    (∀ cy', (∀ q, q < 128 → cy' q = 24) → ∃ f', wY_init_123 post sg f' 0 kd ip nm cy' ok oi on oc da us hn) → wY_init_100 post sg f (nI j) kd ip nm cy ok oi on oc da us hn := by
  intro d
  induction d with
  | zero =>
    intro j f cy sg kd ip nm ok oi on oc da us hn hj hf hq G
    obtain ⟨f, rfl⟩ : ∃ g, f = g + 1 := ⟨f - 1, by omega⟩
    obtain rfl : j = 128 := by omega
    rw [wY_init_100]
    exact br_t (by decide) (G cy hq)
  | succ d ih =>
    intro j f cy sg kd ip nm ok oi on oc da us hn hj hf hq G
    obtain ⟨f, rfl⟩ : ∃ g, f = g + 1 := ⟨f - 1, by omega⟩
    rw [wY_init_100]
    refine br_f (nI_ge (b := 128) (by omega) (by decide)) ?_
    simp (disch := omega) only [nI_clamp, nI_1]
    refine ⟨vp_in_nI (by omega) (by decide), nm_e (nm_e (ih (j + 1) f _ _ _ _ _ _ _ _ _ _ _ _ (by omega) (by omega) (fun q hq' => ?_) G))⟩
    by_cases e : q = j
    · rw [e, pk_us]
    · rw [pk_un e]; exact hq q (by omega)
theorem ef_yinit {post : SY → Prop} (G : ∀ cy oc hn : Nat → Int32, (∀ q, q < 128 → cy q = 24) → (∀ q, q < 128 → oc q = 24) → hn 0 = 0 → (∀ h, 1 ≤ h → h < 4 → hn h = 16) →
    post (0, upd (fun _ => 0) 0 1, fun _ => 0, fun _ => 0, cy, upd (fun _ => 0) 0 1, fun _ => 0, fun _ => 0, oc, fun _ => 0, fun _ => 0, hn)) : wpY_init post := by
  unfold wpY_init
  refine ⟨129, ef_fill 128 0 129 _ _ _ _ _ _ _ _ _ _ _ _ (by omega) (by omega) (fun q h => absurd h (by omega)) (fun cy hcy => ⟨129, ?_⟩)⟩
  have lp3 : ∀ (oc : Nat → Int32), (∀ q, q < 128 → oc q = 24) → ∀ (d j f : Nat) (hn : Nat → Int32), j + d = 4 → d < f → 1 ≤ j → hn 0 = 0 → (∀ h, 1 ≤ h → h < j → hn h = 16) →
      wY_init_160 post 0 f (nI j) (upd (fun _ => 0) 0 1) (fun _ => 0) (fun _ => 0) cy (upd (fun _ => 0) 0 1) (fun _ => 0) (fun _ => 0) oc (fun _ => 0) (fun _ => 0) hn := by
    intro oc hoc d
    induction d with
    | zero =>
      intro j f hn hj hf h1 hh0 hh
      obtain ⟨f, rfl⟩ : ∃ g, f = g + 1 := ⟨f - 1, by omega⟩
      obtain rfl : j = 4 := by omega
      rw [wY_init_160]
      exact br_t (by decide) (G cy oc hn hcy hoc hh0 hh)
    | succ d ih =>
      intro j f hn hj hf h1 hh0 hh
      obtain ⟨f, rfl⟩ : ∃ g, f = g + 1 := ⟨f - 1, by omega⟩
      rw [wY_init_160]
      refine br_f (nI_ge (b := 4) (by omega) (by decide)) ?_
      simp (disch := omega) only [nI_clamp, nI_1]
      refine ⟨vp_in_nI (by omega) (by decide), nm_e (nm_e (ih (j + 1) f _ (by omega) (by omega) (by omega) ?_ (fun h a b => ?_)))⟩
      · rw [pk_un (by omega)]; exact hh0
      · by_cases e : h = j
        · rw [e, pk_us]
        · rw [pk_un e]; exact hh h a (by omega)
  have lp2 : ∀ (d j f : Nat) (oc : Nat → Int32), j + d = 128 → d < f → (∀ q, q < j → oc q = 24) → wY_init_123 post 0 f (nI j) (fun _ => 0) (fun _ => 0) (fun _ => 0) cy (fun _ => 0) (fun _ => 0) (fun _ => 0) oc (fun _ => 0) (fun _ => 0) (fun _ => 0) := by
    intro d
    induction d with
    | zero =>
      intro j f oc hj hf hq
      obtain ⟨f, rfl⟩ : ∃ g, f = g + 1 := ⟨f - 1, by omega⟩
      obtain rfl : j = 128 := by omega
      rw [wY_init_123]
      exact br_t (by decide) (nm_e (nm_e ⟨4, lp3 oc hq 3 1 4 _ (by omega) (by omega) (by omega) rfl (fun h a b => by omega)⟩))
    | succ d ih =>
      intro j f oc hj hf hq
      obtain ⟨f, rfl⟩ : ∃ g, f = g + 1 := ⟨f - 1, by omega⟩
      rw [wY_init_123]
      refine br_f (nI_ge (b := 128) (by omega) (by decide)) ?_
      simp (disch := omega) only [nI_clamp, nI_1]
      refine ⟨vp_in_nI (by omega) (by decide), nm_e (nm_e (ih (j + 1) f _ (by omega) (by omega) (fun q hq' => ?_)))⟩
      by_cases e : q = j
      · rw [e, pk_us]
      · rw [pk_un e]; exact hq q (by omega)
  exact lp2 128 0 129 _ (by omega) (by omega) (fun q h => absurd h (by omega))
def ef_k0 (n : Nat) : Nat := if n = 0 then 1 else 0
theorem ef_k0_0 : ef_k0 0 = 1 := rfl
theorem ef_k0_n {n : Nat} (h : n ≠ 0) : ef_k0 n = 0 := if_neg h
theorem ef_k0_p {n : Nat} (h : 0 < ef_k0 n) : n = 0 := by
  by_cases e : n = 0
  · exact e
  · rw [ef_k0_n e] at h; omega
theorem ef_Wf0 : ef_Wf ef_k0 (fun _ => 0) (fun _ => 0) (fun _ => 24) := by
  refine ⟨rfl, rfl, fun n hn => ⟨?_, ?_, ?_⟩, fun n h1 h2 h3 => ?_, fun n n' h1 h2 h3 h4 h5 => ?_, fun n b hn hb => ⟨Nat.le_refl _, fun _ => rfl⟩, fun j j' _ _ h => ?_, fun n hn h => ⟨0, ef_k0_p h⟩⟩
  · by_cases e : n = 0
    · rw [e, ef_k0_0]; omega
    · rw [ef_k0_n e]; omega
  · show 0 < 16; omega
  · show 0 < 100; omega
  · have := ef_k0_p h3; omega
  · have := ef_k0_p h5; omega
  · have h : 24 < 24 := h
    omega
theorem i_vc0 : wpX_init (fun u => wpY_init (fun v => i_Rel 0 u v)) := by
  unfold wpX_init
  have lp : ∀ (d j f : Nat) (hd : Nat → Int32), j + d = 4 → d < f → 1 ≤ j → hd 0 = 0 → (∀ h, 1 ≤ h → h < j → hd h = -1) →
      wX_init_118 (fun u => wpY_init (fun v => i_Rel 0 u v)) 0 0 0 f (nI j) (fun _ => 0) (fun _ => 0) (fun _ => 0) (fun _ => 0) (fun _ => 0) (fun _ => 0) (fun _ => 0) (fun _ => 0) (fun _ => 0) (fun _ => 0) hd (fun _ => 0) (fun _ => 0) (fun _ => 0) := by
    intro d
    induction d with
    | zero =>
      intro j f hd hj hf h1 hh0 hh
      obtain ⟨f, rfl⟩ : ∃ g, f = g + 1 := ⟨f - 1, by omega⟩
      obtain rfl : j = 4 := by omega
      rw [wX_init_118]
      refine br_t (by decide) ?_
      simp only [ef_nbm, ef_nz1]
      refine nm_e (nm_e (nm_e ?_))
      have ev : ∀ sn : Nat → Int32, ef_vpl sn (upd (fun _ => 0) 0 1) = 0 := fun sn => by
        unfold ef_vpl
        rw [if_neg (by rw [pk_us]; decide), if_pos (by rw [pk_un (by omega)])]
      refine ef_put_0 (by rw [ev, pk_un (by omega)]; exact pk_us) (fun y _ => rfl) (fun r we wt kc ks vs bl fr nd wp wi wq hR hr => ?_)
      simp (disch := omega) only [ef_t8, ef_nb]
      refine nm_e (ef_settle (fun fr' hf' => ?_))
      refine ef_yinit (fun cy oc hn c1 c2 c3 c4 => ?_)
      have hso : ef_So [(0, 1)] := List.pairwise_singleton _ _
      have hTI : ef_TI (nI r) kc ks vs bl fr' (upd (upd (upd (fun _ => 0) 0 (-1)) 1 (-1)) 0 (nI r)) (fun _ => 0) (upd (fun _ => 0) 0 1) [(0, 1)] [(0, 1)] := by
        refine ⟨0, r, [r], [r], rfl, hR, hso, by simp, ⟨⟨fun y hy => Or.inl (hf' y hy), fun y hy => Or.inr hy, fun y hy => ?_, fun y h3 h4 => ?_⟩, by simp, fun y hy => ?_, by simp, hso, by simp, fun y hy => ?_, Or.inr ⟨r, 0, ?_, hR⟩⟩⟩
        · rw [List.mem_singleton] at hy; exact hf' y (by omega)
        · rw [hf' y h3] at h4; exact absurd h4 (by decide)
        · rw [List.mem_singleton] at hy; omega
        · rw [List.mem_singleton] at hy; omega
        · rw [ev]; exact pk_us
      have hlk : ∀ q, ef_lk [(0, 1)] q = if q = 0 then some 1 else none := fun q => by
        show (if 0 = q then some 1 else none) = _
        by_cases e : q = 0
        · rw [if_pos e, if_pos e.symm]
        · rw [if_neg e, if_neg (fun h => e h.symm)]
      have hMp : ef_Mp (fun q => if q = 0 then some 1 else none) ef_k0 (fun _ => 0) (fun _ => 0) (ef_pl (fun _ => 0) (fun _ => 24)) := by
        refine ⟨fun n hn => ?_, fun n x j hn hx => ?_, fun n hn => ⟨fun b v hb h => ?_, fun b q hb h => ?_⟩, fun q hq => ?_⟩
        · by_cases e : n = 0
          · subst e; rfl
          · dsimp only
            rw [if_neg (by omega), ef_k0_n e, if_pos rfl]
        · dsimp only
          rw [if_neg (by omega)]
          constructor
          · intro h
            cases h
          · rintro ⟨a1, a2, a3, _⟩
            have := ef_k0_p a3
            omega
        · dsimp only at h
          rw [if_neg (by omega)] at h; cases h
        · unfold ef_pl at h
          rw [if_neg (by show ¬ 24 < 24; omega)] at h; cases h
        · by_cases e : q = 0
          · subst e; exact ⟨by omega, Or.inl (by omega)⟩
          · exact absurd (if_neg e) hq
      have hYa : ∀ cy : Nat → Int32, (∀ q, q < 128 → cy q = 24) → ef_Ya (upd (fun _ => 0) 0 1) (fun _ => 0) (fun _ => 0) cy ef_k0 (fun _ => 0) (fun _ => 0) (fun _ => 24) := fun cy hc => by
        refine ⟨fun n hn => ⟨?_, rfl, rfl⟩, fun j hj => hc j hj⟩
        unfold upd
        by_cases e : n = 0
        · rw [if_pos e, e]; rfl
        · rw [if_neg e, ef_k0_n e]; rfl
      have noUs : ∀ c, ¬ ef_Us (fun _ => 24) (fun _ => 24) c := fun c hc => by
        obtain ⟨h1, ⟨j, _, h2⟩ | ⟨j, _, h2⟩⟩ := hc
        · have h2 : 24 = c := h2
          omega
        · have h2 : 24 = c := h2
          omega
      have hVd : ef_Vd (fun _ => 0) (upd (fun _ => 0) 0 1) 0 0 := ⟨by omega, rfl, pk_us, Or.inl (pk_un (f := fun _ => 0) (k := 0) (j := 1) (by omega))⟩
      refine ⟨_, _, _, _, _, _, _, _, _, _, fun _ => 0, fun h => if h = 0 then 0 else 16, 0, 0, ⟨_, _, hTI, hlk, hlk⟩, hVd, Nat.le_refl _, rfl, hYa cy c1, hYa oc c2, ef_Wf0, ef_Wf0, hMp, hMp, ⟨fun c hc => absurd hc (noUs c), fun c _ hc => absurd hc (noUs c), fun c _ hc => absurd hc (noUs c)⟩, rfl, fun h hlt => ?_⟩
      dsimp only
      by_cases e : h = 0
      · subst e
        rw [if_pos rfl]
        exact ⟨by omega, c3, fun _ => ⟨by rw [ef_k0_0]; omega, hh0⟩, fun h' => by omega⟩
      · rw [if_neg e]
        exact ⟨by omega, c4 h (by omega) hlt, fun h' => by omega, fun _ => hh h (by omega) hlt⟩
    | succ d ih =>
      intro j f hd hj hf h1 hh0 hh
      obtain ⟨f, rfl⟩ : ∃ g, f = g + 1 := ⟨f - 1, by omega⟩
      rw [wX_init_118]
      refine br_f (nI_ge (b := 4) (by omega) (by decide)) ?_
      simp (disch := omega) only [nI_clamp, nI_1, ef_nbm]
      refine ⟨vp_in_nI (by omega) (by decide), nm_e (nm_e (ih (j + 1) f _ (by omega) (by omega) (by omega) ?_ (fun h a b => ?_)))⟩
      · rw [pk_un (by omega)]; exact hh0
      · by_cases e : h = j
        · rw [e, pk_us]
        · rw [pk_un e]; exact hh h a (by omega)
  exact ⟨4, lp 3 1 4 _ (by omega) (by omega) (by omega) rfl (fun h a b => by omega)⟩
end
section
/-! make and erase -/
theorem ef_itS {F : Nat → Nat} : ∀ (j n : Nat), ef_it F (j + 1) n = F (ef_it F j n)
  | 0, _ => rfl
  | j + 1, n => ef_itS j (F n)
theorem ef_it_add {F : Nat → Nat} : ∀ (i j n : Nat), ef_it F (i + j) n = ef_it F i (ef_it F j n)
  | i, 0, _ => rfl
  | i, j + 1, n => by
    show ef_it F (i + j) (F n) = _
    rw [ef_it_add i j (F n)]
    rfl
theorem ef_it_eq {F G : Nat → Nat} {n : Nat} : ∀ {t : Nat}, (∀ i, i < t → G (ef_it F i n) = F (ef_it F i n)) → ef_it G t n = ef_it F t n
  | 0, _ => rfl
  | t + 1, h => by
    rw [ef_itS, ef_itS, ef_it_eq (fun i hi => h i (by omega)), h t (by omega)]
theorem ef_chain {K F N C : Nat → Nat} (hW : ef_Wf K F N C) {n : Nat} (hn : n < 16) (hk : 0 < K n) : ∀ i, ef_it F i n < 16 ∧ 0 < K (ef_it F i n)
  | 0 => ⟨hn, hk⟩
  | i + 1 => by
    obtain ⟨h1, h2⟩ := ef_chain hW hn hk i
    rw [ef_itS]
    refine ⟨(hW.2.2.1 _ h1).2.1, ?_⟩
    by_cases e : ef_it F i n = 0
    · rw [e, hW.2.1, hW.1]; omega
    · rw [hW.2.2.2.1 _ (by omega) h1 h2]; omega
theorem ef_Hd_mono {hd hn : Nat → Int32} {K K2 Hn : Nat → Nat} (h : ef_Hd hd hn K Hn) (hk : ∀ q, q < 4 → Hn q < 16 → 0 < K2 (Hn q)) : ef_Hd hd hn K2 Hn :=
  ⟨h.1, fun q hq => ⟨(h.2 q hq).1, (h.2 q hq).2.1, fun a => ⟨hk q hq a, ((h.2 q hq).2.2.1 a).2⟩, (h.2 q hq).2.2.2⟩⟩
theorem ef_Mp_ext {m : Nat → Option Nat} {K I N : Nat → Nat} {pl pl' : Nat → Nat → Option Nat} (h : ef_Mp m K I N pl) (he : ∀ n b, n < 16 → b < 8 → pl' n b = pl n b) : ef_Mp m K I N pl' :=
  ⟨h.1, h.2.1, fun n hn => ef_Sw_ext (h.2.2.1 n hn) (fun _ _ => rfl) (fun b hb => he n b hn hb), h.2.2.2⟩
/-- a number into a table -/
def ef_st (f : Nat → Nat) (j v : Nat) : Nat → Nat := fun n => if n = j then v else f n
theorem ef_st_s {f : Nat → Nat} {j v : Nat} : ef_st f j v j = v := if_pos rfl
theorem ef_st_n {f : Nat → Nat} {j v n : Nat} (h : n ≠ j) : ef_st f j v n = f n := if_neg h
section
variable {m : Nat → Option Nat} {K F N C : Nat → Nat} {pl : Nat → Nat → Option Nat} {j d x c : Nat}
theorem ef_Mp_make (hM : ef_Mp m K F N pl) (hj1 : 1 ≤ j) (hj : j < 16) (hKj : K j = 0) (hd : d < 16) (hx : x < 100) (hno : m (256 * d + 1 + x) = none) (hc : 0 < c) :
    ef_Mp (ef_ins (ef_ins m (256 * j) (4 * d + c)) (256 * d + 1 + x) j) (ef_st K j c) (ef_st F j d) (ef_st N j x) pl := by
  obtain ⟨h1, h2, h3, h4⟩ := hM
  refine ⟨fun n hn => ?_, fun n y i hn hy => ?_, fun n hn => ef_Sw_ext (h3 n hn) (fun b hb => ?_) (fun _ _ => rfl), fun q hq => ?_⟩
  · unfold ef_ins
    rw [if_neg (by omega)]
    by_cases e : n = j
    · rw [if_pos (by omega), e, ef_st_s, ef_st_s, if_neg (by omega)]
    · rw [if_neg (by omega), ef_st_n e, ef_st_n e]
      exact h1 n hn
  · unfold ef_ins
    by_cases e : 256 * n + 1 + y = 256 * d + 1 + x
    · have en : n = d := by omega
      have ey : y = x := by omega
      subst en ey
      rw [if_pos rfl]
      constructor
      · intro h
        have : j = i := Option.some.inj h
        subst this
        rw [ef_st_s, ef_st_s, ef_st_s]
        exact ⟨hj1, hj, hc, rfl, rfl⟩
      · rintro ⟨a1, a2, a3, a4, a5⟩
        by_cases ei : i = j
        · rw [ei]
        · rw [ef_st_n ei] at a3 a4 a5
          have := (h2 n y i hn hy).mpr ⟨a1, a2, a3, a4, a5⟩
          rw [hno] at this
          cases this
    · rw [if_neg e, if_neg (by omega), h2 n y i hn hy]
      by_cases ei : i = j
      · rw [ei, ef_st_s, ef_st_s, ef_st_s, hKj]
        constructor
        · rintro ⟨_, _, a3, _⟩; omega
        · rintro ⟨_, _, _, a4, a5⟩; omega
      · rw [ef_st_n ei, ef_st_n ei, ef_st_n ei]
  · unfold ef_ins
    rw [if_neg (by omega), if_neg (by omega)]
  · unfold ef_ins at hq
    by_cases e1 : q = 256 * d + 1 + x
    · omega
    · rw [if_neg e1] at hq
      by_cases e2 : q = 256 * j
      · omega
      · rw [if_neg e2] at hq
        exact h4 q hq
theorem ef_Wf_make (hW : ef_Wf K F N C) (hM : ef_Mp m K F N pl) (hj1 : 1 ≤ j) (hj : j < 16) (hKj : K j = 0) (hd : d < 16) (hKd : K d = 1) (hx : x < 100) (hno : m (256 * d + 1 + x) = none) (hc : 0 < c) (hc2 : c ≤ 2) :
    ef_Wf (ef_st K j c) (ef_st F j d) (ef_st N j x) C := by
  have hch := fun {n} (hn : n < 16) (hk : 0 < K n) => ef_chain hW hn hk
  obtain ⟨w1, w2, w3, w4, w5, w6, w7, w8⟩ := hW
  have no : ∀ i, 1 ≤ i → i < 16 → 0 < K i → F i = d → N i = x → False := fun i a b c1 c2 c3 => by
    have := (hM.2.1 d x i hd hx).mpr ⟨a, b, c1, c2, c3⟩
    rw [hno] at this
    cases this
  have hdj : d ≠ j := fun e => by rw [e, hKj] at hKd; omega
  -- the chains stay as they are
  have old : ∀ n, n < 16 → 0 < K n → ∃ t, ef_it (ef_st F j d) t n = 0 := fun n hn hk => by
    obtain ⟨t, ht⟩ := w8 n hn hk
    refine ⟨t, ?_⟩
    rw [ef_it_eq (F := F) (fun i _ => ef_st_n (fun e => ?_))]
    · exact ht
    · have := (hch hn hk i).2
      rw [e, hKj] at this
      omega
  refine ⟨by rw [ef_st_n (by omega)]; exact w1, by rw [ef_st_n (by omega)]; exact w2, fun n hn => ?_, fun n n1 n2 n3 => ?_, fun n n' a1 a2 b1 b2 k1 k2 f1 f2 => ?_, fun n b hn hb => ⟨(w6 n b hn hb).1, fun hk => ?_⟩, w7, fun n hn hk => ?_⟩
  · by_cases e : n = j
    · rw [e, ef_st_s, ef_st_s, ef_st_s]; exact ⟨hc2, hd, hx⟩
    · rw [ef_st_n e, ef_st_n e, ef_st_n e]; exact w3 n hn
  · by_cases e : n = j
    · rw [e, ef_st_s, ef_st_n hdj]; exact hKd
    · rw [ef_st_n e] at n3 ⊢
      have := w4 n n1 n2 n3
      rw [ef_st_n (fun e' => by rw [e', hKj] at this; omega)]
      exact this
  · by_cases e : n = j
    · by_cases e' : n' = j
      · omega
      · exfalso
        rw [ef_st_n e'] at k2
        rw [e, ef_st_s, ef_st_n e'] at f1 f2
        exact no n' b1 b2 k2 f1.symm f2.symm
    · by_cases e' : n' = j
      · exfalso
        rw [ef_st_n e] at k1
        rw [e', ef_st_s, ef_st_n e] at f1 f2
        exact no n a1 a2 k1 f1 f2
      · rw [ef_st_n e] at k1
        rw [ef_st_n e'] at k2
        rw [ef_st_n e, ef_st_n e'] at f1 f2
        exact w5 n n' a1 a2 b1 b2 k1 k2 f1 f2
  · by_cases e : n = j
    · rw [e]
      exact (w6 j b hj hb).2 (by rw [hKj]; omega)
    · rw [ef_st_n e] at hk
      exact (w6 n b hn hb).2 hk
  · by_cases e : n = j
    · obtain ⟨t, ht⟩ := old d hd (by omega)
      refine ⟨t + 1, ?_⟩
      show ef_it (ef_st F j d) t (ef_st F j d n) = 0
      rw [e, ef_st_s]
      exact ht
    · rw [ef_st_n e] at hk
      exact old n hn hk
theorem ef_Mp_erase (hM : ef_Mp m K F N pl) (hW : ef_Wf K F N C) (hd : d < 16) (hx : x < 100) (he : m (256 * d + 1 + x) = some j) :
    ef_Mp (ef_del (ef_del m (256 * d + 1 + x)) (256 * j)) (ef_st K j 0) F N pl := by
  have hW5 := hW.2.2.2.2.1
  obtain ⟨h1, h2, h3, h4⟩ := hM
  obtain ⟨e1, e2, e3, e4, e5⟩ := (h2 d x j hd hx).mp he
  refine ⟨fun n hn => ?_, fun n y i hn hy => ?_, fun n hn => ef_Sw_ext (h3 n hn) (fun b hb => ?_) (fun _ _ => rfl), fun q hq => ?_⟩
  · unfold ef_del
    by_cases e : n = j
    · rw [if_pos (by omega), e, ef_st_s, if_pos rfl]
    · rw [if_neg (by omega), if_neg (by omega), ef_st_n e]
      exact h1 n hn
  · unfold ef_del
    rw [if_neg (by omega)]
    by_cases e : 256 * n + 1 + y = 256 * d + 1 + x
    · have en : n = d := by omega
      have ey : y = x := by omega
      subst en ey
      rw [if_pos rfl]
      constructor
      · intro h; cases h
      · rintro ⟨a1, a2, a3, a4, a5⟩
        by_cases ei : i = j
        · rw [ei, ef_st_s] at a3; omega
        · rw [ef_st_n ei] at a3
          exact absurd (hW5 i j a1 a2 e1 e2 a3 e3 (by omega) (by omega)) ei
    · rw [if_neg e, h2 n y i hn hy]
      by_cases ei : i = j
      · rw [ei, ef_st_s]
        constructor
        · rintro ⟨_, _, _, a4, a5⟩; omega
        · rintro ⟨_, _, a3, _⟩; omega
      · rw [ef_st_n ei]
  · unfold ef_del
    rw [if_neg (by omega), if_neg (by omega)]
  · unfold ef_del at hq
    by_cases e1 : q = 256 * j
    · rw [if_pos e1] at hq; exact absurd rfl hq
    · rw [if_neg e1] at hq
      by_cases e2 : q = 256 * d + 1 + x
      · rw [if_pos e2] at hq; exact absurd rfl hq
      · rw [if_neg e2] at hq
        exact h4 q hq
/-- the blocks from a on of node j are gone -/
def ef_cl (C : Nat → Nat) (j a : Nat) : Nat → Nat := fun i => if 8 * j + a ≤ i ∧ i < 8 * j + 8 then 24 else C i
theorem ef_cl_pl {φ : Nat → Nat} {a : Nat} {n b : Nat} (hb : b < 8) : ef_pl φ (ef_cl C j a) n b = if n = j ∧ a ≤ b ∧ b < 8 then none else ef_pl φ C n b := by
  unfold ef_pl ef_cl
  by_cases e : n = j ∧ a ≤ b ∧ b < 8
  · rw [if_pos e, if_pos (show 8 * j + a ≤ 8 * n + b ∧ 8 * n + b < 8 * j + 8 by omega), if_neg (by omega)]
  · rw [if_neg e, if_neg (show ¬ (8 * j + a ≤ 8 * n + b ∧ 8 * n + b < 8 * j + 8) by omega)]
theorem ef_cl_wf {a : Nat} (hW : ef_Wf K F N C) : ef_Wf K F N (ef_cl C j a) := by
  obtain ⟨w1, w2, w3, w4, w5, w6, w7, w8⟩ := hW
  refine ⟨w1, w2, w3, w4, w5, fun n b hn hb => ⟨?_, fun hk => ?_⟩, fun i i' hi hi' hlt e => ?_, w8⟩
  · unfold ef_cl
    split
    · omega
    · exact (w6 n b hn hb).1
  · unfold ef_cl
    split
    · rfl
    · exact (w6 n b hn hb).2 hk
  · unfold ef_cl at hlt e
    by_cases e1 : 8 * j + a ≤ i ∧ i < 8 * j + 8
    · rw [if_pos e1] at hlt; omega
    · rw [if_neg e1] at hlt e
      by_cases e2 : 8 * j + a ≤ i' ∧ i' < 8 * j + 8
      · rw [if_pos e2] at e; omega
      · rw [if_neg e2] at e
        exact w7 i i' hi hi' hlt e
theorem ef_cl_us {C' : Nat → Nat} {a q : Nat} (h : ef_Us (ef_cl C j a) C' q) : ef_Us C C' q := by
  obtain ⟨h1, ⟨i, i1, i2⟩ | h2⟩ := h
  · unfold ef_cl at i2
    by_cases e : 8 * j + a ≤ i ∧ i < 8 * j + 8
    · rw [if_pos e] at i2; omega
    · rw [if_neg e] at i2
      exact ⟨h1, Or.inl ⟨i, i1, i2⟩⟩
  · exact ⟨h1, Or.inr h2⟩
theorem ef_Wf_erase (hW : ef_Wf K F N C) (hj1 : 1 ≤ j) (hj : j < 16) (hno : ∀ n, 1 ≤ n → n < 16 → 0 < K n → F n ≠ j) (hC : ∀ b, b < 8 → C (8 * j + b) = 24) : ef_Wf (ef_st K j 0) F N C := by
  obtain ⟨w1, w2, w3, w4, w5, w6, w7, w8⟩ := hW
  have pos : ∀ n, 0 < ef_st K j 0 n → n ≠ j ∧ 0 < K n := fun n h => by
    by_cases e : n = j
    · rw [e, ef_st_s] at h; omega
    · rw [ef_st_n e] at h; exact ⟨e, h⟩
  refine ⟨by rw [ef_st_n (by omega)]; exact w1, w2, fun n hn => ⟨?_, (w3 n hn).2⟩, fun n n1 n2 n3 => ?_, fun n n' a1 a2 b1 b2 k1 k2 => w5 n n' a1 a2 b1 b2 (pos n k1).2 (pos n' k2).2, fun n b hn hb => ⟨(w6 n b hn hb).1, fun hk => ?_⟩, w7, fun n hn hk => w8 n hn (pos n hk).2⟩
  · by_cases e : n = j
    · rw [e, ef_st_s]; omega
    · rw [ef_st_n e]; exact (w3 n hn).1
  · rw [ef_st_n (hno n n1 n2 (pos n n3).2)]
    exact w4 n n1 n2 (pos n n3).2
  · by_cases e : n = j
    · rw [e]; exact hC b hb
    · rw [ef_st_n e] at hk; exact (w6 n b hn hb).2 hk
end
theorem ef_cnt_full {p : Nat → Bool} {a : Nat} : ∀ {k : Nat}, ef_cnt p a k = k ↔ ∀ i, i < k → p (a + i) = true
  | 0 => ⟨fun _ i hi => by omega, fun _ => rfl⟩
  | k + 1 => by
    have hle := ef_cnt_le p a k
    unfold ef_cnt
    by_cases e : p (a + k) = true
    · rw [if_pos e]
      constructor
      · intro h i hi
        by_cases ei : i = k
        · rw [ei]; exact e
        · exact ef_cnt_full.mp (show ef_cnt p a k = k by omega) i (by omega)
      · intro h
        rw [ef_cnt_full.mpr (fun i hi => h i (by omega))]
    · rw [if_neg e]
      constructor
      · intro h; omega
      · intro h; exact absurd (h k (by omega)) e
section
variable {sg : Int32} {kd ip nm cy ok oi on oc da us hn : Nat → Int32} {K F N C Hn : Nat → Nat}
/-- the reference's search for a free node, and what it enters -/
theorem ef_ymake {post : Int32 → SY → Prop} {h0 h x j : Nat} {v4 : Int32} {hd : Nat → Int32} (hY : ef_Ya kd ip nm cy K F N C) (hW : ef_Wf K F N C) (hH : ef_Hd hd hn K Hn) (h03 : h0 ≤ 3) (hh : h ≤ 3) (hx : x < 100) (h16 : Hn h < 16) (hj1 : 1 ≤ j) (hj : j < 16) (hKj : K j = 0) (hl : ∀ q, 1 ≤ q → q < j → 0 < K q)
    (G : ∀ kd' ip' nm' cy', ef_Ya kd' ip' nm' cy' (ef_st K j (if v4 = 0 then 2 else 1)) (ef_st F j (Hn h)) (ef_st N j x) C → post 0 (sg, kd', ip', nm', cy', ok, oi, on, oc, da, us, upd hn h0 (nI j))) : ∃ f, wY_make_83 post (nI h0) (nI h) (nI x) v4 sg kd ip nm cy ok oi on oc da us hn f 16 15 := by
  have q2 := (hH.2 h (by omega)).2.1
  -- entering it
  have ent : ∀ c : Nat, c = (if v4 = 0 then 2 else 1) → wY_make_124 post (nI h0) (nI h) (nI x) (nI j) (nI c) (nI j) sg kd ip nm cy ok oi on oc da us hn := fun c hc => by
    unfold wY_make_124
    simp (disch := omega) only [nI_clamp, q2]
    refine ⟨vp_in_nI hj (by decide), nm_e ⟨vp_in_nI (by omega) (by decide), vp_in_nI hj (by decide), nm_e ⟨vp_in_nI hj (by decide), nm_e ⟨9, ?_⟩⟩⟩⟩
    have yfin : ∀ cy' : Nat → Int32, (∀ i, i < 128 → cy' i = cy i) → ef_Ya (upd kd j (nI c)) (upd ip j (nI (Hn h))) (upd nm j (nI x)) cy' (ef_st K j (if v4 = 0 then 2 else 1)) (ef_st F j (Hn h)) (ef_st N j x) C := fun cy' hcy => by
      refine ⟨fun n hn => ?_, fun i hi => (hcy i hi).trans (hY.2 i hi)⟩
      by_cases e : n = j
      · rw [e, pk_us, pk_us, pk_us, ef_st_s, ef_st_s, ef_st_s, hc]; exact ⟨rfl, rfl, rfl⟩
      · rw [pk_un e, pk_un e, pk_un e, ef_st_n e, ef_st_n e, ef_st_n e]; exact hY.1 n hn
    have lp : ∀ (d b f : Nat) (cy' : Nat → Int32), b + d = 8 → d < f → (∀ i, i < 128 → cy' i = cy i) → wY_make_149 post (nI h0) (nI j) sg f (nI b) (upd kd j (nI c)) (upd ip j (nI (Hn h))) (upd nm j (nI x)) cy' ok oi on oc da us hn := by
      intro d
      induction d with
      | zero =>
        intro b f cy' hb hf hcy
        obtain ⟨f, rfl⟩ : ∃ g, f = g + 1 := ⟨f - 1, by omega⟩
        obtain rfl : b = 8 := by omega
        rw [wY_make_149]
        refine br_t (by decide) ?_
        simp (disch := omega) only [nI_clamp]
        exact ⟨vp_in_nI (by omega) (by decide), nm_e (G _ _ _ cy' (yfin cy' hcy))⟩
      | succ d ih =>
        intro b f cy' hb hf hcy
        obtain ⟨f, rfl⟩ : ∃ g, f = g + 1 := ⟨f - 1, by omega⟩
        rw [wY_make_149]
        refine br_f (nI_ge (b := 8) (by omega) (by decide)) ?_
        have e24 : cy' (8 * j + b) = 24 := by
          rw [hcy _ (by omega), hY.2 _ (by omega), (hW.2.2.2.2.2.1 j b hj (by omega)).2 (by rw [hKj]; omega)]
          rfl
        simp (disch := omega) only [ef_m8, nI_add, nI_clamp, nI_1, ef_upd_same e24]
        exact ⟨vp_in_nI (by omega) (by decide), nm_e (nm_e (ih (b + 1) f cy' (by omega) (by omega) hcy))⟩
    exact lp 8 0 9 cy (by omega) (by omega) (fun _ _ => rfl)
  have lp : ∀ (i f l : Nat), i < 16 → i < f → ((l = 16 ∧ i ≥ j) ∨ (l = j ∧ i < j) ∨ (j < l ∧ l < 16 ∧ j ≤ i)) → wY_make_83 post (nI h0) (nI h) (nI x) v4 sg kd ip nm cy ok oi on oc da us hn f (nI l) (nI i) := by
    intro i
    induction i with
    | zero =>
      intro f l hi hf hl'
      obtain ⟨f, rfl⟩ : ∃ g, f = g + 1 := ⟨f - 1, by omega⟩
      obtain rfl : l = j := by omega
      rw [wY_make_83]
      refine br_t (by decide) (br_c (fun e => ?_) (fun e => ?_))
      · exact ent 2 (by rw [if_pos e])
      · exact ent 1 (by rw [if_neg e])
    | succ i ih =>
      intro f l hi hf hl'
      obtain ⟨f, rfl⟩ : ∃ g, f = g + 1 := ⟨f - 1, by omega⟩
      have y1 := (hY.1 (i + 1) hi).1
      have w1 := (hW.2.2.1 (i + 1) hi).1
      rw [wY_make_83]
      refine br_f (nI_nle (by omega) (by omega)) ?_
      simp (disch := omega) only [nI_clamp, y1, pk_m1]
      refine ⟨vp_in_nI hi (by decide), br_c (fun e => ?_) (fun e => ?_)⟩
      · have e : K (i + 1) = 0 := ef_inj (b := 0) (by omega) (by omega) e
        have : j ≤ i + 1 := by
          by_cases hlt : i + 1 < j
          · have := hl (i + 1) (by omega) hlt; omega
          · omega
        exact nm_e (ih f (i + 1) (by omega) (by omega) (by omega))
      · have e : K (i + 1) ≠ 0 := fun h => e (by rw [h]; rfl)
        have : i + 1 ≠ j := fun h => e (by rw [h]; exact hKj)
        exact nm_e (ih f l (by omega) (by omega) (by omega))
  exact ⟨16, lp 15 16 16 (by omega) (by omega) (by omega)⟩
end
theorem ef_Cap_2 {m : Nat → Option Nat} {k v k' v' : Nat} (h : ef_Cap (ef_ins (ef_ins m k v) k' v')) : ef_Cap (ef_ins m k v) := ef_Cap_mono (fun q hq => by
  unfold ef_ins at *
  by_cases e : q = k'
  · rw [if_pos e]; simp
  · rw [if_neg e]; exact hq) h
theorem ef_4c (n : Nat) : nI n + 2 = nI (n + 2) := nI_add n 2
theorem i_vc_make {k : Nat} {u : SX} {v : SY} (I : i_Rel k u v) (hk : k + 5 ≤ 2560) (v1 : Int32) (v2 : Int32) (v3 : Int32) (v4 : Int32) : wpX_make (fun r u' => wpY_make (fun r' v' => r' = r ∧ i_Rel (k + 5) u' v') v v1 v2 v3 (lw_bz v4)) u v1 v2 v3 (lw_bz v4) := by
  obtain ⟨rt, we, wt, kc, ks, vs, bl, fr, nd, sr, sn, sv, dk, hd, wp, wi, wq⟩ := u
  obtain ⟨sg, kd, ip, nm, cy, ok, oi, on, oc, da, us, hn⟩ := v
  have J : ∀ we wt nd wp wi wq us, i_Rel (k + 5) (rt, we, wt, kc, ks, vs, bl, fr, nd, sr, sn, sv, dk, hd, wp, wi, wq) (sg, kd, ip, nm, cy, ok, oi, on, oc, da, us, hn) := fun _ _ _ _ _ _ _ => ef_Rel_up I
  obtain ⟨m, ms, K, F, N, C, K', F', N', C', φ, Hn, p, s, hT, hV, hs, eg, hY, hY', hW, hW', hM, hM', hP, hH⟩ := I
  generalize lw_bz v4 = w4
  unfold wpX_make
  refine br_c (fun c1 => ?_) (fun c1 => br_c (fun c2 => ?_) (fun c2 => ?_))
  · unfold wpY_make
    exact br_t c1 ⟨rfl, J we wt nd wp wi wq us⟩
  · unfold wpY_make
    exact br_f c1 (br_t c2 ⟨rfl, J we wt nd wp wi wq us⟩)
  obtain ⟨h0, h01, h03, rfl⟩ : ∃ h, 1 ≤ h ∧ h ≤ 3 ∧ v1 = nI h := by
    rcases ef_dec (v := v1) (n := 3) (by omega) with (h | h) | ⟨h, hh, rfl⟩
    · exact absurd (Int32.lt_trans h (by decide)) c1
    · exact absurd h c2
    · refine ⟨h, ?_, hh, rfl⟩
      by_cases e : h = 0
      · rw [e] at c1; exact absurd (by decide) c1
      · omega
  rcases ef_dec (v := v2) (n := 3) (by omega) with hb | ⟨h, hh, rfl⟩
  · refine ef_xH_b hb (br_t rfl ?_)
    unfold wpY_make
    exact br_f c1 (br_f c2 (ef_yH_b hb (br_t rfl ⟨rfl, J we wt nd wp wi wq us⟩)))
  refine ef_xH_g hh (br_f (by decide) ?_)
  rcases ef_dec (v := v3) (n := 99) (by omega) with hb | ⟨x, hx, rfl⟩
  · refine ef_xN_b hb (br_t rfl ?_)
    unfold wpY_make
    exact br_f c1 (br_f c2 (ef_yH_g hh (br_f (by decide) (ef_yN_b hb (br_t rfl ⟨rfl, J we wt nd wp wi wq us⟩)))))
  obtain ⟨q1, q2, q3, q4⟩ := hH.2 h (by omega)
  refine ef_xN_g hx (br_f (by decide) ?_)
  -- the reference's head
  have yhd : ∀ (Q : Int32 → SY → Prop), wpY_want (fun r_31 => (((r_31 = 0 → (vp_in (nI h) 4 ∧ (wpY_find (fun r_46 => (((16 ≤ r_46 → (wpY_nodes (fun r_60 => (((r_60 = 16 → (Q (-2) (sg, kd, ip, nm, cy, ok, oi, on, oc, da, us, hn))) ∧ (¬ r_60 = 16 → (∃ n83 : Nat, wY_make_83 Q (nI h0) (nI h) (nI x) w4 sg kd ip nm cy ok oi on oc da us hn n83 16 15))))) (sg, kd, ip, nm, cy, ok, oi, on, oc, da, us, hn))) ∧ (¬ 16 ≤ r_46 → (Q (-5) (sg, kd, ip, nm, cy, ok, oi, on, oc, da, us, hn)))))) (sg, kd, ip, nm, cy, ok, oi, on, oc, da, us, hn) (hn (nI h).toNatClampNeg) (nI x)))) ∧ (¬ r_31 = 0 → (Q r_31 (sg, kd, ip, nm, cy, ok, oi, on, oc, da, us, hn)))))) (sg, kd, ip, nm, cy, ok, oi, on, oc, da, us, hn) (nI h) 1 →
      wpY_make Q (sg, kd, ip, nm, cy, ok, oi, on, oc, da, us, hn) (nI h0) (nI h) (nI x) w4 := fun Q hQ => by
    unfold wpY_make
    exact br_f c1 (br_f c2 (ef_yH_g hh (br_f (by decide) (ef_yN_g hx (br_f (by decide) hQ)))))
  refine ef_dirF hT hM hW hH hh (fun e => ?_) (fun e e2 we wp wi => ?_) (fun e e1 we wp wi => ?_)
  · refine br_f (by decide) (yhd _ ?_)
    exact ef_want (κ := 1) hY hW hH hh (by decide) (fun _ => br_f (by decide) ⟨rfl, J we wt nd wp wi wq us⟩) (fun h' _ => by omega) (fun h' _ => by omega)
  · refine br_f (by decide) (yhd _ ?_)
    exact ef_want (κ := 1) hY hW hH hh (by decide) (fun h' => by omega) (fun _ h' => by omega) (fun _ _ => br_f (by decide) ⟨rfl, J we wt nd wp wi wq us⟩)
  refine br_t rfl ?_
  obtain ⟨q5, q6⟩ := q3 e
  dsimp only
  rw [nI_clamp (by omega), q6]
  refine ⟨vp_in_nI (by omega) (by decide), nm_e ?_⟩
  rw [ef_m256, nI_1, nI_add]
  refine ef_mget hT (by omega) (fun we wp wi => ?_)
  have hmp := fun j => hM.2.1 (Hn h) x j e (by omega)
  have yfd : ∀ (Q : Int32 → SY → Prop), (∀ j, m (256 * Hn h + 1 + x) = some j → Q (-5) (sg, kd, ip, nm, cy, ok, oi, on, oc, da, us, hn)) → (m (256 * Hn h + 1 + x) = none → wpY_nodes (fun r_60 => (((r_60 = 16 → (Q (-2) (sg, kd, ip, nm, cy, ok, oi, on, oc, da, us, hn))) ∧ (¬ r_60 = 16 → (∃ n83 : Nat, wY_make_83 Q (nI h0) (nI h) (nI x) w4 sg kd ip nm cy ok oi on oc da us hn n83 16 15))))) (sg, kd, ip, nm, cy, ok, oi, on, oc, da, us, hn)) →
      wpY_make Q (sg, kd, ip, nm, cy, ok, oi, on, oc, da, us, hn) (nI h0) (nI h) (nI x) w4 := fun Q g1 g2 => by
    refine yhd Q (ef_want (κ := 1) hY hW hH hh (by decide) (fun h' => by omega) (fun _ _ => br_t rfl ?_) (fun _ h' => absurd e1 h'))
    rw [nI_clamp (by omega), q2]
    refine ⟨vp_in_nI (by omega) (by decide), ef_yfind hY hW e (by omega) hmp ?_⟩
    cases hj : m (256 * Hn h + 1 + x) with
    | none => exact br_t (by decide) (g2 hj)
    | some j =>
      have := ((hmp j).mp hj).2.1
      exact br_f (nI_ge (b := 16) this (by decide)) (g1 j hj)
  cases hj : m (256 * Hn h + 1 + x) with
  | some j =>
    have := ((hmp j).mp hj).2.1
    exact br_f (nI_pos (by omega)) (yfd _ (fun _ _ => ⟨rfl, J we wt nd wp wi wq us⟩) (fun h' => by rw [hj] at h'; cases h'))
  | none =>
    refine br_t ef_neg' (ef_freeNode hT hM hW (fun hall we wp wi => ?_) (fun j j1 j2 jK jl we wp wi => ?_))
    · refine br_f ef_neg (yfd _ (fun j h' => by rw [hj] at h'; cases h') (fun _ => ef_ynodes hY hW (br_t ?_ ⟨rfl, J we wt nd wp wi wq us⟩)))
      have : ef_cnt (fun n => decide (0 < K n)) 0 16 = 16 := ef_cnt_full.mpr (fun i hi => by
        rw [Nat.zero_add]
        refine decide_eq_true ?_
        by_cases e0 : i = 0
        · rw [e0, hW.1]; omega
        · exact hall i (by omega) hi)
      rw [this]; rfl
    · refine br_t (nI_pos' (by omega)) ?_
      -- entered on both sides
      have fin : ∀ c : Nat, c = (if w4 = 0 then 2 else 1) → wX_make_106 (fun r u' => wpY_make (fun r' v' => r' = r ∧ i_Rel (k + 5) u' v') (sg, kd, ip, nm, cy, ok, oi, on, oc, da, us, hn) (nI h0) (nI h) (nI x) w4) (nI h0) (nI x) (nI (Hn h)) (nI j) (nI c) (nI (4 * Hn h)) (nI (256 * j)) rt we wt kc ks vs bl fr nd sr sn sv dk hd wp wi wq := fun c hc => by
        have hc1 : 0 < c ∧ c ≤ 2 := by rw [hc]; split <;> omega
        have M2 := ef_Mp_make hM j1 j2 jK e (by omega) hj hc1.1
        have W2 := ef_Wf_make hW hM j1 j2 jK e e1 (by omega) hj hc1.1 hc1.2
        have cap := ef_Mp_cap M2 (ef_Ij_pl hW hP)
        unfold wX_make_106
        simp only [nI_add, ef_m256, nI_1]
        refine ef_mput hT (by omega) (by omega) (ef_Cap_2 cap) (fun rt we wt kc ks vs bl fr nd wp wi wq T1 => ?_)
        refine ef_mput T1 (by omega) (by omega) cap (fun rt we wt kc ks vs bl fr nd wp wi wq T2 => ?_)
        simp (disch := omega) only [nI_clamp, ef_t8, ef_nb]
        refine ⟨vp_in_nI (by omega) (by decide), nm_e (yfd _ (fun j' h' => by rw [hj] at h'; cases h') (fun _ => ef_ynodes hY hW (br_f (fun h16 => ?_) ?_)))⟩
        · have h16 : ef_cnt (fun n => decide (0 < K n)) 0 16 = 16 := ef_inj (b := 16) (by have := ef_cnt_le (fun n => decide (0 < K n)) 0 16; omega) (by omega) h16
          have := of_decide_eq_true (ef_cnt_full.mp h16 j j2)
          rw [Nat.zero_add, jK] at this
          omega
        · refine ef_ymake hY hW hH h03 hh (by omega) e j1 j2 jK jl (fun kd' ip' nm' cy' hY2 => ⟨rfl, ?_⟩)
          rw [← hc] at hY2
          have hH2 : ef_Hd hd hn (ef_st K j c) Hn := ef_Hd_mono hH (fun q hq hlt => by
            have := ((hH.2 q hq).2.2.1 hlt).1
            by_cases ej : Hn q = j
            · rw [ej, jK] at this; omega
            · rw [ef_st_n ej]; exact this)
          exact ⟨_, ms, _, _, _, C, K', F', N', C', φ, _, p, s, T2, hV, by omega, eg, hY2, hY', W2, hW', M2, hM', hP, ef_Hd_upd hH2 h01 h03 j2 (by rw [ef_st_s]; omega)⟩
      dsimp only
      rw [ef_m4, ef_m256]
      exact br_c (fun h' => fin 2 (by rw [if_pos h'])) (fun h' => fin 1 (by rw [if_neg h']))
end
section
/-! erase -/
theorem ef_hd_eq {hd hn : Nat → Int32} {K Hn : Nat → Nat} {q j : Nat} (hH : ef_Hd hd hn K Hn) (hq : q < 4) (hj : j < 16) : (hd q = nI j ↔ Hn q = j) ∧ (hn q = nI j ↔ Hn q = j) := by
  obtain ⟨q1, q2, q3, q4⟩ := hH.2 q hq
  refine ⟨?_, ?_⟩
  · by_cases e : Hn q = 16
    · rw [q4 e, e]
      exact ⟨fun h => absurd h.symm (ef_nIm (by omega)), fun h => by omega⟩
    · rw [(q3 (by omega)).2, nI_eq (by omega) (by omega)]
  · rw [q2, nI_eq (by omega) (by omega)]
section
variable {rt we wt : Int32} {kc ks vs bl fr nd sr sn sv dk hd wp wi wq : Nat → Int32}
theorem ef_xer {post : Int32 → SX → Prop} {x2 x4 : Int32} {j : Nat} {hn : Nat → Int32} {K Hn : Nat → Nat} (hH : ef_Hd hd hn K Hn) (hj : j < 16) (B : (∃ q, q < 4 ∧ Hn q = j) → post (-6) (rt, we, wt, kc, ks, vs, bl, fr, nd, sr, sn, sv, dk, hd, wp, wi, wq)) (E : (∀ q, q < 4 → Hn q ≠ j) → ∀ f, wX_erase_65 post x2 x4 (nI j) rt we wt kc ks vs bl fr nd sr sn sv dk hd wp wi wq (f + 1) (nI 4)) :
    ∃ f, wX_erase_65 post x2 x4 (nI j) rt we wt kc ks vs bl fr nd sr sn sv dk hd wp wi wq f 0 := by
  have lp : ∀ (d q f : Nat), q + d = 4 → d < f → (∀ i, i < q → Hn i ≠ j) → wX_erase_65 post x2 x4 (nI j) rt we wt kc ks vs bl fr nd sr sn sv dk hd wp wi wq f (nI q) := by
    intro d
    induction d with
    | zero =>
      intro q f hq hf hi
      obtain ⟨f, rfl⟩ : ∃ g, f = g + 1 := ⟨f - 1, by omega⟩
      obtain rfl : q = 4 := by omega
      exact E hi f
    | succ d ih =>
      intro q f hq hf hi
      obtain ⟨f, rfl⟩ : ∃ g, f = g + 1 := ⟨f - 1, by omega⟩
      rw [wX_erase_65]
      refine br_f (nI_ge (b := 4) (by omega) (by decide)) ?_
      simp (disch := omega) only [nI_clamp, nI_1]
      refine ⟨vp_in_nI (by omega) (by decide), br_c (fun e => B ⟨q, by omega, (ef_hd_eq hH (by omega) hj).1.mp e⟩) (fun e => nm_e (ih (q + 1) f (by omega) (by omega) (fun i hi' => ?_)))⟩
      by_cases e' : i = q
      · rw [e']; exact fun h => e ((ef_hd_eq hH (by omega) hj).1.mpr h)
      · exact hi i (by omega)
  exact ⟨5, lp 4 0 5 (by omega) (by omega) (fun i hi => absurd hi (by omega))⟩
end
section
variable {sg : Int32} {kd ip nm cy ok oi on oc da us hn : Nat → Int32} {K F N C Hn : Nat → Nat}
theorem ef_yer {post : Int32 → SY → Prop} {j : Nat} {hd : Nat → Int32} (hH : ef_Hd hd hn K Hn) (hj : j < 16) (B : (∃ q, q < 4 ∧ Hn q = j) → post (-6) (sg, kd, ip, nm, cy, ok, oi, on, oc, da, us, hn)) (E : (∀ q, q < 4 → Hn q ≠ j) → ∀ f, wY_erase_57 post (nI j) sg kd ip nm cy ok oi on oc da us hn (f + 1) (nI 4)) :
    ∃ f, wY_erase_57 post (nI j) sg kd ip nm cy ok oi on oc da us hn f 0 := by
  have lp : ∀ (d q f : Nat), q + d = 4 → d < f → (∀ i, i < q → Hn i ≠ j) → wY_erase_57 post (nI j) sg kd ip nm cy ok oi on oc da us hn f (nI q) := by
    intro d
    induction d with
    | zero =>
      intro q f hq hf hi
      obtain ⟨f, rfl⟩ : ∃ g, f = g + 1 := ⟨f - 1, by omega⟩
      obtain rfl : q = 4 := by omega
      exact E hi f
    | succ d ih =>
      intro q f hq hf hi
      obtain ⟨f, rfl⟩ : ∃ g, f = g + 1 := ⟨f - 1, by omega⟩
      rw [wY_erase_57]
      refine br_f (nI_ge (b := 4) (by omega) (by decide)) ?_
      simp (disch := omega) only [nI_clamp, nI_1]
      refine ⟨vp_in_nI (by omega) (by decide), br_c (fun e => B ⟨q, by omega, (ef_hd_eq hH (by omega) hj).2.mp e⟩) (fun e => nm_e (ih (q + 1) f (by omega) (by omega) (fun i hi' => ?_)))⟩
      by_cases e' : i = q
      · rw [e']; exact fun h => e ((ef_hd_eq hH (by omega) hj).2.mpr h)
      · exact hi i (by omega)
  exact ⟨5, lp 4 0 5 (by omega) (by omega) (fun i hi => absurd hi (by omega))⟩
/-- all blocks of a node gone -/
theorem ef_y118 {post : Int32 → SY → Prop} {j : Nat} (hj : j < 16) (hY : ∀ i, i < 128 → cy i = nI (C i)) (G : ∀ cy', (∀ i, i < 128 → cy' i = nI (ef_cl C j 0 i)) → post 0 (sg, kd, ip, nm, cy', ok, oi, on, oc, da, us, hn)) : ∃ f, wY_erase_118 post (nI j) sg f 0 kd ip nm cy ok oi on oc da us hn := by
  have lp : ∀ (d b f : Nat) (cy' : Nat → Int32), b + d = 8 → d < f → (∀ i, i < 128 → cy' i = if 8 * j ≤ i ∧ i < 8 * j + b then 24 else cy i) → wY_erase_118 post (nI j) sg f (nI b) kd ip nm cy' ok oi on oc da us hn := by
    intro d
    induction d with
    | zero =>
      intro b f cy' hb hf hcy
      obtain ⟨f, rfl⟩ : ∃ g, f = g + 1 := ⟨f - 1, by omega⟩
      obtain rfl : b = 8 := by omega
      rw [wY_erase_118]
      refine br_t (by decide) (G cy' (fun i hi => ?_))
      rw [hcy i hi]
      unfold ef_cl
      by_cases e : 8 * j + 0 ≤ i ∧ i < 8 * j + 8
      · rw [if_pos e, if_pos (by omega)]; rfl
      · rw [if_neg e, if_neg (by omega)]; exact hY i hi
    | succ d ih =>
      intro b f cy' hb hf hcy
      obtain ⟨f, rfl⟩ : ∃ g, f = g + 1 := ⟨f - 1, by omega⟩
      rw [wY_erase_118]
      refine br_f (nI_ge (b := 8) (by omega) (by decide)) ?_
      simp (disch := omega) only [ef_m8, nI_add, nI_clamp, nI_1]
      refine ⟨vp_in_nI (by omega) (by decide), nm_e (nm_e (ih (b + 1) f _ (by omega) (by omega) (fun i hi => ?_)))⟩
      unfold upd
      by_cases e : i = 8 * j + b
      · rw [if_pos e, if_pos (by omega)]
      · rw [if_neg e, hcy i hi]
        by_cases e2 : 8 * j ≤ i ∧ i < 8 * j + b
        · rw [if_pos e2, if_pos (by omega)]
        · rw [if_neg e2, if_neg (by omega)]
  exact ⟨9, lp 8 0 9 cy (by omega) (by omega) (fun i hi => by rw [if_neg (by omega)])⟩
end
theorem i_vc_erase {k : Nat} {u : SX} {v : SY} (I : i_Rel k u v) (hk : k + 5 ≤ 2560) (v1 : Int32) (v2 : Int32) : wpX_erase (fun r u' => wpY_erase (fun r' v' => r' = r ∧ i_Rel (k + 5) u' v') v v1 v2) u v1 v2 := by
  obtain ⟨rt, we, wt, kc, ks, vs, bl, fr, nd, sr, sn, sv, dk, hd, wp, wi, wq⟩ := u
  obtain ⟨sg, kd, ip, nm, cy, ok, oi, on, oc, da, us, hn⟩ := v
  have J : ∀ we wt nd wp wi wq us, i_Rel (k + 5) (rt, we, wt, kc, ks, vs, bl, fr, nd, sr, sn, sv, dk, hd, wp, wi, wq) (sg, kd, ip, nm, cy, ok, oi, on, oc, da, us, hn) := fun _ _ _ _ _ _ _ => ef_Rel_up I
  obtain ⟨m, ms, K, F, N, C, K', F', N', C', φ, Hn, p, s, hT, hV, hs, eg, hY, hY', hW, hW', hM, hM', hP, hH⟩ := I
  unfold wpX_erase
  rcases ef_dec (v := v1) (n := 3) (by omega) with hb | ⟨h, hh, rfl⟩
  · refine ef_xH_b hb (br_t rfl ?_)
    unfold wpY_erase
    exact ef_yH_b hb (br_t rfl ⟨rfl, J we wt nd wp wi wq us⟩)
  refine ef_xH_g hh (br_f (by decide) ?_)
  rcases ef_dec (v := v2) (n := 99) (by omega) with hb | ⟨x, hx, rfl⟩
  · refine ef_xN_b hb (br_t rfl ?_)
    unfold wpY_erase
    exact ef_yH_g hh (br_f (by decide) (ef_yN_b hb (br_t rfl ⟨rfl, J we wt nd wp wi wq us⟩)))
  obtain ⟨q1, q2, q3, q4⟩ := hH.2 h (by omega)
  refine ef_xN_g hx (br_f (by decide) ?_)
  have yhd : ∀ (Q : Int32 → SY → Prop), wpY_want (fun r_29 => (((r_29 = 0 → (vp_in (nI h) 4 ∧ (wpY_find (fun r_44 => (((r_44 = 16 → (Q (-3) (sg, kd, ip, nm, cy, ok, oi, on, oc, da, us, hn))) ∧ (¬ r_44 = 16 → (∃ n57 : Nat, wY_erase_57 Q r_44 sg kd ip nm cy ok oi on oc da us hn n57 0))))) (sg, kd, ip, nm, cy, ok, oi, on, oc, da, us, hn) (hn (nI h).toNatClampNeg) (nI x)))) ∧ (¬ r_29 = 0 → (Q r_29 (sg, kd, ip, nm, cy, ok, oi, on, oc, da, us, hn)))))) (sg, kd, ip, nm, cy, ok, oi, on, oc, da, us, hn) (nI h) 1 → wpY_erase Q (sg, kd, ip, nm, cy, ok, oi, on, oc, da, us, hn) (nI h) (nI x) := fun Q hQ => by
    unfold wpY_erase
    exact ef_yH_g hh (br_f (by decide) (ef_yN_g hx (br_f (by decide) hQ)))
  refine ef_dirF hT hM hW hH hh (fun e => ?_) (fun e e2 we wp wi => ?_) (fun e e1 we wp wi => ?_)
  · refine br_f (by decide) (yhd _ ?_)
    exact ef_want (κ := 1) hY hW hH hh (by decide) (fun _ => br_f (by decide) ⟨rfl, J we wt nd wp wi wq us⟩) (fun h' _ => by omega) (fun h' _ => by omega)
  · refine br_f (by decide) (yhd _ ?_)
    exact ef_want (κ := 1) hY hW hH hh (by decide) (fun h' => by omega) (fun _ h' => by omega) (fun _ _ => br_f (by decide) ⟨rfl, J we wt nd wp wi wq us⟩)
  refine br_t rfl ?_
  obtain ⟨q5, q6⟩ := q3 e
  dsimp only
  rw [nI_clamp (by omega), q6]
  refine ⟨vp_in_nI (by omega) (by decide), nm_e ?_⟩
  rw [ef_m256, nI_1, nI_add]
  refine ef_mget hT (by omega) (fun we wp wi => ?_)
  have hmp := fun j => hM.2.1 (Hn h) x j e (by omega)
  have yfd : ∀ (Q : Int32 → SY → Prop), (∀ j, m (256 * Hn h + 1 + x) = some j → ∃ f, wY_erase_57 Q (nI j) sg kd ip nm cy ok oi on oc da us hn f 0) → (m (256 * Hn h + 1 + x) = none → Q (-3) (sg, kd, ip, nm, cy, ok, oi, on, oc, da, us, hn)) → wpY_erase Q (sg, kd, ip, nm, cy, ok, oi, on, oc, da, us, hn) (nI h) (nI x) := fun Q g1 g2 => by
    refine yhd Q (ef_want (κ := 1) hY hW hH hh (by decide) (fun h' => by omega) (fun _ _ => br_t rfl ?_) (fun _ h' => absurd e1 h'))
    rw [nI_clamp (by omega), q2]
    refine ⟨vp_in_nI (by omega) (by decide), ef_yfind hY hW e (by omega) hmp ?_⟩
    cases hj : m (256 * Hn h + 1 + x) with
    | none => exact br_t rfl (g2 hj)
    | some j =>
      have := ((hmp j).mp hj).2.1
      exact br_f (fun h' => by have := ef_inj (b := 16) (by omega) (by omega) h'; omega) (g1 j hj)
  cases hj : m (256 * Hn h + 1 + x) with
  | none => exact br_f ef_neg (yfd _ (fun j h' => by rw [hj] at h'; cases h') (fun _ => ⟨rfl, J we wt nd wp wi wq us⟩))
  | some j =>
  obtain ⟨b1, b2, b3, b4, b5⟩ := (hmp j).mp hj
  have w2 := (hW.2.2.1 j b2).1
  have y1 := (hY.1 j b2).1
  refine br_t (nI_pos' (by omega)) ?_
  have yfd' : ∀ (Q : Int32 → SY → Prop), (∃ f, wY_erase_57 Q (nI j) sg kd ip nm cy ok oi on oc da us hn f 0) → wpY_erase Q (sg, kd, ip, nm, cy, ok, oi, on, oc, da, us, hn) (nI h) (nI x) := fun Q g1 => yfd Q (fun j' h' => by rw [hj] at h'; rw [← Option.some.inj h']; exact g1) (fun h' => by rw [hj] at h'; cases h')
  refine ef_xer hH b2 (fun hb => yfd' _ (ef_yer hH b2 (fun _ => ⟨rfl, J we wt nd wp wi wq us⟩) (fun h' => by obtain ⟨q, a, b⟩ := hb; exact absurd b (h' q a)))) (fun hnb f => ?_)
  rw [wX_erase_65]
  refine br_t (by decide) ?_
  -- the end on the reference's side
  have yend : ∀ (Q : Int32 → SY → Prop), (K j = 1 → ef_cnt (fun i => decide (0 < K i ∧ F i = j)) 1 15 = 0) → (∀ cy', (∀ i, i < 128 → cy' i = nI (ef_cl C j 0 i)) → Q 0 (sg, upd kd j 0, ip, nm, cy', ok, oi, on, oc, da, us, hn)) → wpY_erase Q (sg, kd, ip, nm, cy, ok, oi, on, oc, da, us, hn) (nI h) (nI x) := fun Q g1 g2 => by
    refine yfd' Q (ef_yer hH b2 (fun hb => by obtain ⟨q, a, b⟩ := hb; exact absurd b (hnb q a)) (fun _ f => ?_))
    rw [wY_erase_57]
    refine br_t (by decide) ?_
    simp (disch := omega) only [nI_clamp, y1]
    refine ⟨vp_in_nI b2 (by decide), br_c (fun ek => ?_) (fun ek => ?_)⟩
    · have ek : K j = 1 := ef_inj (b := 1) (by omega) (by omega) ek
      refine ef_yentries hY hW b2 (br_t ?_ ?_)
      · rw [g1 ek]; decide
      · exact ⟨vp_in_nI b2 (by decide), nm_e (ef_y118 b2 hY.2 g2)⟩
    · exact ⟨vp_in_nI b2 (by decide), nm_e (ef_y118 b2 hY.2 g2)⟩
  -- the end on the component's side
  have noch : (K j = 1 → ef_cnt (fun i => decide (0 < K i ∧ F i = j)) 1 15 = 0) → ∀ n, 1 ≤ n → n < 16 → 0 < K n → F n ≠ j := fun g n n1 n2 n3 e' => by
    have hp := hW.2.2.2.1 n n1 n2 n3
    rw [e'] at hp
    have := ef_cnt_pos (p := fun i => decide (0 < K i ∧ F i = j)) (a := 1) (k := 15)
    have := this.mpr ⟨n, n1, by omega, decide_eq_true ⟨n3, e'⟩⟩
    rw [g hp] at this
    omega
  have last : ∀ m1 rt we wt kc ks vs bl fr nd wp wi wq, (K j = 1 → ef_cnt (fun i => decide (0 < K i ∧ F i = j)) 1 15 = 0) → ef_TM rt kc ks vs bl fr sr sn sv m1 ms → ef_Mp m1 K F N (ef_pl φ (ef_cl C j 0)) → wX_erase_132 (fun r u' => wpY_erase (fun r' v' => r' = r ∧ i_Rel (k + 5) u' v') (sg, kd, ip, nm, cy, ok, oi, on, oc, da, us, hn) (nI h) (nI x)) (nI x) (nI (Hn h)) (nI j) rt we wt kc ks vs bl fr nd sr sn sv dk hd wp wi wq := fun m1 rt we wt kc ks vs bl fr nd wp wi wq g1 T1 M1 => by
    have e2 : m1 (256 * Hn h + 1 + x) = some j := (M1.2.1 (Hn h) x j e (by omega)).mpr ⟨b1, b2, b3, b4, b5⟩
    have e3 : m1 (256 * j) ≠ none := by rw [M1.1 j b2, if_neg (by omega)]; simp
    have z1 := ef_Mp_0 M1 hW
    unfold wX_erase_132
    simp only [ef_m256, nI_1, nI_add]
    refine ef_mrem T1 (by omega) (by rw [e2]; simp) z1 (by omega) (fun rt we wt kc ks vs bl fr nd wp wi wq T2 => ?_)
    refine ef_mrem T2 (by omega) (by unfold ef_del; rw [if_neg (by omega)]; exact e3) (by unfold ef_del; rw [if_neg (by omega)]; exact z1) (by omega) (fun rt we wt kc ks vs bl fr nd wp wi wq T3 => ?_)
    refine yend _ g1 (fun cy' hcy => ⟨rfl, ?_⟩)
    have W1 : ef_Wf K F N (ef_cl C j 0) := ef_cl_wf hW
    have W2 := ef_Wf_erase W1 b1 b2 (noch g1) (fun b hb => if_pos (by omega))
    have M2 := ef_Mp_erase M1 W1 e (by omega) e2
    refine ⟨_, ms, ef_st K j 0, F, N, ef_cl C j 0, K', F', N', C', φ, Hn, p, s, T3, hV, by omega, eg, ⟨fun n hn => ?_, hcy⟩, hY', W2, hW', M2, hM', ef_Ph_sub hP (fun c hc => ef_cl_us hc), ef_Hd_mono hH (fun q hq hlt => ?_)⟩
    · by_cases en : n = j
      · rw [en, pk_us, ef_st_s]
        exact ⟨rfl, (hY.1 j b2).2⟩
      · rw [pk_un en, ef_st_n en]
        exact hY.1 n hn
    · rw [ef_st_n (hnb q hq)]
      exact ((hH.2 q hq).2.2.1 hlt).1
  have e114 : ∀ we wp wi, (K j = 1 → ef_cnt (fun i => decide (0 < K i ∧ F i = j)) 1 15 = 0) → wX_erase_114 (fun r u' => wpY_erase (fun r' v' => r' = r ∧ i_Rel (k + 5) u' v') (sg, kd, ip, nm, cy, ok, oi, on, oc, da, us, hn) (nI h) (nI x)) (nI x) (nI (Hn h)) (nI j) rt we wt kc ks vs bl fr nd sr sn sv dk hd wp wi wq := fun we wp wi g1 => by
    unfold wX_erase_114
    refine ef_sortOf hT hM hW b2 b3 (fun we wp wi => ?_)
    refine br_c (fun ek => ?_) (fun ek => ?_)
    · refine ef_cutBlocks (a := 0) hT hM (ef_Ij_pl hW hP) (ef_Mp_0 hM hW) b2 (by omega) (fun m1 rt we wt kc ks vs bl fr nd wp wi wq T1 M1 z1 => ?_)
      exact last m1 _ _ _ _ _ _ _ _ _ _ _ _ g1 T1 (ef_Mp_ext M1 (fun n b hn hb => ef_cl_pl hb))
    · have ek : K j ≠ 2 := fun h' => ek (by rw [h']; rfl)
      refine last m _ _ _ _ _ _ _ _ _ _ _ _ g1 hT (ef_Mp_ext hM (fun n b hn hb => ?_))
      rw [ef_cl_pl hb]
      by_cases en : n = j ∧ 0 ≤ b ∧ b < 8
      · rw [if_pos en, en.1]
        unfold ef_pl
        rw [if_neg (by rw [(hW.2.2.2.2.2.1 j b b2 hb).2 ek]; omega)]
      · rw [if_neg en]
  refine ef_sortOf hT hM hW b2 b3 (fun we wp wi => br_c (fun ek => ?_) (fun ek => ?_))
  · have ek : K j = 1 := ef_inj (b := 1) (by omega) (by omega) ek
    refine ef_entriesOf hT hM b2 ?_
    have eqc := ef_entries_eq hM hW b2
    have lec := ef_cnt_le (fun i => decide (0 < K i ∧ F i = j)) 1 15
    rw [← eqc]
    refine br_c (fun hc => ?_) (fun hc => ?_)
    · have hc := (ef_le0 (by omega)).mp hc
      exact e114 we wp wi (fun _ => hc)
    · refine yfd' _ (ef_yer hH b2 (fun hb => by obtain ⟨q, a, b⟩ := hb; exact absurd b (hnb q a)) (fun _ f => ?_))
      rw [wY_erase_57]
      refine br_t (by decide) ?_
      simp (disch := omega) only [nI_clamp, y1, ek]
      refine ⟨vp_in_nI b2 (by decide), br_t rfl (ef_yentries hY hW b2 (br_f hc ⟨by trivial, J we wt nd wp wi wq us⟩))⟩
  · have ek : K j ≠ 1 := fun h' => ek (by rw [h']; rfl)
    exact e114 we wp wi (fun h' => absurd h' ek)
end
section
/-! rename -/
section
variable {m : Nat → Option Nat} {K F N C : Nat → Nat} {pl : Nat → Nat → Option Nat} {j d x e y : Nat}
theorem ef_Mp_ren (hM : ef_Mp m K F N pl) (hW : ef_Wf K F N C) (hd : d < 16) (hx : x < 100) (he : e < 16) (hy : y < 100) (h1j : m (256 * d + 1 + x) = some j) (hno : m (256 * e + 1 + y) = none) :
    ef_Mp (ef_ins (ef_ins (ef_del m (256 * d + 1 + x)) (256 * e + 1 + y) j) (256 * j) (4 * e + K j)) K (ef_st F j e) (ef_st N j y) pl := by
  have hW5 := hW.2.2.2.2.1
  obtain ⟨h1, h2, h3, h4⟩ := hM
  obtain ⟨b1, b2, b3, b4, b5⟩ := (h2 d x j hd hx).mp h1j
  have hne : 256 * d + 1 + x ≠ 256 * e + 1 + y := fun h => by rw [h, hno] at h1j; cases h1j
  refine ⟨fun n hn => ?_, fun n z i hn hz => ?_, fun n hn => ef_Sw_ext (h3 n hn) (fun b hb => ?_) (fun _ _ => rfl), fun q hq => ?_⟩
  · unfold ef_ins ef_del
    by_cases en : n = j
    · rw [if_pos (by omega), en, ef_st_s, if_neg (by omega)]
    · rw [if_neg (by omega), if_neg (by omega), if_neg (by omega), ef_st_n en]
      exact h1 n hn
  · unfold ef_ins ef_del
    rw [if_neg (by omega)]
    by_cases e1 : 256 * n + 1 + z = 256 * e + 1 + y
    · have en : n = e := by omega
      have ez : z = y := by omega
      subst en ez
      rw [if_pos rfl]
      constructor
      · intro h
        have : j = i := Option.some.inj h
        subst this
        rw [ef_st_s, ef_st_s]
        exact ⟨b1, b2, b3, rfl, rfl⟩
      · rintro ⟨a1, a2, a3, a4, a5⟩
        by_cases ei : i = j
        · rw [ei]
        · rw [ef_st_n ei] at a4 a5
          have := (h2 n z i hn hz).mpr ⟨a1, a2, a3, a4, a5⟩
          rw [hno] at this
          cases this
    · rw [if_neg e1]
      by_cases e2 : 256 * n + 1 + z = 256 * d + 1 + x
      · have en : n = d := by omega
        have ez : z = x := by omega
        subst en ez
        rw [if_pos rfl]
        constructor
        · intro h; cases h
        · rintro ⟨a1, a2, a3, a4, a5⟩
          by_cases ei : i = j
          · rw [ei, ef_st_s] at a4 a5; omega
          · rw [ef_st_n ei] at a4 a5
            exact absurd (hW5 i j a1 a2 b1 b2 a3 b3 (by omega) (by omega)) ei
      · rw [if_neg e2, h2 n z i hn hz]
        by_cases ei : i = j
        · rw [ei, ef_st_s, ef_st_s]
          constructor
          · rintro ⟨_, _, _, a4, a5⟩; omega
          · rintro ⟨_, _, _, a4, a5⟩; omega
        · rw [ef_st_n ei, ef_st_n ei]
  · unfold ef_ins ef_del
    rw [if_neg (by omega), if_neg (by omega), if_neg (by omega)]
  · unfold ef_ins ef_del at hq
    by_cases e1 : q = 256 * j
    · omega
    · rw [if_neg e1] at hq
      by_cases e2 : q = 256 * e + 1 + y
      · omega
      · rw [if_neg e2] at hq
        by_cases e3 : q = 256 * d + 1 + x
        · rw [if_pos e3] at hq; exact absurd rfl hq
        · rw [if_neg e3] at hq
          exact h4 q hq
theorem ef_Wf_ren (hW : ef_Wf K F N C) (hM : ef_Mp m K F N pl) (hj1 : 1 ≤ j) (hj : j < 16) (he : e < 16) (hKe : K e = 1) (hy : y < 100) (hno : m (256 * e + 1 + y) = none) (hnc : ∀ t, ef_it F t e ≠ j) : ef_Wf K (ef_st F j e) (ef_st N j y) C := by
  obtain ⟨w1, w2, w3, w4, w5, w6, w7, w8⟩ := hW
  have no : ∀ i, 1 ≤ i → i < 16 → 0 < K i → F i = e → N i = y → False := fun i a b c1 c2 c3 => by
    have := (hM.2.1 e y i he hy).mpr ⟨a, b, c1, c2, c3⟩
    rw [hno] at this
    cases this
  obtain ⟨te, hte⟩ : ∃ t, ef_it (ef_st F j e) t e = 0 := by
    obtain ⟨t, ht⟩ := w8 e he (by omega)
    refine ⟨t, ?_⟩
    rw [ef_it_eq (F := F) (fun i _ => ef_st_n (hnc i))]
    exact ht
  have all : ∀ t n, ef_it F t n = 0 → ∃ t', ef_it (ef_st F j e) t' n = 0 := by
    intro t
    induction t with
    | zero => intro n h; exact ⟨0, h⟩
    | succ t ih =>
      intro n h
      by_cases en : n = j
      · refine ⟨te + 1, ?_⟩
        show ef_it (ef_st F j e) te (ef_st F j e n) = 0
        rw [en, ef_st_s]
        exact hte
      · obtain ⟨t', ht'⟩ := ih (F n) h
        refine ⟨t' + 1, ?_⟩
        show ef_it (ef_st F j e) t' (ef_st F j e n) = 0
        rw [ef_st_n en]
        exact ht'
  refine ⟨w1, by rw [ef_st_n (by omega)]; exact w2, fun n hn => ⟨(w3 n hn).1, ?_, ?_⟩, fun n n1 n2 n3 => ?_, fun n n' a1 a2 c1 c2 k1 k2 f1 f2 => ?_, w6, w7, fun n hn hk => ?_⟩
  · by_cases en : n = j
    · rw [en, ef_st_s]; exact he
    · rw [ef_st_n en]; exact (w3 n hn).2.1
  · by_cases en : n = j
    · rw [en, ef_st_s]; exact hy
    · rw [ef_st_n en]; exact (w3 n hn).2.2
  · by_cases en : n = j
    · rw [en, ef_st_s]; exact hKe
    · rw [ef_st_n en]; exact w4 n n1 n2 n3
  · by_cases en : n = j
    · by_cases en' : n' = j
      · omega
      · exfalso
        rw [en, ef_st_s, ef_st_n en'] at f1 f2
        exact no n' c1 c2 k2 f1.symm f2.symm
    · by_cases en' : n' = j
      · exfalso
        rw [en', ef_st_s, ef_st_n en] at f1 f2
        exact no n a1 a2 k1 f1 f2
      · rw [ef_st_n en, ef_st_n en'] at f1 f2
        exact w5 n n' a1 a2 c1 c2 k1 k2 f1 f2
  · obtain ⟨t, ht⟩ := w8 n hn hk
    exact all t n ht
/-- the way up is short -/
theorem ef_short (hW : ef_Wf K F N C) (he : e < 16) (hKe : 0 < K e) {t : Nat} (h1 : ef_it F t e = j) (h2 : ∀ i, i < t → ef_it F i e ≠ 0 ∧ ef_it F i e ≠ j) : t ≤ 15 := by
  have hch := ef_chain hW he hKe
  have nd : ((List.range t).map (fun i => ef_it F i e)).Nodup := by
    refine ef_nodup_map List.nodup_range (fun a ha b hb heq => ?_)
    rw [List.mem_range] at ha hb
    have step : ∀ a b, a < b → b < t → ef_it F a e = ef_it F b e → False := fun a b hab hbt heq => by
      have e1 : ef_it F (t - b + a) e = ef_it F (t - b + b) e := by rw [ef_it_add, ef_it_add, heq]
      rw [show t - b + b = t from by omega, h1] at e1
      exact (h2 (t - b + a) (by omega)).2 e1
    rcases Nat.lt_trichotomy a b with h | h | h
    · exact absurd heq (fun h' => step a b h hb h')
    · exact h
    · exact absurd heq.symm (fun h' => step b a h ha h')
  have := List.Nodup.length_le_of_subset (l₂ := (List.range 15).map (· + 1)) nd (fun z hz => by
    obtain ⟨i, hi, rfl⟩ := List.mem_map.mp hz
    rw [List.mem_range] at hi
    have := hch i
    have := (h2 i hi).1
    exact List.mem_map.mpr ⟨ef_it F i e - 1, List.mem_range.mpr (by omega), by omega⟩)
  simpa using this
theorem ef_it0 (hW : ef_Wf K F N C) : ∀ t, ef_it F t 0 = 0
  | 0 => rfl
  | t + 1 => by
    show ef_it F t (F 0) = 0
    rw [hW.2.1]
    exact ef_it0 hW t
end
section
variable {sg : Int32} {kd ip nm cy ok oi on oc da us hn : Nat → Int32} {K F N C Hn : Nat → Nat}
theorem ef_yren {post : Int32 → SY → Prop} {g y j : Nat} {hd : Nat → Int32} (hY : ef_Ya kd ip nm cy K F N C) (hW : ef_Wf K F N C) (hH : ef_Hd hd hn K Hn) (hg : g ≤ 3) (h16 : Hn g < 16) (hKe : 0 < K (Hn g)) (hj1 : 1 ≤ j) (hj : j < 16)
    (B : (∃ t, t ≤ 15 ∧ ef_it F t (Hn g) = j) → post (-7) (sg, kd, ip, nm, cy, ok, oi, on, oc, da, us, hn)) (G : (∀ t, t ≤ 15 → ef_it F t (Hn g) ≠ j) → post 0 (sg, kd, upd ip j (nI (Hn g)), upd nm j (nI y), cy, ok, oi, on, oc, da, us, hn)) : ∃ f, wY_rename_147 post (nI g) (nI y) (nI j) sg kd ip nm cy ok oi on oc da us hn f (nI (Hn g)) 0 := by
  have q2 := (hH.2 g (by omega)).2.1
  have hch := ef_chain hW h16 hKe
  have lp : ∀ (d t f : Nat), t + d = 16 → d < f → (∀ i, i < t → ef_it F i (Hn g) ≠ j) → wY_rename_147 post (nI g) (nI y) (nI j) sg kd ip nm cy ok oi on oc da us hn f (nI (ef_it F t (Hn g))) (nI t) := by
    intro d
    induction d with
    | zero =>
      intro t f ht hf hi
      obtain ⟨f, rfl⟩ : ∃ g, f = g + 1 := ⟨f - 1, by omega⟩
      obtain rfl : t = 16 := by omega
      rw [wY_rename_147]
      refine br_t (by decide) ?_
      simp (disch := omega) only [nI_clamp, q2]
      exact ⟨vp_in_nI (by omega) (by decide), vp_in_nI hj (by decide), nm_e ⟨vp_in_nI hj (by decide), nm_e (G (fun t ht => hi t (by omega)))⟩⟩
    | succ d ih =>
      intro t f ht hf hi
      obtain ⟨f, rfl⟩ : ∃ g, f = g + 1 := ⟨f - 1, by omega⟩
      have h16t := (hch t).1
      rw [wY_rename_147]
      refine br_f (nI_ge (b := 16) (by omega) (by decide)) (br_c (fun e => ?_) (fun e => ?_))
      · exact B ⟨t, by omega, ef_inj (by omega) (by omega) e⟩
      · have e : ef_it F t (Hn g) ≠ j := fun h => e (by rw [h])
        have next := ih (t + 1) f (by omega) (by omega) (fun i hi' => by
          by_cases e' : i = t
          · rw [e']; exact e
          · exact hi i (by omega))
        rw [ef_itS] at next
        by_cases e0 : ef_it F t (Hn g) = 0
        · rw [e0, hW.2.1] at next
          rw [e0]
          exact br_t (by decide) (nm_r (nI_1 t) next)
        · have y2 := (hY.1 _ h16t).2.1
          refine br_f (nI_nle (by omega) (by omega)) ?_
          simp (disch := omega) only [nI_clamp, y2, nI_1]
          exact ⟨vp_in_nI h16t (by decide), nm_e (nm_e next)⟩
  exact ⟨17, lp 16 0 17 (by omega) (by omega) (fun i hi => absurd hi (by omega))⟩
end
theorem i_vc_rename {k : Nat} {u : SX} {v : SY} (I : i_Rel k u v) (hk : k + 5 ≤ 2560) (v1 : Int32) (v2 : Int32) (v3 : Int32) (v4 : Int32) : wpX_rename (fun r u' => wpY_rename (fun r' v' => r' = r ∧ i_Rel (k + 5) u' v') v v1 v2 v3 v4) u v1 v2 v3 v4 := by
  obtain ⟨rt, we, wt, kc, ks, vs, bl, fr, nd, sr, sn, sv, dk, hd, wp, wi, wq⟩ := u
  obtain ⟨sg, kd, ip, nm, cy, ok, oi, on, oc, da, us, hn⟩ := v
  have J : ∀ we wt nd wp wi wq us, i_Rel (k + 5) (rt, we, wt, kc, ks, vs, bl, fr, nd, sr, sn, sv, dk, hd, wp, wi, wq) (sg, kd, ip, nm, cy, ok, oi, on, oc, da, us, hn) := fun _ _ _ _ _ _ _ => ef_Rel_up I
  obtain ⟨m, ms, K, F, N, C, K', F', N', C', φ, Hn, p, s, hT, hV, hs, eg, hY, hY', hW, hW', hM, hM', hP, hH⟩ := I
  unfold wpX_rename
  rcases ef_dec (v := v1) (n := 3) (by omega) with hb | ⟨h, hh, rfl⟩
  · refine ef_xH_b hb (br_t rfl ?_)
    unfold wpY_rename
    exact ef_yH_b hb (br_t rfl ⟨rfl, J we wt nd wp wi wq us⟩)
  refine ef_xH_g hh (br_f (by decide) ?_)
  rcases ef_dec (v := v3) (n := 3) (by omega) with hb | ⟨g, hg, rfl⟩
  · refine ef_xH_b hb (br_t rfl ?_)
    unfold wpY_rename
    exact ef_yH_g hh (br_f (by decide) (ef_yH_b hb (br_t rfl ⟨rfl, J we wt nd wp wi wq us⟩)))
  refine ef_xH_g hg (br_f (by decide) ?_)
  rcases ef_dec (v := v2) (n := 99) (by omega) with hb | ⟨x, hx, rfl⟩
  · refine ef_xN_b hb (br_t rfl ?_)
    unfold wpY_rename
    exact ef_yH_g hh (br_f (by decide) (ef_yH_g hg (br_f (by decide) (ef_yN_b hb (br_t rfl ⟨rfl, J we wt nd wp wi wq us⟩)))))
  refine ef_xN_g hx (br_f (by decide) ?_)
  rcases ef_dec (v := v4) (n := 99) (by omega) with hb | ⟨y, hy, rfl⟩
  · refine ef_xN_b hb (br_t rfl ?_)
    unfold wpY_rename
    exact ef_yH_g hh (br_f (by decide) (ef_yH_g hg (br_f (by decide) (ef_yN_g hx (br_f (by decide) (ef_yN_b hb (br_t rfl ⟨rfl, J we wt nd wp wi wq us⟩)))))))
  refine ef_xN_g hy (br_f (by decide) ?_)
  obtain ⟨q1, q2, q3, q4⟩ := hH.2 h (by omega)
  obtain ⟨p1, p2, p3, p4⟩ := hH.2 g (by omega)
  have n16 : ∀ n, n < 16 → ¬ nI n = 16 := fun n hn h' => by have := ef_inj (b := 16) (by omega) (by omega) h'; omega
  -- the reference's answers to faults
  have y3 : ∀ r u', (Hn h = 16 ∨ Hn g = 16) → -3 = r → i_Rel (k + 5) u' (sg, kd, ip, nm, cy, ok, oi, on, oc, da, us, hn) → wpY_rename (fun r' v' => r' = r ∧ i_Rel (k + 5) u' v') (sg, kd, ip, nm, cy, ok, oi, on, oc, da, us, hn) (nI h) (nI x) (nI g) (nI y) := fun r u' hc er gI => by
    unfold wpY_rename
    refine ef_yH_g hh (br_f (by decide) (ef_yH_g hg (br_f (by decide) (ef_yN_g hx (br_f (by decide) (ef_yN_g hy (br_f (by decide) ?_)))))))
    simp (disch := omega) only [nI_clamp, q2, p2]
    refine ⟨vp_in_nI (by omega) (by decide), ?_⟩
    by_cases e1 : Hn h = 16
    · rw [e1]; exact br_t rfl ⟨er, gI⟩
    · have e2 : Hn g = 16 := by omega
      rw [e2]
      exact br_f (n16 _ (by omega)) ⟨vp_in_nI (by omega) (by decide), br_t rfl ⟨er, gI⟩⟩
  have y4 : ∀ r u', Hn h < 16 → Hn g < 16 → (K (Hn h) = 2 ∨ K (Hn g) = 2) → -4 = r → i_Rel (k + 5) u' (sg, kd, ip, nm, cy, ok, oi, on, oc, da, us, hn) → wpY_rename (fun r' v' => r' = r ∧ i_Rel (k + 5) u' v') (sg, kd, ip, nm, cy, ok, oi, on, oc, da, us, hn) (nI h) (nI x) (nI g) (nI y) := fun r u' a1 a2 hc er gI => by
    have z1 := (hY.1 _ a1).1
    have z2 := (hY.1 _ a2).1
    have u1 := (hW.2.2.1 _ a1).1
    have u2 := (hW.2.2.1 _ a2).1
    unfold wpY_rename
    refine ef_yH_g hh (br_f (by decide) (ef_yH_g hg (br_f (by decide) (ef_yN_g hx (br_f (by decide) (ef_yN_g hy (br_f (by decide) ?_)))))))
    simp (disch := omega) only [nI_clamp, q2, p2, z1, z2]
    refine ⟨vp_in_nI (by omega) (by decide), br_f (n16 _ a1) ⟨vp_in_nI (by omega) (by decide), br_f (n16 _ a2) ⟨vp_in_nI (by omega) (by decide), vp_in_nI a1 (by decide), br_c (fun e1 => ?_) (fun _ => ⟨er, gI⟩)⟩⟩⟩
    have e1 : K (Hn h) = 1 := ef_inj (b := 1) (by omega) (by omega) e1
    have e2 : K (Hn g) = 2 := by omega
    rw [e2]
    exact ⟨vp_in_nI (by omega) (by decide), vp_in_nI a2 (by decide), br_f (by decide) ⟨er, gI⟩⟩
  -- the component's joins
  have x72 : ∀ we wp wi, (Hn h = 16 ∨ Hn g = 16) → wX_rename_72 (fun r u' => wpY_rename (fun r' v' => r' = r ∧ i_Rel (k + 5) u' v') (sg, kd, ip, nm, cy, ok, oi, on, oc, da, us, hn) (nI h) (nI x) (nI g) (nI y)) (nI h) (nI x) (nI g) (nI y) rt we wt kc ks vs bl fr nd sr sn sv dk hd wp wi wq := fun we wp wi hc => by
    unfold wX_rename_72 wX_rename_76
    exact br_f (by decide) (y3 _ _ hc rfl (J we wt nd wp wi wq us))
  have x54 : ∀ we wp wi (x5 : Int32), (Hn h < 16 → Hn g < 16 → wX_rename_76 (fun r u' => wpY_rename (fun r' v' => r' = r ∧ i_Rel (k + 5) u' v') (sg, kd, ip, nm, cy, ok, oi, on, oc, da, us, hn) (nI h) (nI x) (nI g) (nI y)) (nI h) (nI x) (nI g) (nI y) x5 rt we wt kc ks vs bl fr nd sr sn sv dk hd wp wi wq) →
      wX_rename_54 (fun r u' => wpY_rename (fun r' v' => r' = r ∧ i_Rel (k + 5) u' v') (sg, kd, ip, nm, cy, ok, oi, on, oc, da, us, hn) (nI h) (nI x) (nI g) (nI y)) (nI h) (nI x) (nI g) (nI y) x5 rt we wt kc ks vs bl fr nd sr sn sv dk hd wp wi wq := fun we wp wi x5 g1 => by
    unfold wX_rename_54
    simp (disch := omega) only [nI_clamp]
    refine ⟨vp_in_nI (by omega) (by decide), ?_⟩
    by_cases e1 : Hn h = 16
    · rw [q4 e1]
      exact br_t ef_neg' (x72 we wp wi (Or.inl e1))
    · rw [(q3 (by omega)).2]
      refine br_f (nI_pos (by omega)) ⟨vp_in_nI (by omega) (by decide), ?_⟩
      by_cases e2 : Hn g = 16
      · rw [p4 e2]
        exact br_f ef_neg (x72 we wp wi (Or.inr e2))
      · rw [(p3 (by omega)).2]
        exact br_t (nI_pos' (by omega)) (g1 (by omega) (by omega))
  have x4 : ∀ we wp wi, (Hn h < 16 → Hn g < 16 → K (Hn h) = 2 ∨ K (Hn g) = 2) → Hn h < 16 → Hn g < 16 → wX_rename_76 (fun r u' => wpY_rename (fun r' v' => r' = r ∧ i_Rel (k + 5) u' v') (sg, kd, ip, nm, cy, ok, oi, on, oc, da, us, hn) (nI h) (nI x) (nI g) (nI y)) (nI h) (nI x) (nI g) (nI y) (-4) rt we wt kc ks vs bl fr nd sr sn sv dk hd wp wi wq := fun we wp wi hc a1 a2 => by
    unfold wX_rename_76
    exact br_f (by decide) (y4 _ _ a1 a2 (hc a1 a2) rfl (J we wt nd wp wi wq us))
  refine ef_dirF hT hM hW hH hh (fun e => ?_) (fun e e2 we wp wi => ?_) (fun e e1 we wp wi => ?_)
  · exact br_f (by decide) (x54 we wp wi _ (fun h' => by omega))
  · exact br_f (by decide) (x54 we wp wi _ (x4 we wp wi (fun _ _ => Or.inl e2)))
  refine br_t rfl (ef_dirF hT hM hW hH hg (fun f => ?_) (fun f f2 we wp wi => ?_) (fun f f1 we wp wi => ?_))
  · exact x54 we wp wi _ (fun _ h' => by omega)
  · exact x54 we wp wi _ (x4 we wp wi (fun _ _ => Or.inr f2))
  refine x54 we wp wi _ (fun _ _ => ?_)
  obtain ⟨q5, q6⟩ := q3 e
  obtain ⟨p5, p6⟩ := p3 f
  have z1 := (hY.1 _ e).1
  have z2 := (hY.1 _ f).1
  rw [e1] at z1
  rw [f1] at z2
  have hmp := fun j => hM.2.1 (Hn h) x j e (by omega)
  have hmq := fun j => hM.2.1 (Hn g) y j f (by omega)
  -- the reference's main way
  have ym : ∀ (Q : Int32 → SY → Prop), (m (256 * Hn h + 1 + x) = none → Q (-3) (sg, kd, ip, nm, cy, ok, oi, on, oc, da, us, hn)) → (∀ j i, m (256 * Hn h + 1 + x) = some j → m (256 * Hn g + 1 + y) = some i → Q (-5) (sg, kd, ip, nm, cy, ok, oi, on, oc, da, us, hn)) → (∀ j, m (256 * Hn h + 1 + x) = some j → m (256 * Hn g + 1 + y) = none → ∃ f, wY_rename_147 Q (nI g) (nI y) (nI j) sg kd ip nm cy ok oi on oc da us hn f (nI (Hn g)) 0) →
      wpY_rename Q (sg, kd, ip, nm, cy, ok, oi, on, oc, da, us, hn) (nI h) (nI x) (nI g) (nI y) := fun Q g1 g2 g3 => by
    unfold wpY_rename
    refine ef_yH_g hh (br_f (by decide) (ef_yH_g hg (br_f (by decide) (ef_yN_g hx (br_f (by decide) (ef_yN_g hy (br_f (by decide) ?_)))))))
    simp (disch := omega) only [nI_clamp, q2, p2, z1, z2]
    refine ⟨vp_in_nI (by omega) (by decide), br_f (n16 _ e) ⟨vp_in_nI (by omega) (by decide), br_f (n16 _ f) ⟨vp_in_nI (by omega) (by decide), vp_in_nI e (by decide), br_t rfl ⟨vp_in_nI (by omega) (by decide), vp_in_nI f (by decide), br_t rfl ⟨vp_in_nI (by omega) (by decide), ?_⟩⟩⟩⟩⟩
    refine ef_yfind hY hW e (by omega) hmp ?_
    cases hj : m (256 * Hn h + 1 + x) with
    | none => exact br_t rfl (g1 hj)
    | some j =>
      have := ((hmp j).mp hj).2.1
      refine br_f (n16 j this) ⟨vp_in_nI (by omega) (by decide), ef_yfind hY hW f (by omega) hmq ?_⟩
      cases hi : m (256 * Hn g + 1 + y) with
      | none => exact br_t (by decide) ⟨vp_in_nI (by omega) (by decide), nm_e (g3 j hj hi)⟩
      | some i =>
        have := ((hmq i).mp hi).2.1
        exact br_f (nI_ge (b := 16) this (by decide)) (g2 j i hj hi)
  unfold wX_rename_76
  refine br_t rfl ?_
  rw [nI_clamp (by omega), nI_clamp (by omega), q6, p6]
  refine ⟨vp_in_nI (by omega) (by decide), nm_e ⟨vp_in_nI (by omega) (by decide), nm_e ?_⟩⟩
  simp only [ef_m256, nI_1, nI_add]
  refine ef_mget hT (by omega) (fun we wp wi => ?_)
  cases hj : m (256 * Hn h + 1 + x) with
  | none => exact br_f ef_neg (ym _ (fun _ => ⟨rfl, J we wt nd wp wi wq us⟩) (fun j i h' => by rw [hj] at h'; cases h') (fun j h' => by rw [hj] at h'; cases h'))
  | some j =>
  obtain ⟨b1, b2, b3, b4, b5⟩ := (hmp j).mp hj
  have w2 := (hW.2.2.1 j b2).1
  refine br_t (nI_pos' (by omega)) (ef_mget hT (by omega) (fun we wp wi => ?_))
  cases hi : m (256 * Hn g + 1 + y) with
  | some i =>
    have := ((hmq i).mp hi).2.1
    exact br_f (nI_pos (by omega)) (ym _ (fun h' => by rw [hj] at h'; cases h') (fun _ _ _ _ => ⟨rfl, J we wt nd wp wi wq us⟩) (fun j h' h'' => by rw [hi] at h''; cases h''))
  | none =>
  refine br_t ef_neg' ?_
  have ym' : ∀ (Q : Int32 → SY → Prop), (∃ f, wY_rename_147 Q (nI g) (nI y) (nI j) sg kd ip nm cy ok oi on oc da us hn f (nI (Hn g)) 0) → wpY_rename Q (sg, kd, ip, nm, cy, ok, oi, on, oc, da, us, hn) (nI h) (nI x) (nI g) (nI y) := fun Q g3 => ym Q (fun h' => by rw [hj] at h'; cases h') (fun j i h' h'' => by rw [hi] at h''; cases h'') (fun j' h' _ => by rw [hj] at h'; rw [← Option.some.inj h']; exact g3)
  refine ef_isAbove hT hM hW b1 b2 f p5 (fun hab we wp wi => ?_) (fun hab we wp wi => ?_)
  · obtain ⟨t, t1, t2⟩ := hab
    refine br_f (by decide) (ym' _ (ef_yren hY hW hH hg f p5 b1 b2 (fun _ => ⟨rfl, J we wt nd wp wi wq us⟩) (fun h' => absurd t1 (h' t (ef_short hW f p5 t1 t2)))))
  · obtain ⟨t, t1, t2⟩ := hab
    have hnc : ∀ i, ef_it F i (Hn g) ≠ j := fun i hi' => by
      by_cases hlt : i < t
      · exact (t2 i hlt).2 hi'
      · have : ef_it F (i - t + t) (Hn g) = ef_it F (i - t) (ef_it F t (Hn g)) := ef_it_add (i - t) t (Hn g)
        rw [t1, ef_it0 hW, show i - t + t = i from by omega] at this
        omega
    have M2 := ef_Mp_ren hM hW e (by omega) f (by omega) hj hi
    have W2 := ef_Wf_ren hW hM b1 b2 f f1 (by omega) hi hnc
    have cap := ef_Mp_cap M2 (ef_Ij_pl hW hP)
    refine br_t rfl (ef_sortOf hT hM hW b2 b3 (fun we wp wi => ?_))
    dsimp only
    refine ef_mrem hT (by omega) (by rw [hj]; simp) (ef_Mp_0 hM hW) (by omega) (fun rt we wt kc ks vs bl fr nd wp wi wq T1 => ?_)
    refine ef_mput T1 (by omega) (by omega) (ef_Cap_2 cap) (fun rt we wt kc ks vs bl fr nd wp wi wq T2 => ?_)
    dsimp only
    have ej : ef_oI (some j) = nI j := rfl
    rw [ej, ef_m256, ef_m4, nI_add]
    refine ef_mput T2 (by omega) (by omega) cap (fun rt we wt kc ks vs bl fr nd wp wi wq T3 => ?_)
    refine ym' _ (ef_yren hY hW hH hg f p5 b1 b2 (fun hB => ?_) (fun _ => ⟨rfl, ?_⟩))
    · obtain ⟨t', _, h'⟩ := hB
      exact absurd h' (hnc t')
    · refine ⟨_, ms, K, _, _, C, K', F', N', C', φ, Hn, p, s, T3, hV, by omega, eg, ⟨fun n hn => ?_, hY.2⟩, hY', W2, hW', M2, hM', hP, hH⟩
      by_cases en : n = j
      · rw [en, pk_us, pk_us, ef_st_s, ef_st_s]
        exact ⟨(hY.1 j b2).1, rfl, rfl⟩
      · rw [pk_un en, pk_un en, ef_st_n en, ef_st_n en]
        exact hY.1 n hn
end
section
/-! cut and write -/
def ef_o24 : Option Nat → Int32
  | some q => nI q
  | none => 24
section
variable {sg : Int32} {kd ip nm cy ok oi on oc da us hn : Nat → Int32} {K F N C K' F' N' C' Hn : Nat → Nat}
theorem ef_ycut {post : Int32 → SY → Prop} {h a : Nat} {hd : Nat → Int32} (hY : ef_Ya kd ip nm cy K F N C) (hW : ef_Wf K F N C) (hH : ef_Hd hd hn K Hn) (hh : h ≤ 3) (h16 : Hn h < 16) (ha : a ≤ 7)
    (G : ∀ cy', (∀ i, i < 128 → cy' i = nI (ef_cl C (Hn h) a i)) → post (nI (ef_cnt (fun b => decide (C (8 * Hn h + b) < 24)) a (8 - a))) (sg, kd, ip, nm, cy', ok, oi, on, oc, da, us, hn)) : ∃ f, wY_cut_39 post (nI h) sg f 0 (nI a) kd ip nm cy ok oi on oc da us hn := by
  have q2 := (hH.2 h (by omega)).2.1
  have lp : ∀ (d t f : Nat) (cy' : Nat → Int32), a + t + d = 8 → d < f → (∀ i, i < 128 → cy' i = if 8 * Hn h + a ≤ i ∧ i < 8 * Hn h + a + t then 24 else cy i) → wY_cut_39 post (nI h) sg f (nI (ef_cnt (fun b => decide (C (8 * Hn h + b) < 24)) a t)) (nI (a + t)) kd ip nm cy' ok oi on oc da us hn := by
    intro d
    induction d with
    | zero =>
      intro t f cy' ht hf hcy
      obtain ⟨f, rfl⟩ : ∃ g, f = g + 1 := ⟨f - 1, by omega⟩
      obtain rfl : t = 8 - a := by omega
      rw [wY_cut_39]
      have e8 : a + (8 - a) = 8 := by omega
      rw [e8]
      refine br_t (by decide) (G cy' (fun i hi => ?_))
      rw [hcy i hi]
      unfold ef_cl
      by_cases e : 8 * Hn h + a ≤ i ∧ i < 8 * Hn h + 8
      · rw [if_pos e, if_pos (by omega)]; rfl
      · rw [if_neg e, if_neg (by omega)]; exact hY.2 i hi
    | succ d ih =>
      intro t f cy' ht hf hcy
      obtain ⟨f, rfl⟩ : ∃ g, f = g + 1 := ⟨f - 1, by omega⟩
      have w6 := (hW.2.2.2.2.2.1 (Hn h) (a + t) h16 (by omega)).1
      have y4 : cy' (8 * Hn h + (a + t)) = nI (C (8 * Hn h + (a + t))) := by rw [hcy _ (by omega), if_neg (by omega)]; exact hY.2 _ (by omega)
      have next := ih (t + 1) f (upd cy' (8 * Hn h + (a + t)) 24) (by omega) (by omega) (fun i hi => by
        unfold upd
        by_cases e : i = 8 * Hn h + (a + t)
        · rw [if_pos e, if_pos (by omega)]
        · rw [if_neg e, hcy i hi]
          by_cases e2 : 8 * Hn h + a ≤ i ∧ i < 8 * Hn h + a + t
          · rw [if_pos e2, if_pos (by omega)]
          · rw [if_neg e2, if_neg (by omega)])
      unfold ef_cnt at next
      rw [wY_cut_39]
      refine br_f (nI_ge (b := 8) (by omega) (by decide)) ?_
      simp (disch := omega) only [nI_clamp, q2, ef_m8, nI_add, y4]
      refine ⟨vp_in_nI (by omega) (by decide), vp_in_nI (by omega) (by decide), br_c (fun hc => ?_) (fun hc => nm_e ?_)⟩
      · have hc : 24 ≤ C (8 * Hn h + (a + t)) := (nI_leI (a := 24) (by omega) (by omega)).mp hc
        rw [if_neg (fun h' => by have := of_decide_eq_true h'; omega), Nat.add_zero] at next
        unfold wY_cut_71
        simp (disch := omega) only [nI_clamp, q2, ef_m8, nI_add, nI_1]
        exact ⟨vp_in_nI (by omega) (by decide), vp_in_nI (by omega) (by decide), nm_e (nm_e next)⟩
      · have hc : ¬ 24 ≤ C (8 * Hn h + (a + t)) := fun h' => hc ((nI_leI (a := 24) (by omega) (by omega)).mpr h')
        rw [if_pos (decide_eq_true (by omega))] at next
        unfold wY_cut_71
        simp (disch := omega) only [nI_clamp, q2, ef_m8, nI_add, nI_1]
        exact ⟨vp_in_nI (by omega) (by decide), vp_in_nI (by omega) (by decide), nm_e (nm_e next)⟩
  exact ⟨9, lp (8 - a) 0 9 cy (by omega) (by omega) (fun i hi => by rw [if_neg (by omega)])⟩
theorem ef_y186 {post : Int32 → SY → Prop} {c at' q : Nat} {v3 : Int32} (hc : c ≤ 31) (ha : at' < 128) (hq : cy at' = nI q) (hq24 : q < 24) (G : post 0 (sg, kd, ip, nm, cy, ok, oi, on, oc, upd da (4 * q + c % 4) v3, us, hn)) : wY_write_186 post (nI c) v3 (nI at') sg kd ip nm cy ok oi on oc da us hn := by
  unfold wY_write_186
  simp (disch := omega) only [nI_clamp, hq, ef_dv4, ef_rm4, ef_m4, nI_add]
  exact ⟨vp_in_nI ha (by decide), by decide, vp_in_nI (by omega) (by decide), nm_e G⟩
theorem ef_y130 {post : Int32 → SY → Prop} {c at' c0 : Nat} {v3 : Int32} {o : Option Nat} (hc : c ≤ 31) (ha : at' < 128) (hc0 : c0 < 24) (ho : ∀ q, o = some q → q < 24 ∧ q ≠ c0)
    (G : post 0 (sg, kd, ip, nm, upd cy at' (nI c0), ok, oi, on, oc, upd (ef_dk da o c0 4) (4 * c0 + c % 4) v3, us, hn)) :
    ∀ (d t f : Nat), t + d = 4 → d < f → wY_write_130 post (nI c) v3 (nI at') (ef_o24 o) (nI c0) sg f (nI t) kd ip nm cy ok oi on oc (ef_dk da o c0 t) us hn := by
  intro d
  induction d with
  | zero =>
    intro t f ht hf
    obtain ⟨f, rfl⟩ : ∃ g, f = g + 1 := ⟨f - 1, by omega⟩
    obtain rfl : t = 4 := by omega
    rw [wY_write_130]
    refine br_t (by decide) ?_
    simp (disch := omega) only [nI_clamp]
    exact ⟨vp_in_nI ha (by decide), nm_e (ef_y186 hc ha pk_us hc0 G)⟩
  | succ d ih =>
    intro t f ht hf
    obtain ⟨f, rfl⟩ : ∃ g, f = g + 1 := ⟨f - 1, by omega⟩
    have next := ih (t + 1) f (by omega) (by omega)
    rw [wY_write_130]
    refine br_f (nI_ge (b := 4) (by omega) (by decide)) ?_
    cases o with
    | none =>
      refine br_t rfl ?_
      have e := ef_dk_step (dk := da) (o := none) (p := c0) (k := t)
      dsimp only at e
      simp (disch := omega) only [ef_m4, nI_add, nI_clamp, nI_1, e]
      exact ⟨vp_in_nI (by omega) (by decide), nm_e (nm_e next)⟩
    | some q =>
      obtain ⟨q1, q2⟩ := ho q rfl
      have eo : ef_o24 (some q) = nI q := rfl
      rw [eo] at next ⊢
      refine br_f (fun h' => by have := ef_inj (b := 24) (by omega) (by omega) h'; omega) ?_
      have e0 : ef_dk da (some q) c0 t (4 * q + t) = da (4 * q + t) := if_neg (by omega)
      have e := ef_dk_step (dk := da) (o := some q) (p := c0) (k := t)
      dsimp only at e
      simp (disch := omega) only [ef_m4, nI_add, nI_clamp, nI_1, e0, e]
      exact ⟨vp_in_nI (by omega) (by decide), vp_in_nI (by omega) (by decide), nm_e (nm_e next)⟩
/-- the reference's way to a new copy -/
theorem ef_y82 {post : Int32 → SY → Prop} {c at' : Nat} {v3 : Int32} {o : Option Nat} (hY : ef_Ya kd ip nm cy K F N C) (hW : ef_Wf K F N C) (hY' : ef_Ya ok oi on oc K' F' N' C') (hW' : ef_Wf K' F' N' C') (hc : c ≤ 31) (ha : at' < 128) (ho : ∀ q, o = some q → ef_Us C C' q)
    (G1 : ∀ us', (∀ c, c < 24 → (us' c ≠ 0 ↔ ef_Us C C' c)) → ef_cnt (fun c => decide (us' c ≠ 0)) 0 24 = 24 → post (-2) (sg, kd, ip, nm, cy, ok, oi, on, oc, da, us', hn))
    (G2 : ∀ us' c0, (∀ c, c < 24 → (us' c ≠ 0 ↔ ef_Us C C' c)) → ef_cnt (fun c => decide (us' c ≠ 0)) 0 24 ≠ 24 → c0 < 24 → ¬ ef_Us C C' c0 → post 0 (sg, kd, ip, nm, upd cy at' (nI c0), ok, oi, on, oc, upd (ef_dk da o c0 4) (4 * c0 + c % 4) v3, us', hn)) :
    wY_write_82 post (nI c) v3 (nI at') (ef_o24 o) sg kd ip nm cy ok oi on oc da us hn := by
  unfold wY_write_82
  refine ef_ycopies hY hW hY' hW' (fun us' hu => ?_)
  have hle := ef_cnt_le (fun c => decide (us' c ≠ 0)) 0 24
  refine br_c (fun e => G1 us' hu (ef_inj (b := 24) (by omega) (by omega) e)) (fun e => ?_)
  have e : ef_cnt (fun c => decide (us' c ≠ 0)) 0 24 ≠ 24 := fun h => e (by rw [h]; rfl)
  -- some copy is free
  have hex : ∃ q, q < 24 ∧ us' q = 0 := by
    by_cases hq : ∃ q, q < 24 ∧ us' q = 0
    · exact hq
    · exact absurd (ef_cnt_full.mpr (fun i hi => by
        rw [Nat.zero_add]
        exact decide_eq_true (fun h => hq ⟨i, hi, h⟩))) e
  have fin : ∀ l, l < 24 → us' l = 0 → ∃ f, wY_write_130 post (nI c) v3 (nI at') (ef_o24 o) (nI l) sg f 0 kd ip nm cy ok oi on oc da us' hn := fun l hl hz => by
    have hnu : ¬ ef_Us C C' l := fun h => (hu l hl).mpr h hz
    have := ef_y130 (post := post) (sg := sg) (kd := kd) (ip := ip) (nm := nm) (cy := cy) (ok := ok) (oi := oi) (on := on) (oc := oc) (da := da) (us := us') (hn := hn) (v3 := v3) (o := o) hc ha hl (fun q hq => ⟨(ho q hq).1, fun h => hnu (h ▸ ho q hq)⟩) (G2 us' l hu e hl hnu) 4 0 5 (by omega) (by omega)
    have ed : ef_dk da o l 0 = da := by
      funext j
      exact if_neg (by omega)
    rw [ed] at this
    exact ⟨5, this⟩
  have lp : ∀ (i f l : Nat), i ≤ 23 → i + 1 < f → ((l = 24 ∧ ∃ q, q ≤ i ∧ us' q = 0) ∨ (l < 24 ∧ us' l = 0)) → wY_write_102 post (nI c) v3 (nI at') (ef_o24 o) sg kd ip nm cy ok oi on oc da us' hn f (nI l) (nI i) := by
    intro i
    induction i with
    | zero =>
      intro f l hi hf hl
      obtain ⟨f, rfl⟩ : ∃ g, f = g + 2 := ⟨f - 2, by omega⟩
      rw [wY_write_102]
      refine br_f (by decide) ?_
      simp (disch := omega) only [nI_clamp]
      refine ⟨vp_in_nI (by omega) (by decide), br_c (fun hz => ?_) (fun hz => ?_)⟩
      · refine nm_r (e' := -1) (by decide) ?_
        rw [wY_write_102]
        exact br_t ef_neg' (fin 0 (by omega) hz)
      · refine nm_r (e' := -1) (by decide) ?_
        rw [wY_write_102]
        rcases hl with ⟨_, q, h1, h2⟩ | ⟨h1, h2⟩
        · have : q = 0 := by omega
          rw [this] at h2
          exact absurd h2 hz
        · exact br_t ef_neg' (fin l h1 h2)
    | succ i ih =>
      intro f l hi hf hl
      obtain ⟨f, rfl⟩ : ∃ g, f = g + 1 := ⟨f - 1, by omega⟩
      rw [wY_write_102]
      refine br_f (nI_pos (by omega)) ?_
      simp (disch := omega) only [nI_clamp, pk_m1]
      refine ⟨vp_in_nI (by omega) (by decide), br_c (fun hz => nm_e (ih f (i + 1) (by omega) (by omega) (Or.inr ⟨by omega, hz⟩))) (fun hz => nm_e (ih f l (by omega) (by omega) ?_))⟩
      rcases hl with ⟨h0, q, h1, h2⟩ | h
      · refine Or.inl ⟨h0, q, ?_, h2⟩
        by_cases eq : q = i + 1
        · rw [eq] at h2; exact absurd h2 hz
        · omega
      · exact Or.inr h
  obtain ⟨q, q1, q2⟩ := hex
  exact ⟨25, lp 23 25 24 (by omega) (by omega) (Or.inl ⟨rfl, q, by omega, q2⟩)⟩
end
theorem ef_bits_us {m ms : Nat → Option Nat} {K F N C K' F' N' C' φ : Nat → Nat} {n1 n2 : Nat} (hM : ef_Mp m K F N (ef_pl φ C)) (hM' : ef_Mp ms K' F' N' (ef_pl φ C'))
    (h1 : ∀ b, n1.testBit b = true ↔ ∃ k v, m k = some v ∧ ef_cov (k, v) b) (h2 : ∀ b, n2.testBit b = true ↔ ∃ k v, ms k = some v ∧ ef_cov (k, v) b) :
    (∀ b, n2.testBit b = true ↔ ∃ j, j < 128 ∧ C' j < 24 ∧ φ (C' j) = b) ∧ (∀ b, (n1 ||| n2).testBit b = true ↔ ∃ c, ef_Us C C' c ∧ φ c = b) := by
  have pl' : ∀ {C : Nat → Nat} b, (∃ n c, n < 16 ∧ c < 8 ∧ ef_pl φ C n c = some b) ↔ ∃ j, j < 128 ∧ C j < 24 ∧ φ (C j) = b := fun {C} b => by
    constructor
    · rintro ⟨n, c, a1, a2, e⟩
      unfold ef_pl at e
      by_cases d : C (8 * n + c) < 24
      · rw [if_pos d] at e
        exact ⟨8 * n + c, by omega, d, Option.some.inj e⟩
      · rw [if_neg d] at e; cases e
    · rintro ⟨j, a1, a2, e⟩
      refine ⟨j / 8, j % 8, by omega, by omega, ?_⟩
      unfold ef_pl
      rw [show 8 * (j / 8) + j % 8 = j from by omega, if_pos a2, e]
  refine ⟨fun b => by rw [h2, ef_Mp_cov hM', pl'], fun b => ?_⟩
  rw [Nat.testBit_or, Bool.or_eq_true, h1, h2, ef_Mp_cov hM, ef_Mp_cov hM', pl', pl']
  constructor
  · rintro (⟨j, a1, a2, a3⟩ | ⟨j, a1, a2, a3⟩)
    · exact ⟨C j, ⟨a2, Or.inl ⟨j, a1, rfl⟩⟩, a3⟩
    · exact ⟨C' j, ⟨a2, Or.inr ⟨j, a1, rfl⟩⟩, a3⟩
  · rintro ⟨c, ⟨a1, ⟨j, a2, a3⟩ | ⟨j, a2, a3⟩⟩, a4⟩
    · exact Or.inl ⟨j, a2, by omega, by rw [a3]; exact a4⟩
    · exact Or.inr ⟨j, a2, by omega, by rw [a3]; exact a4⟩
theorem i_vc_cut {k : Nat} {u : SX} {v : SY} (I : i_Rel k u v) (hk : k + 5 ≤ 2560) (v1 : Int32) (v2 : Int32) : wpX_cut (fun r u' => wpY_cut (fun r' v' => r' = r ∧ i_Rel (k + 5) u' v') v v1 v2) u v1 v2 := by
  obtain ⟨rt, we, wt, kc, ks, vs, bl, fr, nd, sr, sn, sv, dk, hd, wp, wi, wq⟩ := u
  obtain ⟨sg, kd, ip, nm, cy, ok, oi, on, oc, da, us, hn⟩ := v
  have J : ∀ we wt nd wp wi wq us, i_Rel (k + 5) (rt, we, wt, kc, ks, vs, bl, fr, nd, sr, sn, sv, dk, hd, wp, wi, wq) (sg, kd, ip, nm, cy, ok, oi, on, oc, da, us, hn) := fun _ _ _ _ _ _ _ => ef_Rel_up I
  obtain ⟨m, ms, K, F, N, C, K', F', N', C', φ, Hn, p, s, hT, hV, hs, eg, hY, hY', hW, hW', hM, hM', hP, hH⟩ := I
  unfold wpX_cut
  rcases ef_dec (v := v1) (n := 3) (by omega) with hb | ⟨h, hh, rfl⟩
  · refine ef_xH_b hb (br_t rfl ?_)
    unfold wpY_cut
    exact ef_yH_b hb (br_t rfl ⟨rfl, J we wt nd wp wi wq us⟩)
  obtain ⟨q1, q2, q3, q4⟩ := hH.2 h (by omega)
  refine ef_xH_g hh (br_f (by decide) (br_c (fun c0 => ?_) (fun c0 => br_c (fun c1 => ?_) (fun c1 => ?_))))
  · unfold wpY_cut
    exact ef_yH_g hh (br_f (by decide) (br_t c0 ⟨rfl, J we wt nd wp wi wq us⟩))
  rotate_left
  · unfold wpY_cut
    exact ef_yH_g hh (br_f (by decide) (br_f c0 (br_f c1 ⟨rfl, J we wt nd wp wi wq us⟩)))
  obtain ⟨a, ha, rfl⟩ : ∃ a, a ≤ 7 ∧ v2 = nI a := nI_of2 (M := 7) (by decide) c0 c1
  have yhd : ∀ (Q : Int32 → SY → Prop), wpY_want (fun r_17 => (((r_17 = 0 → (∃ n39 : Nat, wY_cut_39 Q (nI h) sg n39 0 (nI a) kd ip nm cy ok oi on oc da us hn)) ∧ (¬ r_17 = 0 → (Q r_17 (sg, kd, ip, nm, cy, ok, oi, on, oc, da, us, hn)))))) (sg, kd, ip, nm, cy, ok, oi, on, oc, da, us, hn) (nI h) 2 → wpY_cut Q (sg, kd, ip, nm, cy, ok, oi, on, oc, da, us, hn) (nI h) (nI a) := fun Q hQ => by
    unfold wpY_cut
    exact ef_yH_g hh (br_f (by decide) (br_f c0 (br_t c1 hQ)))
  refine ef_fileF hT hM hW hH hh (fun e => ?_) (fun e e2 we wp wi => ?_) (fun e e1 we wp wi => ?_)
  · refine br_f (by decide) (yhd _ ?_)
    exact ef_want (κ := 2) hY hW hH hh (by decide) (fun _ => br_f (by decide) ⟨rfl, J we wt nd wp wi wq us⟩) (fun h' _ => by omega) (fun h' _ => by omega)
  · refine br_f (by decide) (yhd _ ?_)
    exact ef_want (κ := 2) hY hW hH hh (by decide) (fun h' => by omega) (fun _ h' => by omega) (fun _ _ => br_f (by decide) ⟨rfl, J we wt nd wp wi wq us⟩)
  obtain ⟨q5, q6⟩ := q3 e
  refine br_t rfl ?_
  dsimp only
  rw [nI_clamp (by omega), q6]
  refine ⟨vp_in_nI (by omega) (by decide), ef_cutBlocks hT hM (ef_Ij_pl hW hP) (ef_Mp_0 hM hW) e (by omega) (fun m1 rt we wt kc ks vs bl fr nd wp wi wq T1 M1 z1 => ?_)⟩
  have ec : ef_cnt (fun c => (ef_pl φ C (Hn h) c).isSome) a (8 - a) = ef_cnt (fun b => decide (C (8 * Hn h + b) < 24)) a (8 - a) := ef_cnt_ext (fun i hi => by
    unfold ef_pl
    by_cases d : C (8 * Hn h + (a + i)) < 24
    · rw [if_pos d, decide_eq_true d]; rfl
    · rw [if_neg d, decide_eq_false d]; rfl)
  rw [ec]
  refine yhd _ (ef_want (κ := 2) hY hW hH hh (by decide) (fun h' => by omega) (fun _ _ => br_t rfl (ef_ycut hY hW hH hh e ha (fun cy' hcy => ⟨rfl, ?_⟩))) (fun _ h' => absurd e1 h'))
  exact ⟨m1, ms, K, F, N, ef_cl C (Hn h) a, K', F', N', C', φ, Hn, p, s, T1, hV, by omega, eg, ⟨hY.1, hcy⟩, hY', ef_cl_wf hW, hW', ef_Mp_ext M1 (fun n b hn hb => ef_cl_pl hb), hM', ef_Ph_sub hP (fun c hc => ef_cl_us hc), hH⟩
end
section
/-! write -/
theorem ef_Ph_in {φ C C' : Nat → Nat} {dk da : Nat → Int32} {q r : Nat} {v : Int32} (h : ef_Ph φ C C' dk da) (hq : ef_Us C C' q) (hr : r < 4) : ef_Ph φ C C' (upd dk (4 * φ q + r) v) (upd da (4 * q + r) v) := by
  refine ⟨h.1, h.2.1, fun c i hc hi => ?_⟩
  unfold upd
  by_cases e : c = q
  · subst e
    by_cases ei : i = r
    · rw [if_pos (by omega), if_pos (by omega)]
    · rw [if_neg (by omega), if_neg (by omega)]; exact h.2.2 c i hc hi
  · have : φ c ≠ φ q := fun e' => e (h.2.1 c q hc hq e')
    rw [if_neg (by omega), if_neg (by omega)]
    exact h.2.2 c i hc hi
/-- a new copy at a new place -/
theorem ef_Ph_new {φ C C' : Nat → Nat} {dk da : Nat → Int32} {at' c0 p r : Nat} {v : Int32} {o : Option Nat} (h : ef_Ph φ C C' dk da) (ha : at' < 128) (hc0 : c0 < 24) (hnu : ¬ ef_Us C C' c0) (hp : p < 48) (hpn : ∀ c, ef_Us C C' c → φ c ≠ p) (hr : r < 4) (ho : ∀ q, o = some q → ef_Us C C' q) :
    ef_Ph (ef_st φ c0 p) (ef_st C at' c0) C' (upd (ef_dk dk (o.map φ) p 4) (4 * p + r) v) (upd (ef_dk da o c0 4) (4 * c0 + r) v) := by
  have us : ∀ c, ef_Us (ef_st C at' c0) C' c → c = c0 ∨ (c ≠ c0 ∧ ef_Us C C' c) := fun c hc => by
    by_cases e : c = c0
    · exact Or.inl e
    · refine Or.inr ⟨e, ?_⟩
      obtain ⟨h1, ⟨j, j1, j2⟩ | h2⟩ := hc
      · by_cases ej : j = at'
        · rw [ej, ef_st_s] at j2; omega
        · rw [ef_st_n ej] at j2
          exact ⟨h1, Or.inl ⟨j, j1, j2⟩⟩
      · exact ⟨h1, Or.inr h2⟩
  refine ⟨fun c hc => ?_, fun c c' hc hc' e => ?_, fun c i hc hi => ?_⟩
  · rcases us c hc with rfl | ⟨e, hu⟩
    · rw [ef_st_s]; exact hp
    · rw [ef_st_n e]; exact h.1 c hu
  · rcases us c hc with rfl | ⟨e1, hu⟩
    · rcases us c' hc' with rfl | ⟨e2, hu'⟩
      · rfl
      · rw [ef_st_s, ef_st_n e2] at e
        exact absurd e.symm (hpn c' hu')
    · rcases us c' hc' with rfl | ⟨e2, hu'⟩
      · rw [ef_st_s, ef_st_n e1] at e
        exact absurd e (hpn c hu)
      · rw [ef_st_n e1, ef_st_n e2] at e
        exact h.2.1 c c' hu hu' e
  · rcases us c hc with rfl | ⟨e, hu⟩
    · rw [ef_st_s]
      unfold upd
      by_cases ei : i = r
      · rw [if_pos (by omega), if_pos (by omega)]
      · rw [if_neg (by omega), if_neg (by omega)]
        unfold ef_dk
        rw [if_pos (by omega), if_pos (by omega), Nat.add_sub_cancel_left, Nat.add_sub_cancel_left]
        cases o with
        | none => rfl
        | some q => exact h.2.2 q i (ho q rfl) hi
    · have hp' := hpn c hu
      rw [ef_st_n e]
      unfold upd ef_dk
      rw [if_neg (by omega), if_neg (by omega), if_neg (by omega), if_neg (by omega)]
      exact h.2.2 c i hu hi
theorem ef_Wf_new {K F N C C' : Nat → Nat} {n b c0 : Nat} (hW : ef_Wf K F N C) (hn : n < 16) (hb : b < 8) (hK : K n = 2) (hc0 : c0 < 24) (hnu : ¬ ef_Us C C' c0) : ef_Wf K F N (ef_st C (8 * n + b) c0) := by
  obtain ⟨w1, w2, w3, w4, w5, w6, w7, w8⟩ := hW
  refine ⟨w1, w2, w3, w4, w5, fun n' b' hn' hb' => ?_, fun j j' hj hj' hlt e => ?_, w8⟩
  · by_cases e : 8 * n' + b' = 8 * n + b
    · rw [e, ef_st_s]
      have : n' = n := by omega
      exact ⟨by omega, fun hk => absurd (this ▸ hK) hk⟩
    · rw [ef_st_n e]; exact w6 n' b' hn' hb'
  · by_cases e1 : j = 8 * n + b
    · by_cases e2 : j' = 8 * n + b
      · omega
      · rw [e1, ef_st_s, ef_st_n e2] at e
        exact absurd ⟨hc0, Or.inl ⟨j', hj', e.symm⟩⟩ hnu
    · by_cases e2 : j' = 8 * n + b
      · rw [e2, ef_st_s, ef_st_n e1] at e
        exact absurd ⟨hc0, Or.inl ⟨j, hj, e⟩⟩ hnu
      · rw [ef_st_n e1] at hlt e
        rw [ef_st_n e2] at e
        exact w7 j j' hj hj' hlt e
theorem ef_pl_new {φ C C' : Nat → Nat} {n b c0 p n' b' : Nat} (hc0 : c0 < 24) (hnu : ¬ ef_Us C C' c0) (hn' : n' < 16) (hb' : b' < 8) (hb : b < 8) : ef_pl (ef_st φ c0 p) (ef_st C (8 * n + b) c0) n' b' = if n' = n ∧ b' = b then some p else ef_pl φ C n' b' := by
  unfold ef_pl
  by_cases e : n' = n ∧ b' = b
  · rw [if_pos e, e.1, e.2, ef_st_s, if_pos hc0, ef_st_s]
  · rw [if_neg e, ef_st_n (by omega)]
    by_cases d : C (8 * n' + b') < 24
    · rw [if_pos d, if_pos d, ef_st_n (fun h => hnu ⟨hc0, Or.inl ⟨8 * n' + b', by omega, h⟩⟩)]
    · rw [if_neg d, if_neg d]
theorem ef_pl_old {φ C C' : Nat → Nat} {c0 p n' b' : Nat} (hc0 : c0 < 24) (hnu : ¬ ef_Us C C' c0) (hn' : n' < 16) (hb' : b' < 8) : ef_pl (ef_st φ c0 p) C' n' b' = ef_pl φ C' n' b' := by
  unfold ef_pl
  by_cases d : C' (8 * n' + b') < 24
  · rw [if_pos d, if_pos d, ef_st_n (fun h => hnu ⟨hc0, Or.inr ⟨8 * n' + b', by omega, h⟩⟩)]
  · rw [if_neg d, if_neg d]
theorem ef_bits_sv {ms : Nat → Option Nat} {K' F' N' C' φ : Nat → Nat} {n2 : Nat} (hM' : ef_Mp ms K' F' N' (ef_pl φ C')) (h2 : ∀ b, n2.testBit b = true ↔ ∃ k v, ms k = some v ∧ ef_cov (k, v) b) :
    ∀ b, n2.testBit b = true ↔ ∃ j, j < 128 ∧ C' j < 24 ∧ φ (C' j) = b := fun b => by
  rw [h2, ef_Mp_cov hM']
  constructor
  · rintro ⟨n, c, a1, a2, e⟩
    unfold ef_pl at e
    by_cases d : C' (8 * n + c) < 24
    · rw [if_pos d] at e
      exact ⟨8 * n + c, by omega, d, Option.some.inj e⟩
    · rw [if_neg d] at e; cases e
  · rintro ⟨j, a1, a2, e⟩
    refine ⟨j / 8, j % 8, by omega, by omega, ?_⟩
    unfold ef_pl
    rw [show 8 * (j / 8) + j % 8 = j from by omega, if_pos a2, e]
theorem i_vc_write {k : Nat} {u : SX} {v : SY} (I : i_Rel k u v) (hk : k + 5 ≤ 2560) (v1 : Int32) (v2 : Int32) (v3 : Int32) : wpX_write (fun r u' => wpY_write (fun r' v' => r' = r ∧ i_Rel (k + 5) u' v') v v1 v2 v3) u v1 v2 v3 := by
  obtain ⟨rt, we, wt, kc, ks, vs, bl, fr, nd, sr, sn, sv, dk, hd, wp, wi, wq⟩ := u
  obtain ⟨sg, kd, ip, nm, cy, ok, oi, on, oc, da, us, hn⟩ := v
  have J : ∀ we wt nd wp wi wq us, i_Rel (k + 5) (rt, we, wt, kc, ks, vs, bl, fr, nd, sr, sn, sv, dk, hd, wp, wi, wq) (sg, kd, ip, nm, cy, ok, oi, on, oc, da, us, hn) := fun _ _ _ _ _ _ _ => ef_Rel_up I
  obtain ⟨m, ms, K, F, N, C, K', F', N', C', φ, Hn, p, s, hT, hV, hs, eg, hY, hY', hW, hW', hM, hM', hP, hH⟩ := I
  unfold wpX_write
  rcases ef_dec (v := v1) (n := 3) (by omega) with hb | ⟨h, hh, rfl⟩
  · refine ef_xH_b hb (br_t rfl ?_)
    unfold wpY_write
    exact ef_yH_b hb (br_t rfl ⟨rfl, J we wt nd wp wi wq us⟩)
  obtain ⟨q1, q2, q3, q4⟩ := hH.2 h (by omega)
  refine ef_xH_g hh (br_f (by decide) (br_c (fun c0 => ?_) (fun c0 => br_c (fun c1 => ?_) (fun c1 => ?_))))
  · unfold wpY_write
    exact ef_yH_g hh (br_f (by decide) (br_t c0 ⟨rfl, J we wt nd wp wi wq us⟩))
  rotate_left
  · unfold wpY_write
    exact ef_yH_g hh (br_f (by decide) (br_f c0 (br_f c1 ⟨rfl, J we wt nd wp wi wq us⟩)))
  obtain ⟨c, hc, rfl⟩ : ∃ c, c ≤ 31 ∧ v2 = nI c := nI_of2 (M := 31) (by decide) c0 c1
  refine ef_fileF hT hM hW hH hh (fun e => ?_) (fun e e2 we wp wi => ?_) (fun e e1 we wp wi => ?_)
  · refine br_f (by decide) ?_
    unfold wpY_write
    refine ef_yH_g hh (br_f (by decide) (br_f c0 (br_t c1 ?_)))
    exact ef_want (κ := 2) hY hW hH hh (by decide) (fun _ => br_f (by decide) ⟨rfl, J we wt nd wp wi wq us⟩) (fun h' _ => by omega) (fun h' _ => by omega)
  · refine br_f (by decide) ?_
    unfold wpY_write
    refine ef_yH_g hh (br_f (by decide) (br_f c0 (br_t c1 ?_)))
    exact ef_want (κ := 2) hY hW hH hh (by decide) (fun h' => by omega) (fun _ h' => by omega) (fun _ _ => br_f (by decide) ⟨rfl, J we wt nd wp wi wq us⟩)
  obtain ⟨q5, q6⟩ := q3 e
  have w6 := (hW.2.2.2.2.2.1 (Hn h) (c / 4) e (by omega)).1
  have y4 := hY.2 (8 * Hn h + c / 4) (by omega)
  -- the reference up to the question for the old copy
  have yside : ∀ (Q : Int32 → SY → Prop), (∀ us', (C (8 * Hn h + c / 4) = 24 ∨ (C (8 * Hn h + c / 4) < 24 ∧ ∃ q, q < 128 ∧ C' q = C (8 * Hn h + c / 4))) → wY_write_82 Q (nI c) v3 (nI (8 * Hn h + c / 4)) (nI (C (8 * Hn h + c / 4))) sg kd ip nm cy ok oi on oc da us' hn) →
      (∀ us', C (8 * Hn h + c / 4) < 24 → (¬ ∃ q, q < 128 ∧ C' q = C (8 * Hn h + c / 4)) → wY_write_186 Q (nI c) v3 (nI (8 * Hn h + c / 4)) sg kd ip nm cy ok oi on oc da us' hn) → wpY_write Q (sg, kd, ip, nm, cy, ok, oi, on, oc, da, us, hn) (nI h) (nI c) v3 := fun Q g1 g2 => by
    unfold wpY_write
    refine ef_yH_g hh (br_f (by decide) (br_f c0 (br_t c1 ?_)))
    refine ef_want (κ := 2) hY hW hH hh (by decide) (fun h' => by omega) (fun _ _ => br_t rfl ?_) (fun _ h' => absurd e1 h')
    simp (disch := omega) only [nI_clamp, q2, ef_dv4, ef_m8, nI_add]
    refine ⟨vp_in_nI (by omega) (by decide), by decide, nm_e ?_⟩
    simp (disch := omega) only [nI_clamp, y4]
    refine ⟨vp_in_nI (by omega) (by decide), nm_e (ef_findUsed0 hY' hW' (fun us' hu => br_c (fun e24 => ?_) (fun e24 => ?_)))⟩
    · exact g1 us' (Or.inl (ef_inj (b := 24) (by omega) (by omega) e24))
    · have e24 : C (8 * Hn h + c / 4) < 24 := by
        have : C (8 * Hn h + c / 4) ≠ 24 := fun h' => e24 (by rw [h']; rfl)
        omega
      dsimp only
      rw [nI_clamp (by omega)]
      refine ⟨vp_in_nI (by omega) (by decide), br_c (fun hz => ?_) (fun hz => ?_)⟩
      · exact g2 us' e24 (fun h' => (hu _ e24).mpr h' hz)
      · exact g1 us' (Or.inr ⟨e24, (hu _ e24).mp hz⟩)
  refine br_t rfl ?_
  dsimp only
  rw [ef_shr2 (by omega), nI_clamp (by omega), q6]
  refine nm_e ⟨vp_in_nI (by omega) (by decide), ef_placeOf hT hM e (by omega) (fun we wp wi => ef_validPlace ?_)⟩
  have hv := ef_vpl_lt sn sv
  dsimp only
  rw [nI_clamp (by omega)]
  refine ⟨vp_in_nI hv (by decide), ef_mblkS hT (ef_Mp_bd hM') (fun n2 wt2 wq2 b1 b2 => ?_)⟩
  dsimp only
  -- a new place
  have newp : (C (8 * Hn h + c / 4) = 24 ∨ (C (8 * Hn h + c / 4) < 24 ∧ ∃ q, q < 128 ∧ C' q = C (8 * Hn h + c / 4))) → wX_write_90 (fun r u' => wpY_write (fun r' v' => r' = r ∧ i_Rel (k + 5) u' v') (sg, kd, ip, nm, cy, ok, oi, on, oc, da, us, hn) (nI h) (nI c) v3) (nI h) (nI c) v3 (nI (c / 4)) (ef_oI (ef_pl φ C (Hn h) (c / 4))) (lN n2) rt we wt2 kc ks vs bl fr nd sr sn sv dk hd wp wi wq2 := fun hcase => by
    have y82 : ∀ (Q : Int32 → SY → Prop), (∀ us', wY_write_82 Q (nI c) v3 (nI (8 * Hn h + c / 4)) (nI (C (8 * Hn h + c / 4))) sg kd ip nm cy ok oi on oc da us' hn) → wpY_write Q (sg, kd, ip, nm, cy, ok, oi, on, oc, da, us, hn) (nI h) (nI c) v3 := fun Q g1 => yside Q (fun us' _ => g1 us') (fun us' h1 h2 => by
      rcases hcase with h' | ⟨_, h'⟩
      · omega
      · exact absurd h' h2)
    unfold wX_write_90
    refine ef_mblk hT (ef_Mp_bd hM) (fun n1 wt1 wq1 a1 a2 => ?_)
    dsimp only
    rw [wb_or (by omega) (by omega)]
    obtain ⟨ub2, ub⟩ := ef_bits_us hM hM' a2 b2
    have ub' : ∀ b, (n2 ||| n1).testBit b = true ↔ ∃ c, ef_Us C C' c ∧ φ c = b := fun b => by rw [Nat.or_comm]; exact ub b
    have hlt := Nat.or_lt_two_pow b1 a1
    have cnt : ∀ us' : Nat → Int32, (∀ c, c < 24 → (us' c ≠ 0 ↔ ef_Us C C' c)) → ef_cnt (fun c => decide (us' c ≠ 0)) 0 24 = ef_pc (n2 ||| n1) 48 := fun us' hu => by
      rw [Nat.or_comm]
      exact (ef_copies_eq hM hM' hP a2 b2 hu).2
    -- what the old copy is
    obtain ⟨o, ho1, ho2, ho3⟩ : ∃ o : Option Nat, ef_o24 o = nI (C (8 * Hn h + c / 4)) ∧ ef_pl φ C (Hn h) (c / 4) = o.map φ ∧ ∀ q, o = some q → ef_Us C C' q := by
      by_cases e24 : C (8 * Hn h + c / 4) < 24
      · refine ⟨some (C (8 * Hn h + c / 4)), rfl, ?_, fun q hq => ?_⟩
        · unfold ef_pl
          rw [if_pos e24]; rfl
        · rw [← Option.some.inj hq]
          exact ⟨e24, Or.inl ⟨_, by omega, rfl⟩⟩
      · refine ⟨none, ?_, ?_, fun q hq => by cases hq⟩
        · rw [show C (8 * Hn h + c / 4) = 24 from by omega]; rfl
        · unfold ef_pl
          rw [if_neg e24]; rfl
    have hpcl := ef_pc_le (n2 ||| n1) 48
    refine nm_e (ef_bits hlt (br_c (fun hfull => ?_) (fun hfull => ?_)))
    · have hfull : ef_pc (n2 ||| n1) 48 < 24 := (nI_ltI (b := 24) (by omega) (by omega)).mp hfull
      have hfree : ∃ q, q < 48 ∧ (n2 ||| n1).testBit q = false := by
        by_cases hq : ∃ q, q < 48 ∧ (n2 ||| n1).testBit q = false
        · exact hq
        · have : ef_cnt (fun i => (n2 ||| n1).testBit i) 0 48 = 48 := ef_cnt_full.mpr (fun i hi => by
            rw [Nat.zero_add]
            cases hb : (n2 ||| n1).testBit i with
            | true => rfl
            | false => exact absurd ⟨i, hi, hb⟩ hq)
          rw [← ef_pc_cnt] at this
          omega
      rw [nI_clamp (by omega), q6]
      refine ⟨vp_in_nI (by omega) (by decide), ef_moveBlock hT hM (ef_Ij_pl hW hP) (ef_Mp_0 hM hW) e (by omega) hlt hfree (fun n' b' q hn' hb' hq => ?_) (fun p' m' rt we wt kc ks vs bl fr nd wp wi wq hp' hpt T1 M1 z1 => ?_)⟩
      · unfold ef_pl at hq
        by_cases d : C (8 * n' + b') < 24
        · rw [if_pos d] at hq
          exact (ub' q).mpr ⟨C (8 * n' + b'), ⟨d, Or.inl ⟨8 * n' + b', by omega, rfl⟩⟩, Option.some.inj hq⟩
        · rw [if_neg d] at hq; cases hq
      · unfold wX_write_135
        simp (disch := omega) only [ef_m4, ef_and3, nI_add, nI_clamp]
        refine ⟨vp_in_nI (by omega) (by decide), nm_e (y82 _ (fun us1 => ?_))⟩
        rw [← ho1]
        refine ef_y82 hY hW hY' hW' hc (by omega) ho3 (fun us' hu h24 => ?_) (fun us' c0' hu _ hc0 hnu => ⟨rfl, ?_⟩)
        · rw [cnt us' hu] at h24
          omega
        · rw [ho2]
          refine ⟨m', ms, K, F, N, ef_st C (8 * Hn h + c / 4) c0', K', F', N', C', ef_st φ c0' p', Hn, p, s, T1, hV, by omega, eg, ⟨hY.1, fun j hj => ?_⟩, hY', ef_Wf_new hW e (by omega) e1 hc0 hnu, hW', ?_, ?_, ?_, hH⟩
          · by_cases ej : j = 8 * Hn h + c / 4
            · rw [ej, pk_us, ef_st_s]
            · rw [pk_un ej, ef_st_n ej]; exact hY.2 j hj
          · exact ef_Mp_ext M1 (fun n' b' hn' hb' => ef_pl_new hc0 hnu hn' hb' (by omega))
          · exact ef_Mp_ext hM' (fun n' b' hn' hb' => ef_pl_old hc0 hnu hn' hb')
          · refine ef_Ph_new hP (by omega) hc0 hnu hp' (fun c1' hc1' e' => ?_) (by omega) ho3
            have := (ub' p').mpr ⟨c1', hc1', e'⟩
            rw [hpt] at this
            cases this
    · have hfull : ¬ ef_pc (n2 ||| n1) 48 < 24 := fun h' => hfull ((nI_ltI (b := 24) (by omega) (by omega)).mpr h')
      refine y82 _ (fun us1 => ?_)
      rw [← ho1]
      refine ef_y82 hY hW hY' hW' hc (by omega) ho3 (fun us' hu h24 => ⟨rfl, J we wt1 nd wp wi wq1 us'⟩) (fun us' c0' hu hne _ _ => ?_)
      have := cnt us' hu
      have := ef_cnt_le (fun c => decide (us' c ≠ 0)) 0 24
      omega
  by_cases e24 : C (8 * Hn h + c / 4) < 24
  · have hus : ef_Us C C' (C (8 * Hn h + c / 4)) := ⟨e24, Or.inl ⟨8 * Hn h + c / 4, by omega, rfl⟩⟩
    have hφ := hP.1 _ hus
    have epl : ef_pl φ C (Hn h) (c / 4) = some (φ (C (8 * Hn h + c / 4))) := by
      unfold ef_pl
      rw [if_pos e24]
    rw [epl] at newp ⊢
    have eo : ef_oI (some (φ (C (8 * Hn h + c / 4)))) = nI (φ (C (8 * Hn h + c / 4))) := rfl
    rw [eo] at newp ⊢
    refine br_f (nI_pos (by omega)) ?_
    have bits2 := ef_bits_sv hM' b2
    refine br_c (fun hz => ?_) (fun hz => ?_)
    · have hz := (ef_bit0 b1 (by omega)).mp hz
      have hns : ¬ ∃ q, q < 128 ∧ C' q = C (8 * Hn h + c / 4) := fun ⟨q, a1, a2⟩ => by
        have := (bits2 (φ (C (8 * Hn h + c / 4)))).mpr ⟨q, a1, by omega, by rw [a2]⟩
        rw [hz] at this
        cases this
      unfold wX_write_135
      simp (disch := omega) only [ef_m4, ef_and3, nI_add, nI_clamp]
      refine ⟨vp_in_nI (by omega) (by decide), nm_e (yside _ (fun us' hcase => ?_) (fun us' _ _ => ?_))⟩
      · rcases hcase with h' | ⟨_, h'⟩
        · omega
        · exact absurd h' hns
      · refine ef_y186 hc (by omega) y4 e24 ⟨rfl, ?_⟩
        exact ⟨m, ms, K, F, N, C, K', F', N', C', φ, Hn, p, s, hT, hV, by omega, eg, hY, hY', hW, hW', hM, hM', ef_Ph_in hP hus (by omega), hH⟩
    · have hz : n2.testBit (φ (C (8 * Hn h + c / 4))) = true := by
        cases hb : n2.testBit (φ (C (8 * Hn h + c / 4))) with
        | true => rfl
        | false => exact absurd ((ef_bit0 b1 (by omega)).mpr hb) hz
      obtain ⟨q, a1, a2, a3⟩ := (bits2 _).mp hz
      have := hP.2.1 _ _ ⟨a2, Or.inr ⟨q, a1, rfl⟩⟩ hus a3
      exact newp (Or.inr ⟨e24, q, a1, this⟩)
  · have epl : ef_pl φ C (Hn h) (c / 4) = none := by
      unfold ef_pl
      rw [if_neg e24]
    rw [epl] at newp ⊢
    exact br_t ef_neg' (newp (Or.inl (by omega)))
end
