section
/-! pure rows to paste: stores, nI and lN arithmetic, masks, shifts, narrowing, branches by naturals (pk_le, pk_lt, pk_eq), loops (lp1 .. lp16: the measure of the state; rp1 ..: recursion), negatives. Take what you need -/
theorem pk_us {f : Nat → Int32} {k : Nat} {x : Int32} : upd f k x k = x := if_pos rfl
theorem pk_un {f : Nat → Int32} {k j : Nat} {x : Int32} (h : j ≠ k) : upd f k x j = f j := if_neg h
theorem pk_uLs {f : Nat → Int64} {k : Nat} {x : Int64} : vp_updL f k x k = x := if_pos rfl
theorem pk_uLn {f : Nat → Int64} {k j : Nat} {x : Int64} (h : j ≠ k) : vp_updL f k x j = f j := if_neg h
theorem pk_sub {a b : Nat} (h : b ≤ a) : nI a - nI b = nI (a - b) := by
  obtain ⟨c, rfl⟩ : ∃ c, a = c + b := ⟨a - b, by omega⟩
  rw [← nI_add, Int32.add_sub_cancel, Nat.add_sub_cancel]
theorem pk_m1 (n : Nat) : nI (n + 1) + (-1) = nI n := by
  rw [← nI_1, Int32.add_assoc, show (1 : Int32) + (-1) = 0 from rfl, Int32.add_zero]
theorem pk_mul (a b : Nat) : nI a * nI b = nI (a * b) := (Int32.ofNat_mul a b).symm
theorem pk_div {a d : Nat} (ha : a < 2 ^ 31) (h0 : 0 < d) (hd : d < 2 ^ 31) : nI a / nI d = nI (a / d) := by
  apply Int32.toInt_inj.mp
  rw [lg_idiv_nonneg (by rw [nI_toInt ha]; omega) (by rw [nI_toInt hd]; omega), nI_toInt ha, nI_toInt hd, nI_toInt (Nat.lt_of_le_of_lt (Nat.div_le_self a d) ha)]
  first | rfl | exact (Int.natCast_ediv _ _).symm
theorem pk_rem {a d : Nat} (ha : a < 2 ^ 31) (h0 : 0 < d) (hd : d < 2 ^ 31) : nI a - nI a / nI d * nI d = nI (a % d) := by
  rw [pk_div ha h0 hd, pk_mul, pk_sub (Nat.div_mul_le_self a d)]
  exact congrArg nI (by have := Nat.div_add_mod' a d; omega)
theorem pk_sub_toInt {a b : Nat} (ha : a < 2 ^ 30) (hb : b < 2 ^ 30) : (nI a - nI b).toInt = (a : Int) - b := by
  rw [Int32.toInt_sub, nI_toInt (by omega), nI_toInt (by omega)]
  exact Int.bmod_eq_of_le (by omega) (by omega)
theorem pk_sneg {a b : Nat} (hb : b < 2 ^ 30) (h : a < b) : nI a - nI b < 0 := by
  rw [Int32.lt_iff_toInt_lt, pk_sub_toInt (by omega) hb, show (0 : Int32).toInt = 0 from by decide]
  omega
theorem pk_ix (x : Int32) {n : Nat} (hn : n < 2 ^ 31) : x < 0 ∨ nI n ≤ x ∨ ∃ j : Nat, j < n ∧ x = nI j := by
  by_cases h : x < 0
  · exact Or.inl h
  · obtain ⟨j, hj, rfl⟩ := nI_of h
    by_cases h2 : j < n
    · exact Or.inr (Or.inr ⟨j, h2, rfl⟩)
    · exact Or.inr (Or.inl (nI_le (by omega) hj))
theorem pk_le {x y : Int32} {A B : Prop} (a b : Nat) (f : a ≤ b → A) (g : b < a → B) (hx : x = nI a := by rfl) (hy : y = nI b := by rfl) (ha : a < 2 ^ 31 := by omega) (hb : b < 2 ^ 31 := by omega) : (x ≤ y → A) ∧ (¬ x ≤ y → B) := by
  subst hx hy
  rw [nI_leI ha hb]
  exact ⟨f, fun z => g (by omega)⟩
theorem pk_lt {x y : Int32} {A B : Prop} (a b : Nat) (f : a < b → A) (g : b ≤ a → B) (hx : x = nI a := by rfl) (hy : y = nI b := by rfl) (ha : a < 2 ^ 31 := by omega) (hb : b < 2 ^ 31 := by omega) : (x < y → A) ∧ (¬ x < y → B) := by
  subst hx hy
  rw [nI_ltI ha hb]
  exact ⟨f, fun z => g (by omega)⟩
theorem pk_eq {x y : Int32} {A B : Prop} (a b : Nat) (f : a = b → A) (g : a ≠ b → B) (hx : x = nI a := by rfl) (hy : y = nI b := by rfl) (ha : a < 2 ^ 31 := by omega) (hb : b < 2 ^ 31 := by omega) : (x = y → A) ∧ (¬ x = y → B) := by
  subst hx hy
  rw [nI_eq ha hb]
  exact ⟨f, g⟩
theorem pk_in {x : Int32} (n N : Nat) (h : n < N) (hx : x = nI n := by rfl) (hN : N < 2 ^ 31 := by omega) : vp_in x N := by
  subst hx
  exact vp_in_nI h hN
theorem pk_cl {x : Int32} (n : Nat) (hx : x = nI n := by rfl) (h : n < 2 ^ 31 := by omega) : x.toNatClampNeg = n := by
  subst hx
  exact nI_clamp h
theorem pk_tn {n : Nat} (h : n < 2 ^ 32) : (nI n).toBitVec.toNat = n := Nat.mod_eq_of_lt h
theorem pk_and (x : Int32) {m : Int32} (k : Nat) (hm : m.toBitVec.toNat = 2 ^ k - 1) : x &&& m = nI (x.toBitVec.toNat % 2 ^ k) := by
  apply Int32.toBitVec_inj.mp
  apply BitVec.eq_of_toNat_eq
  rw [Int32.toBitVec_and, BitVec.toNat_and, hm, Nat.and_two_pow_sub_one_eq_mod]
  show _ = (BitVec.ofNat 32 _).toNat
  rw [BitVec.toNat_ofNat]
  exact (Nat.mod_eq_of_lt (Nat.lt_of_le_of_lt (Nat.mod_le _ _) x.toBitVec.isLt)).symm
theorem pk_andN {n : Nat} (h : n < 2 ^ 32) {m : Int32} (k : Nat) (hm : m.toBitVec.toNat = 2 ^ k - 1) : nI n &&& m = nI (n % 2 ^ k) := by
  rw [pk_and _ k hm, pk_tn h]
theorem pk_andE (x : Int32) {m : Int32} (k : Nat) (hm : m.toBitVec.toNat = 2 ^ k - 1) : ∃ j : Nat, j < 2 ^ k ∧ x &&& m = nI j := ⟨_, Nat.mod_lt _ (Nat.two_pow_pos k), pk_and x k hm⟩
theorem pk_andIn (x : Int32) {m : Int32} (k : Nat) (hm : m.toBitVec.toNat = 2 ^ k - 1) (hk : k ≤ 30) : vp_in (x &&& m) (2 ^ k) := by
  obtain ⟨j, hj, e⟩ := pk_andE x k hm
  rw [e]
  exact vp_in_nI hj (Nat.lt_of_le_of_lt (Nat.pow_le_pow_right (by decide) hk) (by decide))
theorem pk_shl (a s : Int32) (k : Nat) (hs : (s.toBitVec.smod 32).toNat = k) : (a <<< s).toBitVec.toNat = a.toBitVec.toNat * 2 ^ k % 2 ^ 32 := by
  show (a.toBitVec <<< (s.toBitVec.smod 32).toNat).toNat = _
  rw [hs, BitVec.toNat_shiftLeft, Nat.shiftLeft_eq]
theorem pk_shlN {n : Nat} (s : Int32) (k : Nat) (hs : (s.toBitVec.smod 32).toNat = k) (h : n * 2 ^ k < 2 ^ 32) : nI n <<< s = nI (n * 2 ^ k) := by
  apply Int32.toBitVec_inj.mp
  apply BitVec.eq_of_toNat_eq
  have hn : n < 2 ^ 32 := Nat.lt_of_le_of_lt (Nat.le_mul_of_pos_right n (Nat.two_pow_pos k)) h
  rw [pk_shl _ _ k hs, pk_tn hn, pk_tn h, Nat.mod_eq_of_lt h]
theorem pk_shr (a s : Int32) (k : Nat) (hs : (s.toBitVec.smod 32).toNat = k) : (a >>> s).toInt = a.toInt >>> k := by
  show (a.toBitVec.sshiftRight (s.toBitVec.smod 32).toNat).toInt = _
  rw [hs, BitVec.toInt_sshiftRight]
  rfl
theorem pk_shrN {n : Nat} (h : n < 2 ^ 31) (s : Int32) (k : Nat) (hs : (s.toBitVec.smod 32).toNat = k) : nI n >>> s = nI (n / 2 ^ k) := by
  apply Int32.toInt_inj.mp
  have h2 : n / 2 ^ k ≤ n := Nat.div_le_self _ _
  rw [pk_shr _ _ k hs, nI_toInt h, nI_toInt (by omega), Int.shiftRight_eq_div_pow]
  rfl
theorem pk_ushr (x s : Int32) (k : Nat) (hs : ((s.toUInt32 &&& Int32.toUInt32 31).toBitVec % 32).toNat = k) : (x.toUInt32 >>> (s.toUInt32 &&& Int32.toUInt32 31)).toInt32.toBitVec.toNat = x.toBitVec.toNat / 2 ^ k := by
  have e : (x.toUInt32 >>> (s.toUInt32 &&& Int32.toUInt32 31)).toInt32.toBitVec = x.toBitVec >>> k := by
    rw [← hs]
    exact UInt32.toBitVec_shiftRight _ _
  rw [e, BitVec.toNat_ushiftRight, Nat.shiftRight_eq_div_pow]
theorem pk_ushrN {n : Nat} (hn : n < 2 ^ 32) (s : Int32) (k : Nat) (hs : ((s.toUInt32 &&& Int32.toUInt32 31).toBitVec % 32).toNat = k) : ((nI n).toUInt32 >>> (s.toUInt32 &&& Int32.toUInt32 31)).toInt32 = nI (n / 2 ^ k) := by
  apply Int32.toBitVec_inj.mp
  apply BitVec.eq_of_toNat_eq
  rw [pk_ushr _ s k hs, pk_tn hn, pk_tn (Nat.lt_of_le_of_lt (Nat.div_le_self _ _) hn)]
theorem pk_nb (z : Int32) : narrow .byte (.int z.toInt8.toInt32) = .int z.toInt8.toInt32 := congrArg Value.int (by simp)
theorem pk_ns (z : Int32) : narrow .short (.int z.toInt16.toInt32) = .int z.toInt16.toInt32 := congrArg Value.int (by simp)
theorem pk_fb (r : Int32) : fits .byte (.int r.toInt8.toInt32) = true := by
  have ⟨a, b⟩ := lg_i2b_range r
  have h1 : (-128 : Int32).toInt = -128 := by decide
  have h2 : (127 : Int32).toInt = 127 := by decide
  simp only [fits, Bool.and_eq_true, decide_eq_true_eq, Int32.le_iff_toInt_le, h1, h2]
  omega
theorem pk_fs (r : Int32) : fits .short (.int r.toInt16.toInt32) = true := by
  have ⟨a, b⟩ := lg_i2s_range r
  have h1 : (-32768 : Int32).toInt = -32768 := by decide
  have h2 : (32767 : Int32).toInt = 32767 := by decide
  simp only [fits, Bool.and_eq_true, decide_eq_true_eq, Int32.le_iff_toInt_le, h1, h2]
  omega
theorem pk_charN {q : Nat} (hq : q < 65536) : narrow .char (.int (nI q)) = .int (nI q) ∧ fits .char (.int (nI q)) = true := by
  constructor
  · have e : (nI q).toUInt32.toUInt16.toUInt32.toInt32 = nI q := by
      apply Int32.toBitVec_inj.mp
      apply BitVec.eq_of_toNat_eq
      show (nI q).toUInt32.toUInt16.toUInt32.toNat = q % 2 ^ 32
      rw [UInt16.toNat_toUInt32, UInt32.toNat_toUInt16, show (nI q).toUInt32.toNat = q % 2 ^ 32 from rfl]
      omega
    exact congrArg Value.int e
  · have a : (0 : Int32) ≤ nI q := nI_pos' (by omega)
    have b : nI q ≤ 65535 := nI_le (b := 65535) (by omega) (by decide)
    show (decide ((0 : Int32) ≤ nI q) && decide (nI q ≤ 65535)) = true
    rw [decide_eq_true a, decide_eq_true b]
    rfl
theorem pk_char (x : Int32) : (x.toUInt32 % 65536).toInt32 = nI (x.toBitVec.toNat % 65536) := by
  apply Int32.toBitVec_inj.mp
  apply BitVec.eq_of_toNat_eq
  rw [pk_tn (by omega)]
  show (x.toUInt32 % 65536).toNat = _
  rw [UInt32.toNat_mod]
  rfl
theorem pk_nc (x : Int32) : narrow .char (.int (x.toUInt32 % 65536).toInt32) = .int (x.toUInt32 % 65536).toInt32 := by
  rw [pk_char]
  exact (pk_charN (Nat.mod_lt _ (by decide))).1
theorem pk_fc (x : Int32) : fits .char (.int (x.toUInt32 % 65536).toInt32) = true := by
  rw [pk_char]
  exact (pk_charN (Nat.mod_lt _ (by decide))).2
theorem pk_vb (z : Int32) : vp_nar .byte z.toInt8.toInt32 = z.toInt8.toInt32 := by rw [vp_nar_byte]; simp
theorem pk_vs (z : Int32) : vp_nar .short z.toInt16.toInt32 = z.toInt16.toInt32 := by rw [vp_nar_short]; simp
theorem pk_vc (z : Int32) : vp_nar .char (z.toUInt32 % 65536).toInt32 = (z.toUInt32 % 65536).toInt32 := Value.int.inj (pk_nc z)
theorem pk_lT {n : Nat} (h : n < 2 ^ 63) : (lN n).toInt = (n : Int) := lg_ofNat_toInt h
theorem pk_lLT {a b : Nat} (ha : a < 2 ^ 63) (hb : b < 2 ^ 63) : lN a < lN b ↔ a < b := by
  rw [Int64.lt_iff_toInt_lt, pk_lT ha, pk_lT hb]; omega
theorem pk_lLE {a b : Nat} (ha : a < 2 ^ 63) (hb : b < 2 ^ 63) : lN a ≤ lN b ↔ a ≤ b := by
  rw [Int64.le_iff_toInt_le, pk_lT ha, pk_lT hb]; omega
theorem pk_lEQ {a b : Nat} (ha : a < 2 ^ 63) (hb : b < 2 ^ 63) : lN a = lN b ↔ a = b := by
  rw [← Int64.toInt_inj, pk_lT ha, pk_lT hb]; omega
theorem pk_lOf {x : Int64} (h : ¬ x < 0) : ∃ k : Nat, k < 2 ^ 63 ∧ x = lN k := by
  rw [Int64.lt_iff_toInt_lt] at h
  have h0 : (0 : Int64).toInt = 0 := by decide
  have hx := Int64.toInt_lt x
  refine ⟨x.toInt.toNat, by omega, Int64.toInt_inj.mp ?_⟩
  rw [pk_lT (by omega)]
  omega
theorem pk_lDiv {a b : Nat} (ha : a < 2 ^ 63) (h0 : 0 < b) (hb : b < 2 ^ 63) : lN a / lN b = lN (a / b) := by
  apply Int64.toInt_inj.mp
  rw [lg_ldiv_nonneg (by rw [pk_lT ha]; omega) (by rw [pk_lT hb]; omega), pk_lT ha, pk_lT hb, pk_lT (Nat.lt_of_le_of_lt (Nat.div_le_self a b) ha)]
  rfl
theorem pk_lRem {a b : Nat} (ha : a < 2 ^ 63) (h0 : 0 < b) (hb : b < 2 ^ 63) : lN a - lN a / lN b * lN b = lN (a % b) := by
  rw [pk_lDiv ha h0 hb, lN_mul, lN_sub (Nat.div_mul_le_self a b)]
  exact congrArg lN (by have := Nat.div_add_mod' a b; omega)
theorem pk_loop {σ : Type} (W : Nat → Nat → σ → Prop) (I : Nat → σ → Prop) (e i0 : Nat) (s : σ) (hi : i0 ≤ e) (h0 : I i0 s) (hx : ∀ n s, I e s → W (n + 1) e s)
    (hs : ∀ n i s, i < e → I i s → (∀ s', I (i + 1) s' → W n (i + 1) s') → W (n + 1) i s) : ∃ n, W n i0 s :=
  ⟨e + 1, loop_i W I e hx hs (e + 1) i0 s hi (by omega) h0⟩
theorem pk_loopD {σ : Type} (W : Nat → Nat → σ → Prop) (I : Nat → σ → Prop) (hx : ∀ n s, I 0 s → W (n + 1) 0 s)
    (hs : ∀ n i s, I (i + 1) s → (∀ s', I i s' → W n i s') → W (n + 1) (i + 1) s) : ∀ (e : Nat) (s : σ), I e s → W (e + 1) e s := by
  intro e
  induction e with
  | zero => exact fun s h => hx 0 s h
  | succ e ih => exact fun s h => hs (e + 1) e s h (fun s' h' => ih s' h')
theorem lp1 {A1 : Type} (W : Nat → A1 → Prop) (I : A1 → Prop) (μ : A1 → Nat) (hs : ∀ (n : Nat) (a1 : A1), I a1 → (∀ (b1 : A1), I b1 → μ b1 < μ a1 → W n b1) → W (n + 1) a1) (a1 : A1) (h : I a1) : ∃ n, W n a1 :=
  loop_m (σ := A1) (fun n s => W n s) (fun s => I s) (fun s => μ s) (fun n s hI hk => hs n s hI (fun b1 h9 hm => hk b1 h9 hm)) a1 h
theorem lp2 {A1 A2 : Type} (W : Nat → A1 → A2 → Prop) (I : A1 → A2 → Prop) (μ : A1 → A2 → Nat) (hs : ∀ (n : Nat) (a1 : A1) (a2 : A2), I a1 a2 → (∀ (b1 : A1) (b2 : A2), I b1 b2 → μ b1 b2 < μ a1 a2 → W n b1 b2) → W (n + 1) a1 a2) (a1 : A1) (a2 : A2) (h : I a1 a2) : ∃ n, W n a1 a2 :=
  loop_m (σ := A1 × A2) (fun n s => W n s.1 s.2) (fun s => I s.1 s.2) (fun s => μ s.1 s.2) (fun n s hI hk => hs n s.1 s.2 hI (fun b1 b2 h9 hm => hk (b1, b2) h9 hm)) (a1, a2) h
theorem lp3 {A1 A2 A3 : Type} (W : Nat → A1 → A2 → A3 → Prop) (I : A1 → A2 → A3 → Prop) (μ : A1 → A2 → A3 → Nat) (hs : ∀ (n : Nat) (a1 : A1) (a2 : A2) (a3 : A3), I a1 a2 a3 → (∀ (b1 : A1) (b2 : A2) (b3 : A3), I b1 b2 b3 → μ b1 b2 b3 < μ a1 a2 a3 → W n b1 b2 b3) → W (n + 1) a1 a2 a3) (a1 : A1) (a2 : A2) (a3 : A3) (h : I a1 a2 a3) : ∃ n, W n a1 a2 a3 :=
  loop_m (σ := A1 × A2 × A3) (fun n s => W n s.1 s.2.1 s.2.2) (fun s => I s.1 s.2.1 s.2.2) (fun s => μ s.1 s.2.1 s.2.2) (fun n s hI hk => hs n s.1 s.2.1 s.2.2 hI (fun b1 b2 b3 h9 hm => hk (b1, b2, b3) h9 hm)) (a1, a2, a3) h
theorem lp4 {A1 A2 A3 A4 : Type} (W : Nat → A1 → A2 → A3 → A4 → Prop) (I : A1 → A2 → A3 → A4 → Prop) (μ : A1 → A2 → A3 → A4 → Nat) (hs : ∀ (n : Nat) (a1 : A1) (a2 : A2) (a3 : A3) (a4 : A4), I a1 a2 a3 a4 → (∀ (b1 : A1) (b2 : A2) (b3 : A3) (b4 : A4), I b1 b2 b3 b4 → μ b1 b2 b3 b4 < μ a1 a2 a3 a4 → W n b1 b2 b3 b4) → W (n + 1) a1 a2 a3 a4) (a1 : A1) (a2 : A2) (a3 : A3) (a4 : A4) (h : I a1 a2 a3 a4) : ∃ n, W n a1 a2 a3 a4 :=
  loop_m (σ := A1 × A2 × A3 × A4) (fun n s => W n s.1 s.2.1 s.2.2.1 s.2.2.2) (fun s => I s.1 s.2.1 s.2.2.1 s.2.2.2) (fun s => μ s.1 s.2.1 s.2.2.1 s.2.2.2) (fun n s hI hk => hs n s.1 s.2.1 s.2.2.1 s.2.2.2 hI (fun b1 b2 b3 b4 h9 hm => hk (b1, b2, b3, b4) h9 hm)) (a1, a2, a3, a4) h
theorem lp5 {A1 A2 A3 A4 A5 : Type} (W : Nat → A1 → A2 → A3 → A4 → A5 → Prop) (I : A1 → A2 → A3 → A4 → A5 → Prop) (μ : A1 → A2 → A3 → A4 → A5 → Nat) (hs : ∀ (n : Nat) (a1 : A1) (a2 : A2) (a3 : A3) (a4 : A4) (a5 : A5), I a1 a2 a3 a4 a5 → (∀ (b1 : A1) (b2 : A2) (b3 : A3) (b4 : A4) (b5 : A5), I b1 b2 b3 b4 b5 → μ b1 b2 b3 b4 b5 < μ a1 a2 a3 a4 a5 → W n b1 b2 b3 b4 b5) → W (n + 1) a1 a2 a3 a4 a5) (a1 : A1) (a2 : A2) (a3 : A3) (a4 : A4) (a5 : A5) (h : I a1 a2 a3 a4 a5) : ∃ n, W n a1 a2 a3 a4 a5 :=
  loop_m (σ := A1 × A2 × A3 × A4 × A5) (fun n s => W n s.1 s.2.1 s.2.2.1 s.2.2.2.1 s.2.2.2.2) (fun s => I s.1 s.2.1 s.2.2.1 s.2.2.2.1 s.2.2.2.2) (fun s => μ s.1 s.2.1 s.2.2.1 s.2.2.2.1 s.2.2.2.2) (fun n s hI hk => hs n s.1 s.2.1 s.2.2.1 s.2.2.2.1 s.2.2.2.2 hI (fun b1 b2 b3 b4 b5 h9 hm => hk (b1, b2, b3, b4, b5) h9 hm)) (a1, a2, a3, a4, a5) h
theorem lp6 {A1 A2 A3 A4 A5 A6 : Type} (W : Nat → A1 → A2 → A3 → A4 → A5 → A6 → Prop) (I : A1 → A2 → A3 → A4 → A5 → A6 → Prop) (μ : A1 → A2 → A3 → A4 → A5 → A6 → Nat) (hs : ∀ (n : Nat) (a1 : A1) (a2 : A2) (a3 : A3) (a4 : A4) (a5 : A5) (a6 : A6), I a1 a2 a3 a4 a5 a6 → (∀ (b1 : A1) (b2 : A2) (b3 : A3) (b4 : A4) (b5 : A5) (b6 : A6), I b1 b2 b3 b4 b5 b6 → μ b1 b2 b3 b4 b5 b6 < μ a1 a2 a3 a4 a5 a6 → W n b1 b2 b3 b4 b5 b6) → W (n + 1) a1 a2 a3 a4 a5 a6) (a1 : A1) (a2 : A2) (a3 : A3) (a4 : A4) (a5 : A5) (a6 : A6) (h : I a1 a2 a3 a4 a5 a6) : ∃ n, W n a1 a2 a3 a4 a5 a6 :=
  loop_m (σ := A1 × A2 × A3 × A4 × A5 × A6) (fun n s => W n s.1 s.2.1 s.2.2.1 s.2.2.2.1 s.2.2.2.2.1 s.2.2.2.2.2) (fun s => I s.1 s.2.1 s.2.2.1 s.2.2.2.1 s.2.2.2.2.1 s.2.2.2.2.2) (fun s => μ s.1 s.2.1 s.2.2.1 s.2.2.2.1 s.2.2.2.2.1 s.2.2.2.2.2) (fun n s hI hk => hs n s.1 s.2.1 s.2.2.1 s.2.2.2.1 s.2.2.2.2.1 s.2.2.2.2.2 hI (fun b1 b2 b3 b4 b5 b6 h9 hm => hk (b1, b2, b3, b4, b5, b6) h9 hm)) (a1, a2, a3, a4, a5, a6) h
theorem lp7 {A1 A2 A3 A4 A5 A6 A7 : Type} (W : Nat → A1 → A2 → A3 → A4 → A5 → A6 → A7 → Prop) (I : A1 → A2 → A3 → A4 → A5 → A6 → A7 → Prop) (μ : A1 → A2 → A3 → A4 → A5 → A6 → A7 → Nat) (hs : ∀ (n : Nat) (a1 : A1) (a2 : A2) (a3 : A3) (a4 : A4) (a5 : A5) (a6 : A6) (a7 : A7), I a1 a2 a3 a4 a5 a6 a7 → (∀ (b1 : A1) (b2 : A2) (b3 : A3) (b4 : A4) (b5 : A5) (b6 : A6) (b7 : A7), I b1 b2 b3 b4 b5 b6 b7 → μ b1 b2 b3 b4 b5 b6 b7 < μ a1 a2 a3 a4 a5 a6 a7 → W n b1 b2 b3 b4 b5 b6 b7) → W (n + 1) a1 a2 a3 a4 a5 a6 a7) (a1 : A1) (a2 : A2) (a3 : A3) (a4 : A4) (a5 : A5) (a6 : A6) (a7 : A7) (h : I a1 a2 a3 a4 a5 a6 a7) : ∃ n, W n a1 a2 a3 a4 a5 a6 a7 :=
  loop_m (σ := A1 × A2 × A3 × A4 × A5 × A6 × A7) (fun n s => W n s.1 s.2.1 s.2.2.1 s.2.2.2.1 s.2.2.2.2.1 s.2.2.2.2.2.1 s.2.2.2.2.2.2) (fun s => I s.1 s.2.1 s.2.2.1 s.2.2.2.1 s.2.2.2.2.1 s.2.2.2.2.2.1 s.2.2.2.2.2.2) (fun s => μ s.1 s.2.1 s.2.2.1 s.2.2.2.1 s.2.2.2.2.1 s.2.2.2.2.2.1 s.2.2.2.2.2.2) (fun n s hI hk => hs n s.1 s.2.1 s.2.2.1 s.2.2.2.1 s.2.2.2.2.1 s.2.2.2.2.2.1 s.2.2.2.2.2.2 hI (fun b1 b2 b3 b4 b5 b6 b7 h9 hm => hk (b1, b2, b3, b4, b5, b6, b7) h9 hm)) (a1, a2, a3, a4, a5, a6, a7) h
theorem lp8 {A1 A2 A3 A4 A5 A6 A7 A8 : Type} (W : Nat → A1 → A2 → A3 → A4 → A5 → A6 → A7 → A8 → Prop) (I : A1 → A2 → A3 → A4 → A5 → A6 → A7 → A8 → Prop) (μ : A1 → A2 → A3 → A4 → A5 → A6 → A7 → A8 → Nat) (hs : ∀ (n : Nat) (a1 : A1) (a2 : A2) (a3 : A3) (a4 : A4) (a5 : A5) (a6 : A6) (a7 : A7) (a8 : A8), I a1 a2 a3 a4 a5 a6 a7 a8 → (∀ (b1 : A1) (b2 : A2) (b3 : A3) (b4 : A4) (b5 : A5) (b6 : A6) (b7 : A7) (b8 : A8), I b1 b2 b3 b4 b5 b6 b7 b8 → μ b1 b2 b3 b4 b5 b6 b7 b8 < μ a1 a2 a3 a4 a5 a6 a7 a8 → W n b1 b2 b3 b4 b5 b6 b7 b8) → W (n + 1) a1 a2 a3 a4 a5 a6 a7 a8) (a1 : A1) (a2 : A2) (a3 : A3) (a4 : A4) (a5 : A5) (a6 : A6) (a7 : A7) (a8 : A8) (h : I a1 a2 a3 a4 a5 a6 a7 a8) : ∃ n, W n a1 a2 a3 a4 a5 a6 a7 a8 :=
  loop_m (σ := A1 × A2 × A3 × A4 × A5 × A6 × A7 × A8) (fun n s => W n s.1 s.2.1 s.2.2.1 s.2.2.2.1 s.2.2.2.2.1 s.2.2.2.2.2.1 s.2.2.2.2.2.2.1 s.2.2.2.2.2.2.2) (fun s => I s.1 s.2.1 s.2.2.1 s.2.2.2.1 s.2.2.2.2.1 s.2.2.2.2.2.1 s.2.2.2.2.2.2.1 s.2.2.2.2.2.2.2) (fun s => μ s.1 s.2.1 s.2.2.1 s.2.2.2.1 s.2.2.2.2.1 s.2.2.2.2.2.1 s.2.2.2.2.2.2.1 s.2.2.2.2.2.2.2) (fun n s hI hk => hs n s.1 s.2.1 s.2.2.1 s.2.2.2.1 s.2.2.2.2.1 s.2.2.2.2.2.1 s.2.2.2.2.2.2.1 s.2.2.2.2.2.2.2 hI (fun b1 b2 b3 b4 b5 b6 b7 b8 h9 hm => hk (b1, b2, b3, b4, b5, b6, b7, b8) h9 hm)) (a1, a2, a3, a4, a5, a6, a7, a8) h
theorem lp9 {A1 A2 A3 A4 A5 A6 A7 A8 A9 : Type} (W : Nat → A1 → A2 → A3 → A4 → A5 → A6 → A7 → A8 → A9 → Prop) (I : A1 → A2 → A3 → A4 → A5 → A6 → A7 → A8 → A9 → Prop) (μ : A1 → A2 → A3 → A4 → A5 → A6 → A7 → A8 → A9 → Nat) (hs : ∀ (n : Nat) (a1 : A1) (a2 : A2) (a3 : A3) (a4 : A4) (a5 : A5) (a6 : A6) (a7 : A7) (a8 : A8) (a9 : A9), I a1 a2 a3 a4 a5 a6 a7 a8 a9 → (∀ (b1 : A1) (b2 : A2) (b3 : A3) (b4 : A4) (b5 : A5) (b6 : A6) (b7 : A7) (b8 : A8) (b9 : A9), I b1 b2 b3 b4 b5 b6 b7 b8 b9 → μ b1 b2 b3 b4 b5 b6 b7 b8 b9 < μ a1 a2 a3 a4 a5 a6 a7 a8 a9 → W n b1 b2 b3 b4 b5 b6 b7 b8 b9) → W (n + 1) a1 a2 a3 a4 a5 a6 a7 a8 a9) (a1 : A1) (a2 : A2) (a3 : A3) (a4 : A4) (a5 : A5) (a6 : A6) (a7 : A7) (a8 : A8) (a9 : A9) (h : I a1 a2 a3 a4 a5 a6 a7 a8 a9) : ∃ n, W n a1 a2 a3 a4 a5 a6 a7 a8 a9 :=
  loop_m (σ := A1 × A2 × A3 × A4 × A5 × A6 × A7 × A8 × A9) (fun n s => W n s.1 s.2.1 s.2.2.1 s.2.2.2.1 s.2.2.2.2.1 s.2.2.2.2.2.1 s.2.2.2.2.2.2.1 s.2.2.2.2.2.2.2.1 s.2.2.2.2.2.2.2.2) (fun s => I s.1 s.2.1 s.2.2.1 s.2.2.2.1 s.2.2.2.2.1 s.2.2.2.2.2.1 s.2.2.2.2.2.2.1 s.2.2.2.2.2.2.2.1 s.2.2.2.2.2.2.2.2) (fun s => μ s.1 s.2.1 s.2.2.1 s.2.2.2.1 s.2.2.2.2.1 s.2.2.2.2.2.1 s.2.2.2.2.2.2.1 s.2.2.2.2.2.2.2.1 s.2.2.2.2.2.2.2.2) (fun n s hI hk => hs n s.1 s.2.1 s.2.2.1 s.2.2.2.1 s.2.2.2.2.1 s.2.2.2.2.2.1 s.2.2.2.2.2.2.1 s.2.2.2.2.2.2.2.1 s.2.2.2.2.2.2.2.2 hI (fun b1 b2 b3 b4 b5 b6 b7 b8 b9 h9 hm => hk (b1, b2, b3, b4, b5, b6, b7, b8, b9) h9 hm)) (a1, a2, a3, a4, a5, a6, a7, a8, a9) h
theorem lp10 {A1 A2 A3 A4 A5 A6 A7 A8 A9 A10 : Type} (W : Nat → A1 → A2 → A3 → A4 → A5 → A6 → A7 → A8 → A9 → A10 → Prop) (I : A1 → A2 → A3 → A4 → A5 → A6 → A7 → A8 → A9 → A10 → Prop) (μ : A1 → A2 → A3 → A4 → A5 → A6 → A7 → A8 → A9 → A10 → Nat) (hs : ∀ (n : Nat) (a1 : A1) (a2 : A2) (a3 : A3) (a4 : A4) (a5 : A5) (a6 : A6) (a7 : A7) (a8 : A8) (a9 : A9) (a10 : A10), I a1 a2 a3 a4 a5 a6 a7 a8 a9 a10 → (∀ (b1 : A1) (b2 : A2) (b3 : A3) (b4 : A4) (b5 : A5) (b6 : A6) (b7 : A7) (b8 : A8) (b9 : A9) (b10 : A10), I b1 b2 b3 b4 b5 b6 b7 b8 b9 b10 → μ b1 b2 b3 b4 b5 b6 b7 b8 b9 b10 < μ a1 a2 a3 a4 a5 a6 a7 a8 a9 a10 → W n b1 b2 b3 b4 b5 b6 b7 b8 b9 b10) → W (n + 1) a1 a2 a3 a4 a5 a6 a7 a8 a9 a10) (a1 : A1) (a2 : A2) (a3 : A3) (a4 : A4) (a5 : A5) (a6 : A6) (a7 : A7) (a8 : A8) (a9 : A9) (a10 : A10) (h : I a1 a2 a3 a4 a5 a6 a7 a8 a9 a10) : ∃ n, W n a1 a2 a3 a4 a5 a6 a7 a8 a9 a10 :=
  loop_m (σ := A1 × A2 × A3 × A4 × A5 × A6 × A7 × A8 × A9 × A10) (fun n s => W n s.1 s.2.1 s.2.2.1 s.2.2.2.1 s.2.2.2.2.1 s.2.2.2.2.2.1 s.2.2.2.2.2.2.1 s.2.2.2.2.2.2.2.1 s.2.2.2.2.2.2.2.2.1 s.2.2.2.2.2.2.2.2.2) (fun s => I s.1 s.2.1 s.2.2.1 s.2.2.2.1 s.2.2.2.2.1 s.2.2.2.2.2.1 s.2.2.2.2.2.2.1 s.2.2.2.2.2.2.2.1 s.2.2.2.2.2.2.2.2.1 s.2.2.2.2.2.2.2.2.2) (fun s => μ s.1 s.2.1 s.2.2.1 s.2.2.2.1 s.2.2.2.2.1 s.2.2.2.2.2.1 s.2.2.2.2.2.2.1 s.2.2.2.2.2.2.2.1 s.2.2.2.2.2.2.2.2.1 s.2.2.2.2.2.2.2.2.2) (fun n s hI hk => hs n s.1 s.2.1 s.2.2.1 s.2.2.2.1 s.2.2.2.2.1 s.2.2.2.2.2.1 s.2.2.2.2.2.2.1 s.2.2.2.2.2.2.2.1 s.2.2.2.2.2.2.2.2.1 s.2.2.2.2.2.2.2.2.2 hI (fun b1 b2 b3 b4 b5 b6 b7 b8 b9 b10 h9 hm => hk (b1, b2, b3, b4, b5, b6, b7, b8, b9, b10) h9 hm)) (a1, a2, a3, a4, a5, a6, a7, a8, a9, a10) h
theorem lp11 {A1 A2 A3 A4 A5 A6 A7 A8 A9 A10 A11 : Type} (W : Nat → A1 → A2 → A3 → A4 → A5 → A6 → A7 → A8 → A9 → A10 → A11 → Prop) (I : A1 → A2 → A3 → A4 → A5 → A6 → A7 → A8 → A9 → A10 → A11 → Prop) (μ : A1 → A2 → A3 → A4 → A5 → A6 → A7 → A8 → A9 → A10 → A11 → Nat) (hs : ∀ (n : Nat) (a1 : A1) (a2 : A2) (a3 : A3) (a4 : A4) (a5 : A5) (a6 : A6) (a7 : A7) (a8 : A8) (a9 : A9) (a10 : A10) (a11 : A11), I a1 a2 a3 a4 a5 a6 a7 a8 a9 a10 a11 → (∀ (b1 : A1) (b2 : A2) (b3 : A3) (b4 : A4) (b5 : A5) (b6 : A6) (b7 : A7) (b8 : A8) (b9 : A9) (b10 : A10) (b11 : A11), I b1 b2 b3 b4 b5 b6 b7 b8 b9 b10 b11 → μ b1 b2 b3 b4 b5 b6 b7 b8 b9 b10 b11 < μ a1 a2 a3 a4 a5 a6 a7 a8 a9 a10 a11 → W n b1 b2 b3 b4 b5 b6 b7 b8 b9 b10 b11) → W (n + 1) a1 a2 a3 a4 a5 a6 a7 a8 a9 a10 a11) (a1 : A1) (a2 : A2) (a3 : A3) (a4 : A4) (a5 : A5) (a6 : A6) (a7 : A7) (a8 : A8) (a9 : A9) (a10 : A10) (a11 : A11) (h : I a1 a2 a3 a4 a5 a6 a7 a8 a9 a10 a11) : ∃ n, W n a1 a2 a3 a4 a5 a6 a7 a8 a9 a10 a11 :=
  loop_m (σ := A1 × A2 × A3 × A4 × A5 × A6 × A7 × A8 × A9 × A10 × A11) (fun n s => W n s.1 s.2.1 s.2.2.1 s.2.2.2.1 s.2.2.2.2.1 s.2.2.2.2.2.1 s.2.2.2.2.2.2.1 s.2.2.2.2.2.2.2.1 s.2.2.2.2.2.2.2.2.1 s.2.2.2.2.2.2.2.2.2.1 s.2.2.2.2.2.2.2.2.2.2) (fun s => I s.1 s.2.1 s.2.2.1 s.2.2.2.1 s.2.2.2.2.1 s.2.2.2.2.2.1 s.2.2.2.2.2.2.1 s.2.2.2.2.2.2.2.1 s.2.2.2.2.2.2.2.2.1 s.2.2.2.2.2.2.2.2.2.1 s.2.2.2.2.2.2.2.2.2.2) (fun s => μ s.1 s.2.1 s.2.2.1 s.2.2.2.1 s.2.2.2.2.1 s.2.2.2.2.2.1 s.2.2.2.2.2.2.1 s.2.2.2.2.2.2.2.1 s.2.2.2.2.2.2.2.2.1 s.2.2.2.2.2.2.2.2.2.1 s.2.2.2.2.2.2.2.2.2.2) (fun n s hI hk => hs n s.1 s.2.1 s.2.2.1 s.2.2.2.1 s.2.2.2.2.1 s.2.2.2.2.2.1 s.2.2.2.2.2.2.1 s.2.2.2.2.2.2.2.1 s.2.2.2.2.2.2.2.2.1 s.2.2.2.2.2.2.2.2.2.1 s.2.2.2.2.2.2.2.2.2.2 hI (fun b1 b2 b3 b4 b5 b6 b7 b8 b9 b10 b11 h9 hm => hk (b1, b2, b3, b4, b5, b6, b7, b8, b9, b10, b11) h9 hm)) (a1, a2, a3, a4, a5, a6, a7, a8, a9, a10, a11) h
theorem lp12 {A1 A2 A3 A4 A5 A6 A7 A8 A9 A10 A11 A12 : Type} (W : Nat → A1 → A2 → A3 → A4 → A5 → A6 → A7 → A8 → A9 → A10 → A11 → A12 → Prop) (I : A1 → A2 → A3 → A4 → A5 → A6 → A7 → A8 → A9 → A10 → A11 → A12 → Prop) (μ : A1 → A2 → A3 → A4 → A5 → A6 → A7 → A8 → A9 → A10 → A11 → A12 → Nat) (hs : ∀ (n : Nat) (a1 : A1) (a2 : A2) (a3 : A3) (a4 : A4) (a5 : A5) (a6 : A6) (a7 : A7) (a8 : A8) (a9 : A9) (a10 : A10) (a11 : A11) (a12 : A12), I a1 a2 a3 a4 a5 a6 a7 a8 a9 a10 a11 a12 → (∀ (b1 : A1) (b2 : A2) (b3 : A3) (b4 : A4) (b5 : A5) (b6 : A6) (b7 : A7) (b8 : A8) (b9 : A9) (b10 : A10) (b11 : A11) (b12 : A12), I b1 b2 b3 b4 b5 b6 b7 b8 b9 b10 b11 b12 → μ b1 b2 b3 b4 b5 b6 b7 b8 b9 b10 b11 b12 < μ a1 a2 a3 a4 a5 a6 a7 a8 a9 a10 a11 a12 → W n b1 b2 b3 b4 b5 b6 b7 b8 b9 b10 b11 b12) → W (n + 1) a1 a2 a3 a4 a5 a6 a7 a8 a9 a10 a11 a12) (a1 : A1) (a2 : A2) (a3 : A3) (a4 : A4) (a5 : A5) (a6 : A6) (a7 : A7) (a8 : A8) (a9 : A9) (a10 : A10) (a11 : A11) (a12 : A12) (h : I a1 a2 a3 a4 a5 a6 a7 a8 a9 a10 a11 a12) : ∃ n, W n a1 a2 a3 a4 a5 a6 a7 a8 a9 a10 a11 a12 :=
  loop_m (σ := A1 × A2 × A3 × A4 × A5 × A6 × A7 × A8 × A9 × A10 × A11 × A12) (fun n s => W n s.1 s.2.1 s.2.2.1 s.2.2.2.1 s.2.2.2.2.1 s.2.2.2.2.2.1 s.2.2.2.2.2.2.1 s.2.2.2.2.2.2.2.1 s.2.2.2.2.2.2.2.2.1 s.2.2.2.2.2.2.2.2.2.1 s.2.2.2.2.2.2.2.2.2.2.1 s.2.2.2.2.2.2.2.2.2.2.2) (fun s => I s.1 s.2.1 s.2.2.1 s.2.2.2.1 s.2.2.2.2.1 s.2.2.2.2.2.1 s.2.2.2.2.2.2.1 s.2.2.2.2.2.2.2.1 s.2.2.2.2.2.2.2.2.1 s.2.2.2.2.2.2.2.2.2.1 s.2.2.2.2.2.2.2.2.2.2.1 s.2.2.2.2.2.2.2.2.2.2.2) (fun s => μ s.1 s.2.1 s.2.2.1 s.2.2.2.1 s.2.2.2.2.1 s.2.2.2.2.2.1 s.2.2.2.2.2.2.1 s.2.2.2.2.2.2.2.1 s.2.2.2.2.2.2.2.2.1 s.2.2.2.2.2.2.2.2.2.1 s.2.2.2.2.2.2.2.2.2.2.1 s.2.2.2.2.2.2.2.2.2.2.2) (fun n s hI hk => hs n s.1 s.2.1 s.2.2.1 s.2.2.2.1 s.2.2.2.2.1 s.2.2.2.2.2.1 s.2.2.2.2.2.2.1 s.2.2.2.2.2.2.2.1 s.2.2.2.2.2.2.2.2.1 s.2.2.2.2.2.2.2.2.2.1 s.2.2.2.2.2.2.2.2.2.2.1 s.2.2.2.2.2.2.2.2.2.2.2 hI (fun b1 b2 b3 b4 b5 b6 b7 b8 b9 b10 b11 b12 h9 hm => hk (b1, b2, b3, b4, b5, b6, b7, b8, b9, b10, b11, b12) h9 hm)) (a1, a2, a3, a4, a5, a6, a7, a8, a9, a10, a11, a12) h
theorem lp13 {A1 A2 A3 A4 A5 A6 A7 A8 A9 A10 A11 A12 A13 : Type} (W : Nat → A1 → A2 → A3 → A4 → A5 → A6 → A7 → A8 → A9 → A10 → A11 → A12 → A13 → Prop) (I : A1 → A2 → A3 → A4 → A5 → A6 → A7 → A8 → A9 → A10 → A11 → A12 → A13 → Prop) (μ : A1 → A2 → A3 → A4 → A5 → A6 → A7 → A8 → A9 → A10 → A11 → A12 → A13 → Nat) (hs : ∀ (n : Nat) (a1 : A1) (a2 : A2) (a3 : A3) (a4 : A4) (a5 : A5) (a6 : A6) (a7 : A7) (a8 : A8) (a9 : A9) (a10 : A10) (a11 : A11) (a12 : A12) (a13 : A13), I a1 a2 a3 a4 a5 a6 a7 a8 a9 a10 a11 a12 a13 → (∀ (b1 : A1) (b2 : A2) (b3 : A3) (b4 : A4) (b5 : A5) (b6 : A6) (b7 : A7) (b8 : A8) (b9 : A9) (b10 : A10) (b11 : A11) (b12 : A12) (b13 : A13), I b1 b2 b3 b4 b5 b6 b7 b8 b9 b10 b11 b12 b13 → μ b1 b2 b3 b4 b5 b6 b7 b8 b9 b10 b11 b12 b13 < μ a1 a2 a3 a4 a5 a6 a7 a8 a9 a10 a11 a12 a13 → W n b1 b2 b3 b4 b5 b6 b7 b8 b9 b10 b11 b12 b13) → W (n + 1) a1 a2 a3 a4 a5 a6 a7 a8 a9 a10 a11 a12 a13) (a1 : A1) (a2 : A2) (a3 : A3) (a4 : A4) (a5 : A5) (a6 : A6) (a7 : A7) (a8 : A8) (a9 : A9) (a10 : A10) (a11 : A11) (a12 : A12) (a13 : A13) (h : I a1 a2 a3 a4 a5 a6 a7 a8 a9 a10 a11 a12 a13) : ∃ n, W n a1 a2 a3 a4 a5 a6 a7 a8 a9 a10 a11 a12 a13 :=
  loop_m (σ := A1 × A2 × A3 × A4 × A5 × A6 × A7 × A8 × A9 × A10 × A11 × A12 × A13) (fun n s => W n s.1 s.2.1 s.2.2.1 s.2.2.2.1 s.2.2.2.2.1 s.2.2.2.2.2.1 s.2.2.2.2.2.2.1 s.2.2.2.2.2.2.2.1 s.2.2.2.2.2.2.2.2.1 s.2.2.2.2.2.2.2.2.2.1 s.2.2.2.2.2.2.2.2.2.2.1 s.2.2.2.2.2.2.2.2.2.2.2.1 s.2.2.2.2.2.2.2.2.2.2.2.2) (fun s => I s.1 s.2.1 s.2.2.1 s.2.2.2.1 s.2.2.2.2.1 s.2.2.2.2.2.1 s.2.2.2.2.2.2.1 s.2.2.2.2.2.2.2.1 s.2.2.2.2.2.2.2.2.1 s.2.2.2.2.2.2.2.2.2.1 s.2.2.2.2.2.2.2.2.2.2.1 s.2.2.2.2.2.2.2.2.2.2.2.1 s.2.2.2.2.2.2.2.2.2.2.2.2) (fun s => μ s.1 s.2.1 s.2.2.1 s.2.2.2.1 s.2.2.2.2.1 s.2.2.2.2.2.1 s.2.2.2.2.2.2.1 s.2.2.2.2.2.2.2.1 s.2.2.2.2.2.2.2.2.1 s.2.2.2.2.2.2.2.2.2.1 s.2.2.2.2.2.2.2.2.2.2.1 s.2.2.2.2.2.2.2.2.2.2.2.1 s.2.2.2.2.2.2.2.2.2.2.2.2) (fun n s hI hk => hs n s.1 s.2.1 s.2.2.1 s.2.2.2.1 s.2.2.2.2.1 s.2.2.2.2.2.1 s.2.2.2.2.2.2.1 s.2.2.2.2.2.2.2.1 s.2.2.2.2.2.2.2.2.1 s.2.2.2.2.2.2.2.2.2.1 s.2.2.2.2.2.2.2.2.2.2.1 s.2.2.2.2.2.2.2.2.2.2.2.1 s.2.2.2.2.2.2.2.2.2.2.2.2 hI (fun b1 b2 b3 b4 b5 b6 b7 b8 b9 b10 b11 b12 b13 h9 hm => hk (b1, b2, b3, b4, b5, b6, b7, b8, b9, b10, b11, b12, b13) h9 hm)) (a1, a2, a3, a4, a5, a6, a7, a8, a9, a10, a11, a12, a13) h
theorem lp14 {A1 A2 A3 A4 A5 A6 A7 A8 A9 A10 A11 A12 A13 A14 : Type} (W : Nat → A1 → A2 → A3 → A4 → A5 → A6 → A7 → A8 → A9 → A10 → A11 → A12 → A13 → A14 → Prop) (I : A1 → A2 → A3 → A4 → A5 → A6 → A7 → A8 → A9 → A10 → A11 → A12 → A13 → A14 → Prop) (μ : A1 → A2 → A3 → A4 → A5 → A6 → A7 → A8 → A9 → A10 → A11 → A12 → A13 → A14 → Nat) (hs : ∀ (n : Nat) (a1 : A1) (a2 : A2) (a3 : A3) (a4 : A4) (a5 : A5) (a6 : A6) (a7 : A7) (a8 : A8) (a9 : A9) (a10 : A10) (a11 : A11) (a12 : A12) (a13 : A13) (a14 : A14), I a1 a2 a3 a4 a5 a6 a7 a8 a9 a10 a11 a12 a13 a14 → (∀ (b1 : A1) (b2 : A2) (b3 : A3) (b4 : A4) (b5 : A5) (b6 : A6) (b7 : A7) (b8 : A8) (b9 : A9) (b10 : A10) (b11 : A11) (b12 : A12) (b13 : A13) (b14 : A14), I b1 b2 b3 b4 b5 b6 b7 b8 b9 b10 b11 b12 b13 b14 → μ b1 b2 b3 b4 b5 b6 b7 b8 b9 b10 b11 b12 b13 b14 < μ a1 a2 a3 a4 a5 a6 a7 a8 a9 a10 a11 a12 a13 a14 → W n b1 b2 b3 b4 b5 b6 b7 b8 b9 b10 b11 b12 b13 b14) → W (n + 1) a1 a2 a3 a4 a5 a6 a7 a8 a9 a10 a11 a12 a13 a14) (a1 : A1) (a2 : A2) (a3 : A3) (a4 : A4) (a5 : A5) (a6 : A6) (a7 : A7) (a8 : A8) (a9 : A9) (a10 : A10) (a11 : A11) (a12 : A12) (a13 : A13) (a14 : A14) (h : I a1 a2 a3 a4 a5 a6 a7 a8 a9 a10 a11 a12 a13 a14) : ∃ n, W n a1 a2 a3 a4 a5 a6 a7 a8 a9 a10 a11 a12 a13 a14 :=
  loop_m (σ := A1 × A2 × A3 × A4 × A5 × A6 × A7 × A8 × A9 × A10 × A11 × A12 × A13 × A14) (fun n s => W n s.1 s.2.1 s.2.2.1 s.2.2.2.1 s.2.2.2.2.1 s.2.2.2.2.2.1 s.2.2.2.2.2.2.1 s.2.2.2.2.2.2.2.1 s.2.2.2.2.2.2.2.2.1 s.2.2.2.2.2.2.2.2.2.1 s.2.2.2.2.2.2.2.2.2.2.1 s.2.2.2.2.2.2.2.2.2.2.2.1 s.2.2.2.2.2.2.2.2.2.2.2.2.1 s.2.2.2.2.2.2.2.2.2.2.2.2.2) (fun s => I s.1 s.2.1 s.2.2.1 s.2.2.2.1 s.2.2.2.2.1 s.2.2.2.2.2.1 s.2.2.2.2.2.2.1 s.2.2.2.2.2.2.2.1 s.2.2.2.2.2.2.2.2.1 s.2.2.2.2.2.2.2.2.2.1 s.2.2.2.2.2.2.2.2.2.2.1 s.2.2.2.2.2.2.2.2.2.2.2.1 s.2.2.2.2.2.2.2.2.2.2.2.2.1 s.2.2.2.2.2.2.2.2.2.2.2.2.2) (fun s => μ s.1 s.2.1 s.2.2.1 s.2.2.2.1 s.2.2.2.2.1 s.2.2.2.2.2.1 s.2.2.2.2.2.2.1 s.2.2.2.2.2.2.2.1 s.2.2.2.2.2.2.2.2.1 s.2.2.2.2.2.2.2.2.2.1 s.2.2.2.2.2.2.2.2.2.2.1 s.2.2.2.2.2.2.2.2.2.2.2.1 s.2.2.2.2.2.2.2.2.2.2.2.2.1 s.2.2.2.2.2.2.2.2.2.2.2.2.2) (fun n s hI hk => hs n s.1 s.2.1 s.2.2.1 s.2.2.2.1 s.2.2.2.2.1 s.2.2.2.2.2.1 s.2.2.2.2.2.2.1 s.2.2.2.2.2.2.2.1 s.2.2.2.2.2.2.2.2.1 s.2.2.2.2.2.2.2.2.2.1 s.2.2.2.2.2.2.2.2.2.2.1 s.2.2.2.2.2.2.2.2.2.2.2.1 s.2.2.2.2.2.2.2.2.2.2.2.2.1 s.2.2.2.2.2.2.2.2.2.2.2.2.2 hI (fun b1 b2 b3 b4 b5 b6 b7 b8 b9 b10 b11 b12 b13 b14 h9 hm => hk (b1, b2, b3, b4, b5, b6, b7, b8, b9, b10, b11, b12, b13, b14) h9 hm)) (a1, a2, a3, a4, a5, a6, a7, a8, a9, a10, a11, a12, a13, a14) h
theorem lp15 {A1 A2 A3 A4 A5 A6 A7 A8 A9 A10 A11 A12 A13 A14 A15 : Type} (W : Nat → A1 → A2 → A3 → A4 → A5 → A6 → A7 → A8 → A9 → A10 → A11 → A12 → A13 → A14 → A15 → Prop) (I : A1 → A2 → A3 → A4 → A5 → A6 → A7 → A8 → A9 → A10 → A11 → A12 → A13 → A14 → A15 → Prop) (μ : A1 → A2 → A3 → A4 → A5 → A6 → A7 → A8 → A9 → A10 → A11 → A12 → A13 → A14 → A15 → Nat) (hs : ∀ (n : Nat) (a1 : A1) (a2 : A2) (a3 : A3) (a4 : A4) (a5 : A5) (a6 : A6) (a7 : A7) (a8 : A8) (a9 : A9) (a10 : A10) (a11 : A11) (a12 : A12) (a13 : A13) (a14 : A14) (a15 : A15), I a1 a2 a3 a4 a5 a6 a7 a8 a9 a10 a11 a12 a13 a14 a15 → (∀ (b1 : A1) (b2 : A2) (b3 : A3) (b4 : A4) (b5 : A5) (b6 : A6) (b7 : A7) (b8 : A8) (b9 : A9) (b10 : A10) (b11 : A11) (b12 : A12) (b13 : A13) (b14 : A14) (b15 : A15), I b1 b2 b3 b4 b5 b6 b7 b8 b9 b10 b11 b12 b13 b14 b15 → μ b1 b2 b3 b4 b5 b6 b7 b8 b9 b10 b11 b12 b13 b14 b15 < μ a1 a2 a3 a4 a5 a6 a7 a8 a9 a10 a11 a12 a13 a14 a15 → W n b1 b2 b3 b4 b5 b6 b7 b8 b9 b10 b11 b12 b13 b14 b15) → W (n + 1) a1 a2 a3 a4 a5 a6 a7 a8 a9 a10 a11 a12 a13 a14 a15) (a1 : A1) (a2 : A2) (a3 : A3) (a4 : A4) (a5 : A5) (a6 : A6) (a7 : A7) (a8 : A8) (a9 : A9) (a10 : A10) (a11 : A11) (a12 : A12) (a13 : A13) (a14 : A14) (a15 : A15) (h : I a1 a2 a3 a4 a5 a6 a7 a8 a9 a10 a11 a12 a13 a14 a15) : ∃ n, W n a1 a2 a3 a4 a5 a6 a7 a8 a9 a10 a11 a12 a13 a14 a15 :=
  loop_m (σ := A1 × A2 × A3 × A4 × A5 × A6 × A7 × A8 × A9 × A10 × A11 × A12 × A13 × A14 × A15) (fun n s => W n s.1 s.2.1 s.2.2.1 s.2.2.2.1 s.2.2.2.2.1 s.2.2.2.2.2.1 s.2.2.2.2.2.2.1 s.2.2.2.2.2.2.2.1 s.2.2.2.2.2.2.2.2.1 s.2.2.2.2.2.2.2.2.2.1 s.2.2.2.2.2.2.2.2.2.2.1 s.2.2.2.2.2.2.2.2.2.2.2.1 s.2.2.2.2.2.2.2.2.2.2.2.2.1 s.2.2.2.2.2.2.2.2.2.2.2.2.2.1 s.2.2.2.2.2.2.2.2.2.2.2.2.2.2) (fun s => I s.1 s.2.1 s.2.2.1 s.2.2.2.1 s.2.2.2.2.1 s.2.2.2.2.2.1 s.2.2.2.2.2.2.1 s.2.2.2.2.2.2.2.1 s.2.2.2.2.2.2.2.2.1 s.2.2.2.2.2.2.2.2.2.1 s.2.2.2.2.2.2.2.2.2.2.1 s.2.2.2.2.2.2.2.2.2.2.2.1 s.2.2.2.2.2.2.2.2.2.2.2.2.1 s.2.2.2.2.2.2.2.2.2.2.2.2.2.1 s.2.2.2.2.2.2.2.2.2.2.2.2.2.2) (fun s => μ s.1 s.2.1 s.2.2.1 s.2.2.2.1 s.2.2.2.2.1 s.2.2.2.2.2.1 s.2.2.2.2.2.2.1 s.2.2.2.2.2.2.2.1 s.2.2.2.2.2.2.2.2.1 s.2.2.2.2.2.2.2.2.2.1 s.2.2.2.2.2.2.2.2.2.2.1 s.2.2.2.2.2.2.2.2.2.2.2.1 s.2.2.2.2.2.2.2.2.2.2.2.2.1 s.2.2.2.2.2.2.2.2.2.2.2.2.2.1 s.2.2.2.2.2.2.2.2.2.2.2.2.2.2) (fun n s hI hk => hs n s.1 s.2.1 s.2.2.1 s.2.2.2.1 s.2.2.2.2.1 s.2.2.2.2.2.1 s.2.2.2.2.2.2.1 s.2.2.2.2.2.2.2.1 s.2.2.2.2.2.2.2.2.1 s.2.2.2.2.2.2.2.2.2.1 s.2.2.2.2.2.2.2.2.2.2.1 s.2.2.2.2.2.2.2.2.2.2.2.1 s.2.2.2.2.2.2.2.2.2.2.2.2.1 s.2.2.2.2.2.2.2.2.2.2.2.2.2.1 s.2.2.2.2.2.2.2.2.2.2.2.2.2.2 hI (fun b1 b2 b3 b4 b5 b6 b7 b8 b9 b10 b11 b12 b13 b14 b15 h9 hm => hk (b1, b2, b3, b4, b5, b6, b7, b8, b9, b10, b11, b12, b13, b14, b15) h9 hm)) (a1, a2, a3, a4, a5, a6, a7, a8, a9, a10, a11, a12, a13, a14, a15) h
theorem lp16 {A1 A2 A3 A4 A5 A6 A7 A8 A9 A10 A11 A12 A13 A14 A15 A16 : Type} (W : Nat → A1 → A2 → A3 → A4 → A5 → A6 → A7 → A8 → A9 → A10 → A11 → A12 → A13 → A14 → A15 → A16 → Prop) (I : A1 → A2 → A3 → A4 → A5 → A6 → A7 → A8 → A9 → A10 → A11 → A12 → A13 → A14 → A15 → A16 → Prop) (μ : A1 → A2 → A3 → A4 → A5 → A6 → A7 → A8 → A9 → A10 → A11 → A12 → A13 → A14 → A15 → A16 → Nat) (hs : ∀ (n : Nat) (a1 : A1) (a2 : A2) (a3 : A3) (a4 : A4) (a5 : A5) (a6 : A6) (a7 : A7) (a8 : A8) (a9 : A9) (a10 : A10) (a11 : A11) (a12 : A12) (a13 : A13) (a14 : A14) (a15 : A15) (a16 : A16), I a1 a2 a3 a4 a5 a6 a7 a8 a9 a10 a11 a12 a13 a14 a15 a16 → (∀ (b1 : A1) (b2 : A2) (b3 : A3) (b4 : A4) (b5 : A5) (b6 : A6) (b7 : A7) (b8 : A8) (b9 : A9) (b10 : A10) (b11 : A11) (b12 : A12) (b13 : A13) (b14 : A14) (b15 : A15) (b16 : A16), I b1 b2 b3 b4 b5 b6 b7 b8 b9 b10 b11 b12 b13 b14 b15 b16 → μ b1 b2 b3 b4 b5 b6 b7 b8 b9 b10 b11 b12 b13 b14 b15 b16 < μ a1 a2 a3 a4 a5 a6 a7 a8 a9 a10 a11 a12 a13 a14 a15 a16 → W n b1 b2 b3 b4 b5 b6 b7 b8 b9 b10 b11 b12 b13 b14 b15 b16) → W (n + 1) a1 a2 a3 a4 a5 a6 a7 a8 a9 a10 a11 a12 a13 a14 a15 a16) (a1 : A1) (a2 : A2) (a3 : A3) (a4 : A4) (a5 : A5) (a6 : A6) (a7 : A7) (a8 : A8) (a9 : A9) (a10 : A10) (a11 : A11) (a12 : A12) (a13 : A13) (a14 : A14) (a15 : A15) (a16 : A16) (h : I a1 a2 a3 a4 a5 a6 a7 a8 a9 a10 a11 a12 a13 a14 a15 a16) : ∃ n, W n a1 a2 a3 a4 a5 a6 a7 a8 a9 a10 a11 a12 a13 a14 a15 a16 :=
  loop_m (σ := A1 × A2 × A3 × A4 × A5 × A6 × A7 × A8 × A9 × A10 × A11 × A12 × A13 × A14 × A15 × A16) (fun n s => W n s.1 s.2.1 s.2.2.1 s.2.2.2.1 s.2.2.2.2.1 s.2.2.2.2.2.1 s.2.2.2.2.2.2.1 s.2.2.2.2.2.2.2.1 s.2.2.2.2.2.2.2.2.1 s.2.2.2.2.2.2.2.2.2.1 s.2.2.2.2.2.2.2.2.2.2.1 s.2.2.2.2.2.2.2.2.2.2.2.1 s.2.2.2.2.2.2.2.2.2.2.2.2.1 s.2.2.2.2.2.2.2.2.2.2.2.2.2.1 s.2.2.2.2.2.2.2.2.2.2.2.2.2.2.1 s.2.2.2.2.2.2.2.2.2.2.2.2.2.2.2) (fun s => I s.1 s.2.1 s.2.2.1 s.2.2.2.1 s.2.2.2.2.1 s.2.2.2.2.2.1 s.2.2.2.2.2.2.1 s.2.2.2.2.2.2.2.1 s.2.2.2.2.2.2.2.2.1 s.2.2.2.2.2.2.2.2.2.1 s.2.2.2.2.2.2.2.2.2.2.1 s.2.2.2.2.2.2.2.2.2.2.2.1 s.2.2.2.2.2.2.2.2.2.2.2.2.1 s.2.2.2.2.2.2.2.2.2.2.2.2.2.1 s.2.2.2.2.2.2.2.2.2.2.2.2.2.2.1 s.2.2.2.2.2.2.2.2.2.2.2.2.2.2.2) (fun s => μ s.1 s.2.1 s.2.2.1 s.2.2.2.1 s.2.2.2.2.1 s.2.2.2.2.2.1 s.2.2.2.2.2.2.1 s.2.2.2.2.2.2.2.1 s.2.2.2.2.2.2.2.2.1 s.2.2.2.2.2.2.2.2.2.1 s.2.2.2.2.2.2.2.2.2.2.1 s.2.2.2.2.2.2.2.2.2.2.2.1 s.2.2.2.2.2.2.2.2.2.2.2.2.1 s.2.2.2.2.2.2.2.2.2.2.2.2.2.1 s.2.2.2.2.2.2.2.2.2.2.2.2.2.2.1 s.2.2.2.2.2.2.2.2.2.2.2.2.2.2.2) (fun n s hI hk => hs n s.1 s.2.1 s.2.2.1 s.2.2.2.1 s.2.2.2.2.1 s.2.2.2.2.2.1 s.2.2.2.2.2.2.1 s.2.2.2.2.2.2.2.1 s.2.2.2.2.2.2.2.2.1 s.2.2.2.2.2.2.2.2.2.1 s.2.2.2.2.2.2.2.2.2.2.1 s.2.2.2.2.2.2.2.2.2.2.2.1 s.2.2.2.2.2.2.2.2.2.2.2.2.1 s.2.2.2.2.2.2.2.2.2.2.2.2.2.1 s.2.2.2.2.2.2.2.2.2.2.2.2.2.2.1 s.2.2.2.2.2.2.2.2.2.2.2.2.2.2.2 hI (fun b1 b2 b3 b4 b5 b6 b7 b8 b9 b10 b11 b12 b13 b14 b15 b16 h9 hm => hk (b1, b2, b3, b4, b5, b6, b7, b8, b9, b10, b11, b12, b13, b14, b15, b16) h9 hm)) (a1, a2, a3, a4, a5, a6, a7, a8, a9, a10, a11, a12, a13, a14, a15, a16) h
theorem pk_least (P : Nat → Prop) (h : ∃ k, P k) : ∃ k, P k ∧ ∀ j, j < k → ¬ P j := by
  obtain ⟨k, hk⟩ := h
  induction k using Nat.strongRecOn with
  | ind k ih =>
    by_cases e : ∃ j, j < k ∧ P j
    · obtain ⟨j, hj, pj⟩ := e
      exact ih j hj pj
    · exact ⟨k, hk, fun j hj pj => e ⟨j, hj, pj⟩⟩
theorem rp1 {ρ A1 : Type} (W : Nat → (ρ → Prop) → A1 → Prop) (ok : A1 → Prop) (μ : A1 → Nat) (val : A1 → ρ)
    (hs : ∀ (d : Nat) (post : ρ → Prop) (a1 : A1), ok a1 → post (val a1) → (∀ (post' : ρ → Prop) (b1 : A1), ok b1 → μ b1 < μ a1 → post' (val b1) → W d post' b1) → W (d + 1) post a1) :
    ∀ (d : Nat) (post : ρ → Prop) (a1 : A1), ok a1 → μ a1 < d → post (val a1) → W d post a1 := by
  intro d
  induction d with
  | zero => intro post a1 _ h; omega
  | succ d ih =>
    intro post a1 ho hm hp
    exact hs d post a1 ho hp (fun post' b1 ho' hm' hp' => ih post' b1 ho' (by omega) hp')
theorem rp2 {ρ A1 A2 : Type} (W : Nat → (ρ → Prop) → A1 → A2 → Prop) (ok : A1 → A2 → Prop) (μ : A1 → A2 → Nat) (val : A1 → A2 → ρ)
    (hs : ∀ (d : Nat) (post : ρ → Prop) (a1 : A1) (a2 : A2), ok a1 a2 → post (val a1 a2) → (∀ (post' : ρ → Prop) (b1 : A1) (b2 : A2), ok b1 b2 → μ b1 b2 < μ a1 a2 → post' (val b1 b2) → W d post' b1 b2) → W (d + 1) post a1 a2) :
    ∀ (d : Nat) (post : ρ → Prop) (a1 : A1) (a2 : A2), ok a1 a2 → μ a1 a2 < d → post (val a1 a2) → W d post a1 a2 := by
  intro d
  induction d with
  | zero => intro post a1 a2 _ h; omega
  | succ d ih =>
    intro post a1 a2 ho hm hp
    exact hs d post a1 a2 ho hp (fun post' b1 b2 ho' hm' hp' => ih post' b1 b2 ho' (by omega) hp')
theorem rp3 {ρ A1 A2 A3 : Type} (W : Nat → (ρ → Prop) → A1 → A2 → A3 → Prop) (ok : A1 → A2 → A3 → Prop) (μ : A1 → A2 → A3 → Nat) (val : A1 → A2 → A3 → ρ)
    (hs : ∀ (d : Nat) (post : ρ → Prop) (a1 : A1) (a2 : A2) (a3 : A3), ok a1 a2 a3 → post (val a1 a2 a3) → (∀ (post' : ρ → Prop) (b1 : A1) (b2 : A2) (b3 : A3), ok b1 b2 b3 → μ b1 b2 b3 < μ a1 a2 a3 → post' (val b1 b2 b3) → W d post' b1 b2 b3) → W (d + 1) post a1 a2 a3) :
    ∀ (d : Nat) (post : ρ → Prop) (a1 : A1) (a2 : A2) (a3 : A3), ok a1 a2 a3 → μ a1 a2 a3 < d → post (val a1 a2 a3) → W d post a1 a2 a3 := by
  intro d
  induction d with
  | zero => intro post a1 a2 a3 _ h; omega
  | succ d ih =>
    intro post a1 a2 a3 ho hm hp
    exact hs d post a1 a2 a3 ho hp (fun post' b1 b2 b3 ho' hm' hp' => ih post' b1 b2 b3 ho' (by omega) hp')
theorem rp4 {ρ A1 A2 A3 A4 : Type} (W : Nat → (ρ → Prop) → A1 → A2 → A3 → A4 → Prop) (ok : A1 → A2 → A3 → A4 → Prop) (μ : A1 → A2 → A3 → A4 → Nat) (val : A1 → A2 → A3 → A4 → ρ)
    (hs : ∀ (d : Nat) (post : ρ → Prop) (a1 : A1) (a2 : A2) (a3 : A3) (a4 : A4), ok a1 a2 a3 a4 → post (val a1 a2 a3 a4) → (∀ (post' : ρ → Prop) (b1 : A1) (b2 : A2) (b3 : A3) (b4 : A4), ok b1 b2 b3 b4 → μ b1 b2 b3 b4 < μ a1 a2 a3 a4 → post' (val b1 b2 b3 b4) → W d post' b1 b2 b3 b4) → W (d + 1) post a1 a2 a3 a4) :
    ∀ (d : Nat) (post : ρ → Prop) (a1 : A1) (a2 : A2) (a3 : A3) (a4 : A4), ok a1 a2 a3 a4 → μ a1 a2 a3 a4 < d → post (val a1 a2 a3 a4) → W d post a1 a2 a3 a4 := by
  intro d
  induction d with
  | zero => intro post a1 a2 a3 a4 _ h; omega
  | succ d ih =>
    intro post a1 a2 a3 a4 ho hm hp
    exact hs d post a1 a2 a3 a4 ho hp (fun post' b1 b2 b3 b4 ho' hm' hp' => ih post' b1 b2 b3 b4 ho' (by omega) hp')
theorem rp5 {ρ A1 A2 A3 A4 A5 : Type} (W : Nat → (ρ → Prop) → A1 → A2 → A3 → A4 → A5 → Prop) (ok : A1 → A2 → A3 → A4 → A5 → Prop) (μ : A1 → A2 → A3 → A4 → A5 → Nat) (val : A1 → A2 → A3 → A4 → A5 → ρ)
    (hs : ∀ (d : Nat) (post : ρ → Prop) (a1 : A1) (a2 : A2) (a3 : A3) (a4 : A4) (a5 : A5), ok a1 a2 a3 a4 a5 → post (val a1 a2 a3 a4 a5) → (∀ (post' : ρ → Prop) (b1 : A1) (b2 : A2) (b3 : A3) (b4 : A4) (b5 : A5), ok b1 b2 b3 b4 b5 → μ b1 b2 b3 b4 b5 < μ a1 a2 a3 a4 a5 → post' (val b1 b2 b3 b4 b5) → W d post' b1 b2 b3 b4 b5) → W (d + 1) post a1 a2 a3 a4 a5) :
    ∀ (d : Nat) (post : ρ → Prop) (a1 : A1) (a2 : A2) (a3 : A3) (a4 : A4) (a5 : A5), ok a1 a2 a3 a4 a5 → μ a1 a2 a3 a4 a5 < d → post (val a1 a2 a3 a4 a5) → W d post a1 a2 a3 a4 a5 := by
  intro d
  induction d with
  | zero => intro post a1 a2 a3 a4 a5 _ h; omega
  | succ d ih =>
    intro post a1 a2 a3 a4 a5 ho hm hp
    exact hs d post a1 a2 a3 a4 a5 ho hp (fun post' b1 b2 b3 b4 b5 ho' hm' hp' => ih post' b1 b2 b3 b4 b5 ho' (by omega) hp')
theorem rp6 {ρ A1 A2 A3 A4 A5 A6 : Type} (W : Nat → (ρ → Prop) → A1 → A2 → A3 → A4 → A5 → A6 → Prop) (ok : A1 → A2 → A3 → A4 → A5 → A6 → Prop) (μ : A1 → A2 → A3 → A4 → A5 → A6 → Nat) (val : A1 → A2 → A3 → A4 → A5 → A6 → ρ)
    (hs : ∀ (d : Nat) (post : ρ → Prop) (a1 : A1) (a2 : A2) (a3 : A3) (a4 : A4) (a5 : A5) (a6 : A6), ok a1 a2 a3 a4 a5 a6 → post (val a1 a2 a3 a4 a5 a6) → (∀ (post' : ρ → Prop) (b1 : A1) (b2 : A2) (b3 : A3) (b4 : A4) (b5 : A5) (b6 : A6), ok b1 b2 b3 b4 b5 b6 → μ b1 b2 b3 b4 b5 b6 < μ a1 a2 a3 a4 a5 a6 → post' (val b1 b2 b3 b4 b5 b6) → W d post' b1 b2 b3 b4 b5 b6) → W (d + 1) post a1 a2 a3 a4 a5 a6) :
    ∀ (d : Nat) (post : ρ → Prop) (a1 : A1) (a2 : A2) (a3 : A3) (a4 : A4) (a5 : A5) (a6 : A6), ok a1 a2 a3 a4 a5 a6 → μ a1 a2 a3 a4 a5 a6 < d → post (val a1 a2 a3 a4 a5 a6) → W d post a1 a2 a3 a4 a5 a6 := by
  intro d
  induction d with
  | zero => intro post a1 a2 a3 a4 a5 a6 _ h; omega
  | succ d ih =>
    intro post a1 a2 a3 a4 a5 a6 ho hm hp
    exact hs d post a1 a2 a3 a4 a5 a6 ho hp (fun post' b1 b2 b3 b4 b5 b6 ho' hm' hp' => ih post' b1 b2 b3 b4 b5 b6 ho' (by omega) hp')
theorem rec_p {σ ρ : Type} (W : Nat → (ρ → Prop) → σ → Prop) (ok : σ → Prop) (μ : σ → Nat) (val : σ → ρ)
    (hs : ∀ d s post, ok s → post (val s) → (∀ s' post', ok s' → μ s' < μ s → post' (val s') → W d post' s') → W (d + 1) post s) :
    ∀ d s post, ok s → μ s < d → post (val s) → W d post s := by
  intro d
  induction d with
  | zero => intro s post _ h; omega
  | succ d ih =>
    intro s post ho hm hp
    exact hs d s post ho hp (fun s' post' ho' hm' hp' => ih s' post' ho' (by omega) hp')
theorem rec_q {σ ρ : Type} (W : Nat → (ρ → Prop) → σ → Prop) (ok : σ → Prop) (μ : σ → Nat) (Q : σ → ρ → Prop)
    (hs : ∀ d s post, ok s → (∀ r, Q s r → post r) → (∀ s' post', ok s' → μ s' < μ s → (∀ r, Q s' r → post' r) → W d post' s') → W (d + 1) post s) :
    ∀ d s post, ok s → μ s < d → (∀ r, Q s r → post r) → W d post s := by
  intro d
  induction d with
  | zero => intro s post _ h; omega
  | succ d ih =>
    intro s post ho hm hp
    exact hs d s post ho hp (fun s' post' ho' hm' hp' => ih s' post' ho' (by omega) hp')
def bx_sum (f : Nat → Int32) : Nat → Int32
  | 0 => 0
  | n + 1 => bx_sum f n + f n
theorem ek_u {A : Prop} {B : Nat → Prop} {k N : Nat} (hk : k < N) (h : B k) : (some k = none → A) ∧ (∀ y : Nat, some k = some y → (y < N ∧ B y)) :=
  ⟨fun z => absurd z (Option.some_ne_none k), fun _ e => (by cases e; exact ⟨hk, h⟩)⟩
theorem ek_nu {A : Prop} {B : Nat → Prop} (h : A) : ((none : Option Nat) = none → A) ∧ (∀ y : Nat, (none : Option Nat) = some y → B y) :=
  ⟨fun _ => h, fun _ e => (by cases e)⟩
theorem ek_if {c d A B : Prop} (e : c ↔ d) (f : d → A) (g : ¬ d → B) : (c → A) ∧ (¬ c → B) :=
  ⟨fun z => f (e.mp z), fun z => g (fun y => z (e.mpr y))⟩
theorem ek_v {α : Sort _} {P : α → Prop} {a b : α} (e : a = b) (h : P b) : P a := e ▸ h
theorem co_some {x : Option Nat} {A : Prop} {B : Nat → Prop} (i : Nat) (h : B i) (hx : x = some i := by rfl) : (x = none → A) ∧ (∀ y : Nat, x = some y → B y) := by
  subst hx
  exact ⟨fun e => (nomatch e), fun y e => Option.some.inj e ▸ h⟩
theorem co_none {x : Option Nat} {A : Prop} {B : Nat → Prop} (h : A) (hx : x = none := by rfl) : (x = none → A) ∧ (∀ y : Nat, x = some y → B y) := by
  subst hx
  exact ⟨fun _ => h, fun y e => (nomatch e)⟩
theorem co_any {x : Option Nat} {A : Prop} {B : Nat → Prop} (hn : x = none → A) (hs : ∀ i : Nat, x = some i → B i) : (x = none → A) ∧ (∀ y : Nat, x = some y → B y) := ⟨hn, hs⟩
theorem co_2 {P : Nat → Prop} (h0 : P 0) (h1 : P 1) {i : Nat} (hi : i < 2) : P i :=
  match i, hi with
  | 0, _ => h0
  | 1, _ => h1
theorem co_3 {P : Nat → Prop} (h0 : P 0) (h1 : P 1) (h2 : P 2) {i : Nat} (hi : i < 3) : P i :=
  match i, hi with
  | 0, _ => h0
  | 1, _ => h1
  | 2, _ => h2
theorem co_4 {P : Nat → Prop} (h0 : P 0) (h1 : P 1) (h2 : P 2) (h3 : P 3) {i : Nat} (hi : i < 4) : P i :=
  match i, hi with
  | 0, _ => h0
  | 1, _ => h1
  | 2, _ => h2
  | 3, _ => h3
theorem co_dec {N : Nat} {P : Nat → Prop} [DecidablePred P] (h : (List.range N).all (fun i => decide (P i)) = true) {i : Nat} (hi : i < N) : P i := by
  have := List.all_eq_true.mp h i (List.mem_range.mpr hi)
  exact of_decide_eq_true this
theorem co_tab {α : Type} {l : List α} {d : α} {P : α → Prop} (h : ∀ a, a ∈ l → P a) {i : Nat} (hi : i < l.length) : P (l.getD i d) := by
  rw [List.getD_eq_getElem?_getD, List.getElem?_eq_getElem hi]
  exact h _ (List.getElem_mem hi)
theorem pk_mu {x : Int32} {L : Nat} (h0 : ¬ x < 0) (h : ¬ nI L ≤ x) (hL : L < 2 ^ 31) : ∃ j : Nat, j < L ∧ x = nI j ∧ x + 1 = nI (j + 1) ∧ x.toNatClampNeg = j ∧ L - (x + 1).toNatClampNeg < L - x.toNatClampNeg := by
  obtain ⟨j, hj, rfl⟩ := nI_of h0
  have hl : j < L := Nat.not_le.mp fun q => h (nI_le q hj)
  refine ⟨j, hl, rfl, nI_1 j, nI_clamp hj, ?_⟩
  rw [nI_1, nI_clamp (by omega), nI_clamp hj]
  omega
theorem op_s {α : Type} {r : Option α} {A : Prop} {B : α → Prop} {y : α} (h : r = some y) (b : B y) : (r = none → A) ∧ ∀ z, r = some z → B z :=
  ⟨fun e => (by rw [h] at e; cases e), fun z e => (by rw [h] at e; cases e; exact b)⟩
def l_holds {α : Type} (a : Nat → Option Nat) (LP : List Nat) (p : Nat → α) (c : Nat) (b : Nat → α) : Prop :=
  ∀ j, j < c → ∃ y, a j = some y ∧ y ∈ LP ∧ p y = b j
theorem l_holds_0 {α : Type} {a : Nat → Option Nat} {LP : List Nat} {p b : Nat → α} : l_holds a LP p 0 b := fun j h => absurd h (Nat.not_lt_zero j)
theorem l_in_new (LP : List Nat) (q : Nat) : q ∈ LP ++ [q] := List.mem_append.mpr (Or.inr (List.mem_singleton.mpr rfl))
def l_sum (b : Nat → Int32) : Nat → Int32
  | 0 => 0
  | k + 1 => l_sum b k + b k
theorem sb_shr0 (x : Int32) : x >>> ((0 : Int32) &&& 31) = x := by
  rw [show ((0 : Int32) &&& 31) = 0 by decide]
  simp
theorem sb_shl0 (x : Int32) : x <<< ((0 : Int32) &&& 31) = x := by
  rw [show ((0 : Int32) &&& 31) = 0 by decide]
  simp
theorem sb_cl0 : (0 : Int32).toNatClampNeg = 0 := by decide
theorem sb_m1 {p : Nat} (h : 0 < p) : nI p + (-1) = nI (p - 1) := by
  obtain ⟨q, rfl⟩ : ∃ q, p = q + 1 := ⟨p - 1, by omega⟩
  exact pk_m1 q
def sb_b (c : Nat) : Int32 := (nI c).toInt8.toInt32
theorem sb_byte : ∀ c, c < 256 → sb_b c &&& 255 = nI c ∧ ((nI c).toUInt32 % 65536).toInt32 = nI c ∧ nI c ≤ 255 := by decide +kernel
def sb_Fit (a : Nat → Int32) : Prop := ∀ j, fits .byte (.int (a j)) = true
def sb_Lat (t : Nat → Nat) (n : Nat) (a : Nat → Int32) : Prop := ∀ j, j < n → t j < 256 ∧ a j = sb_b (t j)
theorem sb_fitB (c : Nat) : fits .byte (.int (sb_b c)) = true := pk_fb _
theorem sb_fit0 : sb_Fit (fun _ => 0) := fun _ => by
  show fits .byte (.int 0) = true
  decide
theorem sb_fitU {a : Nat → Int32} {k : Nat} {x : Int32} (h : sb_Fit a) (hx : fits .byte (.int x) = true) : sb_Fit (upd a k x) := by
  intro j
  by_cases e : j = k
  · subst e
    rw [pk_us]
    exact hx
  · rw [pk_un e]
    exact h j
def sb_cat (t : Nat → Nat) (n : Nat) (s : Nat → Nat) : Nat → Nat := fun j => if j < n then t j else s (j - n)
theorem sb_cat_lo {t s : Nat → Nat} {n j : Nat} (h : j < n) : sb_cat t n s j = t j := if_pos h
theorem sb_cat_hi {t s : Nat → Nat} {n j : Nat} : sb_cat t n s (n + j) = s j := by
  show (if n + j < n then t (n + j) else s (n + j - n)) = s j
  rw [if_neg (by omega), Nat.add_sub_cancel_left]
theorem sb_latPut {t s : Nat → Nat} {n w : Nat} {a a' : Nat → Int32} (h : sb_Lat t n a) (hk : ∀ j, j < n → a' j = a j) (hs : ∀ i, i < w → s i < 256 ∧ a' (n + i) = sb_b (s i)) : sb_Lat (sb_cat t n s) (n + w) a' := by
  intro j hj
  by_cases e : j < n
  · rw [sb_cat_lo e, hk j e]
    exact h j e
  · obtain ⟨i, rfl⟩ : ∃ i, j = n + i := ⟨j - n, by omega⟩
    rw [sb_cat_hi]
    exact hs i (by omega)
theorem sb_latKeep {t : Nat → Nat} {n : Nat} {a a' : Nat → Int32} (h : sb_Lat t n a) (hk : ∀ j, j < n → a' j = a j) : sb_Lat t n a' := fun j hj => by
  rw [hk j hj]
  exact h j hj
def sb_cap (q m : Nat) : Nat := if q ≤ m then m else if 2 * m + 2 < q then q else 2 * m + 2
def sb_Room (q m mc ms : Nat) : Prop := q ≤ m ∨ (1 ≤ mc ∧ sb_cap q m ≤ ms ∧ sb_cap q m ≤ 65536)
theorem sb_cap_ge (q m : Nat) : q ≤ sb_cap q m := by
  unfold sb_cap
  split
  · omega
  · split <;> omega
theorem sb_cap_gem (q m : Nat) : m ≤ sb_cap q m := by
  unfold sb_cap
  split
  · omega
  · split <;> omega
theorem sb_cap_le {q m mc ms : Nat} (hm : m ≤ 65536) (hr : sb_Room q m mc ms) : sb_cap q m ≤ 65536 := by
  rcases hr with h | h
  · rw [sb_cap, if_pos h]
    exact hm
  · exact h.2.2
theorem sb_at {P : Int32 → Prop} {x y : Int32} (e : x = y) (h : P y) : P x := e ▸ h
def sb_dg (w : Nat) : Nat := if w < 10 then 1 else if w < 100 then 2 else if w < 1000 then 3 else if w < 10000 then 4 else if w < 100000 then 5 else if w < 1000000 then 6 else if w < 10000000 then 7 else if w < 100000000 then 8 else if w < 1000000000 then 9 else 10
def sb_dec (v : Nat) : Nat → Nat := fun i => 48 + v / 10 ^ (sb_dg v - 1 - i) % 10
theorem sb_dg_in (w : Nat) : 1 ≤ sb_dg w ∧ sb_dg w ≤ 10 := by
  unfold sb_dg
  constructor <;> (repeat' split) <;> omega
theorem sb_dg100 {w : Nat} (h : 100 ≤ w) (hw : w < 2 ^ 31) : sb_dg w = sb_dg (w / 100) + 2 := by
  rw [sb_dg, sb_dg, if_neg (show ¬ w < 10 by omega), if_neg (show ¬ w < 100 by omega)]
  by_cases h3 : w < 1000
  · rw [if_pos h3, if_pos (show w / 100 < 10 by omega)]
  rw [if_neg h3, if_neg (show ¬ w / 100 < 10 by omega)]
  by_cases h4 : w < 10000
  · rw [if_pos h4, if_pos (show w / 100 < 100 by omega)]
  rw [if_neg h4, if_neg (show ¬ w / 100 < 100 by omega)]
  by_cases h5 : w < 100000
  · rw [if_pos h5, if_pos (show w / 100 < 1000 by omega)]
  rw [if_neg h5, if_neg (show ¬ w / 100 < 1000 by omega)]
  by_cases h6 : w < 1000000
  · rw [if_pos h6, if_pos (show w / 100 < 10000 by omega)]
  rw [if_neg h6, if_neg (show ¬ w / 100 < 10000 by omega)]
  by_cases h7 : w < 10000000
  · rw [if_pos h7, if_pos (show w / 100 < 100000 by omega)]
  rw [if_neg h7, if_neg (show ¬ w / 100 < 100000 by omega)]
  by_cases h8 : w < 100000000
  · rw [if_pos h8, if_pos (show w / 100 < 1000000 by omega)]
  rw [if_neg h8, if_neg (show ¬ w / 100 < 1000000 by omega)]
  by_cases h9 : w < 1000000000
  · rw [if_pos h9, if_pos (show w / 100 < 10000000 by omega)]
  rw [if_neg h9, if_neg (show ¬ w / 100 < 10000000 by omega)]
  rw [if_pos (show w / 100 < 100000000 by omega)]
theorem sb_negT {w : Nat} (h : w < 2 ^ 31) : (-nI w).toInt = -(w : Int) := by
  rw [Int32.toInt_neg, nI_toInt h]
  exact Int.bmod_eq_of_le (by omega) (by omega)
theorem sb_nle {a b : Nat} (ha : a < 2 ^ 31) (hb : b < 2 ^ 31) : -nI a ≤ -nI b ↔ b ≤ a := by
  rw [Int32.le_iff_toInt_le, sb_negT ha, sb_negT hb]
  omega
theorem sb_nlt {a b : Nat} (ha : a < 2 ^ 31) (hb : b < 2 ^ 31) : -nI a < -nI b ↔ b < a := by
  rw [Int32.lt_iff_toInt_lt, sb_negT ha, sb_negT hb]
  omega
theorem sb_cmp {A B : Prop} {x : Int32} (v c : Nat) (f : c ≤ v → A) (g : v < c → B) (hv : v < 2 ^ 31) (hx : x = -nI c := by rfl) (hc : c < 2 ^ 31 := by omega) : (-nI v ≤ x → A) ∧ (¬ -nI v ≤ x → B) := by
  subst hx
  rw [sb_nle hv hc]
  exact ⟨f, fun z => g (by omega)⟩
theorem sb_ndiv {w : Nat} (hw : w < 2 ^ 31) : (-nI w) / 100 = -nI (w / 100) := by
  apply Int32.toInt_inj.mp
  have h100 : (100 : Int32).toInt = 100 := by decide
  rw [Int32.toInt_div, sb_negT hw, h100, sb_negT (by omega), Int.neg_tdiv, Int.tdiv_eq_ediv_of_nonneg (by omega), Int.bmod_eq_of_le (by omega) (by omega)]
  omega
theorem sb_nrem {w : Nat} (hw : w < 2 ^ 31) : (-nI (w / 100)) * 100 - (-nI w) = nI (w % 100) := by
  have h := pk_rem (a := w) (d := 100) hw (by decide) (by decide)
  rw [pk_div hw (by decide) (by decide)] at h
  rw [← h]
  show (-nI (w / 100)) * nI 100 - (-nI w) = nI w - nI (w / 100) * nI 100
  rw [Int32.neg_mul, Int32.sub_neg, Int32.add_comm, ← Int32.sub_eq_add_neg]
end
section
/-! rows on bits, shifts and unsigned numbers, to paste: each family out of a closed proof of our own, whole with what it rests on; each by itself clean at Lean in its own claim (generation 39, form 5). Take a family whole -/
/-! ===== Int32 by its bits: bt x i ===== -/
def bt (x : Int32) (i : Nat) : Bool := x.toBitVec.getLsbD i
theorem b_ext {x y : Int32} (h : ∀ i, i < 32 → bt x i = bt y i) : x = y := Int32.toBitVec_inj.mp (BitVec.eq_of_getLsbD_eq (fun i hi => h i hi))
theorem b_or (x y : Int32) (i : Nat) : bt (x ||| y) i = (bt x i || bt y i) := by unfold bt; rw [Int32.toBitVec_or, BitVec.getLsbD_or]
theorem b_and (x y : Int32) (i : Nat) : bt (x &&& y) i = (bt x i && bt y i) := by unfold bt; rw [Int32.toBitVec_and, BitVec.getLsbD_and]
theorem b_xor (x y : Int32) (i : Nat) : bt (x ^^^ y) i = (bt x i ^^ bt y i) := by unfold bt; rw [Int32.toBitVec_xor, BitVec.getLsbD_xor]
theorem b_big {x : Int32} {i : Nat} (h : 32 ≤ i) : bt x i = false := BitVec.getLsbD_of_ge _ _ h
theorem b_255 (i : Nat) : bt 255 i = decide (i < 8) := by
  rcases Nat.lt_or_ge i 32 with h | h
  · exact (by decide +kernel : ∀ i, i < 32 → bt 255 i = decide (i < 8)) i h
  · rw [b_big h, decide_eq_false (by omega)]
theorem b_65535 (i : Nat) : bt 65535 i = decide (i < 16) := by
  rcases Nat.lt_or_ge i 32 with h | h
  · exact (by decide +kernel : ∀ i, i < 32 → bt 65535 i = decide (i < 16)) i h
  · rw [b_big h, decide_eq_false (by omega)]
theorem b_m1 : ∀ i, i < 32 → bt (-1) i = true := by decide +kernel
theorem b_0 (i : Nat) : bt 0 i = false := BitVec.getLsbD_zero
theorem s_l : ∀ n, n < 32 → ((nI n &&& 31).toBitVec.smod 32).toNat = n := by decide +kernel
theorem s_u : ∀ n, n < 32 → (((nI n).toUInt32 &&& Int32.toUInt32 31).toBitVec % 32).toNat = n := by decide +kernel
theorem b_shl (n : Nat) (hn : n < 32) (x : Int32) {i : Nat} (hi : i < 32) : bt (x <<< (nI n &&& 31)) i = (decide (n ≤ i) && bt x (i - n)) := by
  unfold bt
  rw [Int32.toBitVec_shiftLeft]
  show (x.toBitVec <<< ((nI n &&& 31).toBitVec.smod 32).toNat).getLsbD i = _
  rw [s_l n hn, BitVec.getLsbD_shiftLeft]
  rcases Nat.lt_or_ge i n with h | h
  · simp [h, Nat.not_le.mpr h]
  · simp [hi, h, Nat.not_lt.mpr h]
theorem b_ushr (n : Nat) (hn : n < 32) (x : Int32) (i : Nat) : bt ((x.toUInt32 >>> ((nI n).toUInt32 &&& Int32.toUInt32 31)).toInt32) i = bt x (n + i) := by
  show (x.toUInt32 >>> ((nI n).toUInt32 &&& Int32.toUInt32 31)).toBitVec.getLsbD i = x.toUInt32.toBitVec.getLsbD (n + i)
  rw [UInt32.toBitVec_shiftRight]
  show (x.toUInt32.toBitVec >>> (((nI n).toUInt32 &&& Int32.toUInt32 31).toBitVec % 32).toNat).getLsbD i = _
  rw [s_u n hn, BitVec.getLsbD_ushiftRight]
theorem b_sshr (n : Nat) (hn : n < 32) (x : Int32) {i : Nat} (hi : i < 32) : bt (x >>> (nI n &&& 31)) i = if n + i < 32 then bt x (n + i) else bt x 31 := by
  unfold bt
  rw [Int32.toBitVec_shiftRight]
  show (x.toBitVec.sshiftRight ((nI n &&& 31).toBitVec.smod 32).toNat).getLsbD i = _
  rw [s_l n hn, BitVec.getLsbD_sshiftRight, BitVec.msb_eq_getLsbD_last]
  simp [hi]
theorem b_shl8 (x : Int32) {i : Nat} (hi : i < 32) : bt (x <<< ((8 : Int32) &&& 31)) i = (decide (8 ≤ i) && bt x (i - 8)) := b_shl 8 (by omega) x hi
theorem b_shl16 (x : Int32) {i : Nat} (hi : i < 32) : bt (x <<< ((16 : Int32) &&& 31)) i = (decide (16 ≤ i) && bt x (i - 16)) := b_shl 16 (by omega) x hi
theorem b_shl24 (x : Int32) {i : Nat} (hi : i < 32) : bt (x <<< ((24 : Int32) &&& 31)) i = (decide (24 ≤ i) && bt x (i - 24)) := b_shl 24 (by omega) x hi
theorem b_sshr8 (x : Int32) {i : Nat} (hi : i < 32) : bt (x >>> ((8 : Int32) &&& 31)) i = if 8 + i < 32 then bt x (8 + i) else bt x 31 := b_sshr 8 (by omega) x hi
/-! ===== nI under and, xor, >>>, one bit, 65535 ===== -/
theorem nx_and (a b : Nat) : nI a &&& nI b = nI (a &&& b) := by
  apply Int32.toBitVec_inj.1
  show BitVec.ofNat 32 a &&& BitVec.ofNat 32 b = BitVec.ofNat 32 (a &&& b)
  apply BitVec.eq_of_getLsbD_eq
  intro i hi
  simp [hi]
theorem nx_xor (a b : Nat) : nI a ^^^ nI b = nI (a ^^^ b) := by
  apply Int32.toBitVec_inj.1
  show BitVec.ofNat 32 a ^^^ BitVec.ofNat 32 b = BitVec.ofNat 32 (a ^^^ b)
  apply BitVec.eq_of_getLsbD_eq
  intro i hi
  simp [hi]
theorem nx_cnt : ∀ j : Fin 32, (UInt32.ofNat j.val &&& Int32.toUInt32 31).toNat % 32 = j.val := by decide +kernel
theorem nx_ush {k j : Nat} (hk : k < 65536) (hj : j < 32) : ((nI k).toUInt32 >>> ((nI j).toUInt32 &&& Int32.toUInt32 31)).toInt32 = nI (k >>> j) := by
  have hs : k >>> j ≤ k := by
    rw [Nat.shiftRight_eq_div_pow]
    exact Nat.div_le_self _ _
  have e2 : UInt32.ofNat k >>> (UInt32.ofNat j &&& Int32.toUInt32 31) = UInt32.ofNat (k >>> j) := by
    apply UInt32.toNat_inj.1
    have h1 : (UInt32.ofNat k).toNat = k := Nat.mod_eq_of_lt (by omega)
    have h2 : (UInt32.ofNat (k >>> j)).toNat = k >>> j := Nat.mod_eq_of_lt (by omega)
    rw [UInt32.toNat_shiftRight, nx_cnt ⟨j, hj⟩, h1, h2]
  show (UInt32.ofNat k >>> (UInt32.ofNat j &&& Int32.toUInt32 31)).toInt32 = _
  rw [e2]
  rfl
theorem nx_bit {k j : Nat} (hk : k < 65536) (hj : j < 16) : (((nI k).toUInt32 >>> ((nI j).toUInt32 &&& Int32.toUInt32 31)).toInt32 &&& 1) = 0 ↔ k.testBit j = false := by
  rw [nx_ush hk (by omega)]
  show nI (k >>> j) &&& nI 1 = 0 ↔ _
  rw [nx_and, Nat.and_one_is_mod, ← nI_0, nI_eq (by omega) (by omega), Nat.testBit_eq_decide_div_mod_eq, Nat.shiftRight_eq_div_pow, decide_eq_false_iff_not]
  generalize k / 2 ^ j = z
  omega
theorem nx_mod (k : Nat) : nI k &&& 65535 = nI (k % 65536) := by
  show nI k &&& nI 65535 = _
  rw [nx_and, show (65535 : Nat) = 2 ^ 16 - 1 from rfl, Nat.and_two_pow_sub_one_eq_mod]
theorem nx_m16 {k : Nat} (h : k < 65536) : nI k &&& 65535 = nI k := by rw [nx_mod, Nat.mod_eq_of_lt h]
theorem nx_mask (x : Int32) : ∃ k, k < 65536 ∧ x &&& 65535 = nI k := by
  have e : x = nI x.toBitVec.toNat := by
    apply Int32.toBitVec_inj.1
    show x.toBitVec = BitVec.ofNat 32 x.toBitVec.toNat
    simp
  refine ⟨x.toBitVec.toNat % 65536, Nat.mod_lt _ (by omega), ?_⟩
  rw [← nx_mod, ← e]
/-! ===== Int32 as a set of bits: test, set ===== -/
def nf_M (m : Int32) : Nat := 4294967296 - m.toBitVec.toNat
theorem nf_sh : ∀ l, l < 32 → ((1 : Int32) <<< (nI l &&& 31)).toBitVec = BitVec.twoPow 32 l := by decide +kernel
theorem nf_sl : ∀ l, l < 32 → (((nI l).toUInt32 &&& Int32.toUInt32 31).toBitVec % 32).toNat = l := by decide +kernel
theorem nf_tp : ∀ l, l < 32 → BitVec.twoPow 32 l ≠ 0#32 := by decide +kernel
theorem nf_bit (m : Int32) (l : Nat) (hl : l < 32) : ((m.toUInt32 >>> ((nI l).toUInt32 &&& Int32.toUInt32 31)).toInt32 &&& 1) = 0 ↔ (m &&& ((1 : Int32) <<< (nI l &&& 31))) = 0 := by
  have e : ((m.toUInt32 >>> ((nI l).toUInt32 &&& Int32.toUInt32 31)).toInt32).toBitVec = m.toBitVec >>> l := by
    show m.toBitVec >>> (((nI l).toUInt32 &&& Int32.toUInt32 31).toBitVec % 32) = m.toBitVec >>> l
    rw [BitVec.ushiftRight_eq', nf_sl l hl]
  rw [← Int32.toBitVec_inj, ← Int32.toBitVec_inj, Int32.toBitVec_and, Int32.toBitVec_and, nf_sh l hl, e, BitVec.and_twoPow]
  show (m.toBitVec >>> l &&& 1#32) = 0#32 ↔ _ = 0#32
  rw [BitVec.and_one_eq_setWidth_ofBool_getLsbD, BitVec.getLsbD_ushiftRight, Nat.add_zero]
  cases hb : m.toBitVec.getLsbD l
  · exact ⟨fun _ => by simp, fun _ => by decide⟩
  · exact ⟨fun z => absurd z (by decide), fun z => absurd ((if_pos rfl).symm.trans z) (nf_tp l hl)⟩
theorem nf_gr (m k : Int32) (h : m &&& k = 0) (hk : k ≠ 0) : nf_M (m ||| k) < nf_M m := by
  have hm := m.toBitVec.isLt
  have hm' := (m ||| k).toBitVec.isLt
  have h1 : m.toBitVec.toNat ≤ (m ||| k).toBitVec.toNat := by
    rw [Int32.toBitVec_or, BitVec.toNat_or]
    exact Nat.left_le_or
  have h2 : m.toBitVec.toNat ≠ (m ||| k).toBitVec.toNat := by
    intro e
    have e2 : m = m ||| k := Int32.toBitVec_inj.mp (BitVec.eq_of_toNat_eq e)
    apply hk
    apply Int32.toBitVec_inj.mp
    show k.toBitVec = 0#32
    apply BitVec.eq_of_getLsbD_eq
    intro i hi
    have a : m.toBitVec.getLsbD i = (m.toBitVec.getLsbD i || k.toBitVec.getLsbD i) := by rw [← BitVec.getLsbD_or, ← Int32.toBitVec_or, ← e2]
    have b : (m.toBitVec.getLsbD i && k.toBitVec.getLsbD i) = false := by
      rw [← BitVec.getLsbD_and, ← Int32.toBitVec_and, h]
      exact BitVec.getLsbD_zero
    rw [BitVec.getLsbD_zero]
    revert a b
    cases m.toBitVec.getLsbD i <;> cases k.toBitVec.getLsbD i <;> simp
  unfold nf_M
  omega
/-! ===== a byte read unsigned ===== -/
theorem bp_b (x : Int32) : x.toInt8.toInt32 &&& 255 = x &&& 255 := by
  apply Int32.toBitVec_inj.mp
  rw [Int32.toBitVec_and, Int32.toBitVec_and, Int8.toBitVec_toInt32, Int32.toBitVec_toInt8]
  apply BitVec.eq_of_getLsbD_eq
  intro i hi
  rw [BitVec.getLsbD_and, BitVec.getLsbD_and]
  have hm : ∀ i < 32, 8 ≤ i → (255 : Int32).toBitVec.getLsbD i = false := by decide
  rcases Nat.lt_or_ge i 8 with z | z
  · rw [BitVec.getLsbD_signExtend, BitVec.getLsbD_signExtend, if_pos z, if_pos hi]
    simp only [z, hi, decide_true, Bool.true_and]
  · rw [hm i hi z]; simp
/-! ===== the char cast and 65535 ===== -/
theorem em_w (v : Int32) : ∃ w : Nat, w < 65536 ∧ (v.toUInt32 % 65536).toInt32 = nI w ∧ v &&& 65535 = nI w := by
  have hr := lw_u16_r v
  have h0 : (0 : Int32).toInt = 0 := by decide
  obtain ⟨w, h1, h2⟩ := nI_of (x := lw_u16 v) (by rw [Int32.lt_iff_toInt_lt]; omega)
  have h3 : (v.toUInt32 % 65536).toInt32 = nI w := h2
  rw [h2, nI_toInt h1] at hr
  exact ⟨w, by omega, h3, by rw [← lg_i2c_mask, ← lg_i2c_nf, h3]⟩
/-! ===== Int64 as a set of bits: test, set, clear ===== -/
theorem ts_nf {x : Bool} (h : ¬ x = false) : x = true := by cases x <;> first | rfl | exact absurd rfl h
theorem ts_nt {x : Bool} (h : ¬ x = true) : x = false := by cases x <;> first | rfl | exact absurd rfl h
theorem ts_bit {w : Int64} {s : UInt64} {j : Nat} (hj : j < 64) (hs : s.toNat = j) : ((w.toUInt64 >>> s).toInt64 &&& 1) = 0 ↔ w.toBitVec.getLsbD j = false := by
  have e : (w.toUInt64 >>> s).toInt64.toBitVec = w.toBitVec >>> j := by
    apply BitVec.eq_of_toNat_eq
    show (w.toUInt64 >>> s).toNat = _
    rw [UInt64.toNat_shiftRight, hs, Nat.mod_eq_of_lt hj, BitVec.toNat_ushiftRight]
    rfl
  rw [← Int64.toBitVec_inj, Int64.toBitVec_and, e]
  show w.toBitVec >>> j &&& 1#64 = 0#64 ↔ _
  constructor
  · intro h
    have t := congrArg (fun x => x.getLsbD 0) h
    simpa using t
  · intro h
    apply BitVec.eq_of_getLsbD_eq
    intro i hi
    cases i with
    | zero => simp [h]
    | succ i => simp
theorem ts_or {w m : Int64} {j : Nat} (hj : j < 64) (hm : m.toBitVec = BitVec.twoPow 64 j) : (w ||| m) = w ↔ w.toBitVec.getLsbD j = true := by
  rw [← Int64.toBitVec_inj, Int64.toBitVec_or, hm]
  constructor
  · intro h
    have t := congrArg (fun x => x.getLsbD j) h
    simp only [BitVec.getLsbD_or, BitVec.getLsbD_twoPow] at t
    simpa [hj] using t.symm
  · intro h
    apply BitVec.eq_of_getLsbD_eq
    intro i hi
    rw [BitVec.getLsbD_or, BitVec.getLsbD_twoPow]
    by_cases e : j = i
    · subst e; rw [h, Bool.true_or]
    · simp [e]
theorem ts_and {w m : Int64} {j : Nat} (hj : j < 64) (hm : m.toBitVec = BitVec.twoPow 64 j) : (w &&& (m ^^^ (-1))) = w ↔ w.toBitVec.getLsbD j = false := by
  have ha : (-1 : Int64).toBitVec = BitVec.allOnes 64 := by decide
  rw [← Int64.toBitVec_inj, Int64.toBitVec_and, Int64.toBitVec_xor, hm, ha]
  constructor
  · intro h
    have t := congrArg (fun x => x.getLsbD j) h
    simp only [BitVec.getLsbD_and, BitVec.getLsbD_xor, BitVec.getLsbD_twoPow, BitVec.getLsbD_allOnes] at t
    simpa [hj] using t.symm
  · intro h
    apply BitVec.eq_of_getLsbD_eq
    intro i hi
    rw [BitVec.getLsbD_and, BitVec.getLsbD_xor, BitVec.getLsbD_twoPow, BitVec.getLsbD_allOnes]
    by_cases e : j = i
    · subst e; rw [h, Bool.false_and]
    · simp [e, hi]
/-! ===== lN n to 2^64: shifts, and, or, masks, one bit ===== -/
theorem wb_tb (n : Nat) : (lN n).toBitVec = BitVec.ofNat 64 n := rfl
theorem wb_inj {a b : Int64} (h : a.toBitVec = b.toBitVec) : a = b := Int64.toBitVec_inj.mp h
theorem wb_tn {n : Nat} (h : n < 2 ^ 64) : (lN n).toBitVec.toNat = n := by rw [wb_tb, BitVec.toNat_ofNat, Nat.mod_eq_of_lt h]
theorem wb_of (x : Int64) : ∃ n, n < 2 ^ 64 ∧ x = lN n := ⟨x.toBitVec.toNat, x.toBitVec.isLt, wb_inj (by rw [wb_tb]; simp)⟩
theorem wb_of32 (x : Int32) : ∃ n, n < 2 ^ 32 ∧ x = nI n := ⟨x.toBitVec.toNat, x.toBitVec.isLt, Int32.toBitVec_inj.mp (by show _ = BitVec.ofNat 32 _; simp)⟩
theorem wb_c : ∀ k, k < 64 → ((nI k).toInt64 &&& 63) = lN k := by decide +kernel
theorem wb_cu : ∀ k, k < 64 → ((nI k).toInt64.toUInt64 &&& Int64.toUInt64 63) = UInt64.ofNat k := by decide +kernel
theorem wb_sm : ∀ k, k < 64 → (BitVec.ofNat 64 k).smod 64 = BitVec.ofNat 64 k := by decide +kernel
theorem wb_pw {a b : Nat} (h : a ≤ b) : 2 ^ b = 2 ^ a * 2 ^ (b - a) := by rw [← Nat.pow_add]; congr 1; omega
theorem wb_lt2 {a b : Nat} (h : a < b) : 2 ^ a < 2 ^ b := Nat.pow_lt_pow_right (by decide) h
theorem wb_mod (n : Nat) : lN n = lN (n % 2 ^ 64) := wb_inj (by rw [wb_tb, wb_tb]; apply BitVec.eq_of_toNat_eq; rw [BitVec.toNat_ofNat, BitVec.toNat_ofNat, Nat.mod_mod])
theorem wb_shr {n k : Nat} (hn : n < 2 ^ 64) (hk : k < 64) : ((lN n).toUInt64 >>> ((nI k).toInt64.toUInt64 &&& Int64.toUInt64 63)).toInt64 = lN (n / 2 ^ k) := by
  rw [wb_cu k hk]
  apply wb_inj
  apply BitVec.eq_of_toNat_eq
  show ((lN n).toUInt64 >>> UInt64.ofNat k).toNat = (BitVec.ofNat 64 _).toNat
  have h1 : (UInt64.ofNat k).toNat = k := by
    show (BitVec.ofNat 64 k).toNat = k
    rw [BitVec.toNat_ofNat, Nat.mod_eq_of_lt (by omega)]
  have h2 : (lN n).toUInt64.toNat = n := wb_tn hn
  rw [UInt64.toNat_shiftRight, h1, h2, Nat.mod_eq_of_lt hk, Nat.shiftRight_eq_div_pow, BitVec.toNat_ofNat, Nat.mod_eq_of_lt (Nat.lt_of_le_of_lt (Nat.div_le_self _ _) hn)]
theorem wb_shl (n : Nat) {k : Nat} (hk : k < 64) : lN n <<< ((nI k).toInt64 &&& 63) = lN (n * 2 ^ k) := by
  rw [wb_c k hk]
  apply wb_inj
  rw [Int64.toBitVec_shiftLeft, wb_tb, wb_tb, wb_tb, wb_sm k hk]
  apply BitVec.eq_of_toNat_eq
  rw [BitVec.shiftLeft_eq', BitVec.toNat_shiftLeft, BitVec.toNat_ofNat, BitVec.toNat_ofNat, BitVec.toNat_ofNat, Nat.mod_eq_of_lt (show k < 2 ^ 64 by omega), Nat.shiftLeft_eq, Nat.mul_mod, Nat.mod_mod, ← Nat.mul_mod]
theorem wb_and {a b : Nat} (ha : a < 2 ^ 64) (hb : b < 2 ^ 64) : lN a &&& lN b = lN (a &&& b) := by
  apply wb_inj
  rw [Int64.toBitVec_and, wb_tb, wb_tb, wb_tb]
  apply BitVec.eq_of_toNat_eq
  rw [BitVec.toNat_and, BitVec.toNat_ofNat, BitVec.toNat_ofNat, BitVec.toNat_ofNat, Nat.mod_eq_of_lt ha, Nat.mod_eq_of_lt hb, Nat.mod_eq_of_lt (Nat.and_lt_two_pow _ hb)]
theorem wb_or {a b : Nat} (ha : a < 2 ^ 64) (hb : b < 2 ^ 64) : lN a ||| lN b = lN (a ||| b) := by
  apply wb_inj
  rw [Int64.toBitVec_or, wb_tb, wb_tb, wb_tb]
  apply BitVec.eq_of_toNat_eq
  rw [BitVec.toNat_or, BitVec.toNat_ofNat, BitVec.toNat_ofNat, BitVec.toNat_ofNat, Nat.mod_eq_of_lt ha, Nat.mod_eq_of_lt hb, Nat.mod_eq_of_lt (Nat.or_lt_two_pow ha hb)]
theorem wb_mask {n k : Nat} (hn : n < 2 ^ 64) (hk : k < 64) : lN n &&& lN (2 ^ k - 1) = lN (n % 2 ^ k) := by
  rw [wb_and hn (by have := wb_lt2 hk; omega), Nat.and_two_pow_sub_one_eq_mod]
theorem wb_a1 {n : Nat} (hn : n < 2 ^ 64) : lN n &&& 1 = lN (n % 2) := wb_mask (k := 1) hn (by decide)
theorem wb_bit {n k : Nat} (hn : n < 2 ^ 64) (hk : k < 64) : ((lN n).toUInt64 >>> ((nI k).toInt64.toUInt64 &&& Int64.toUInt64 63)).toInt64 &&& 1 = lN (n / 2 ^ k % 2) := by
  rw [wb_shr hn hk, wb_a1 (Nat.lt_of_le_of_lt (Nat.div_le_self _ _) hn)]
theorem wb_xor {q k : Nat} (hk : k < 63) (h : 2 ^ k ≤ q) (h2 : q < 2 ^ (k + 1)) : lN q ^^^ lN (2 ^ k) = lN (q - 2 ^ k) := by
  obtain ⟨r, rfl⟩ : ∃ r, q = 2 ^ k + r := ⟨q - 2 ^ k, by omega⟩
  have hr : r < 2 ^ k := by rw [Nat.pow_succ] at h2; omega
  have hx : (2 ^ k + r) ^^^ 2 ^ k = r := by
    apply Nat.eq_of_testBit_eq
    intro i
    rw [Nat.testBit_xor, Nat.testBit_two_pow]
    rcases Nat.lt_trichotomy i k with h | h | h
    · rw [Nat.testBit_two_pow_add_gt h]
      simp [show ¬ k = i by omega]
    · subst h
      rw [Nat.testBit_two_pow_add_eq]
      simp
    · have a1 : 2 ^ (k + 1) ≤ 2 ^ i := Nat.pow_le_pow_right (by decide) h
      rw [Nat.testBit_lt_two_pow (show 2 ^ k + r < 2 ^ i by omega), Nat.testBit_lt_two_pow (show r < 2 ^ i by omega)]
      simp [show ¬ k = i by omega]
  have b1 := wb_lt2 (show k + 1 < 64 by omega)
  have b2 := wb_lt2 (show k < 64 by omega)
  apply wb_inj
  rw [Int64.toBitVec_xor, wb_tb, wb_tb, wb_tb]
  apply BitVec.eq_of_toNat_eq
  rw [BitVec.toNat_xor, BitVec.toNat_ofNat, BitVec.toNat_ofNat, BitVec.toNat_ofNat, Nat.mod_eq_of_lt (by omega : 2 ^ k + r < 2 ^ 64), Nat.mod_eq_of_lt b2, hx, Nat.add_sub_cancel_left, Nat.mod_eq_of_lt (by omega)]
/-! ===== lN: masks, 'or' of parts that don't overlap is a sum ===== -/
theorem u_tn {n : Nat} (h : n < 2 ^ 64) : (UInt64.ofNat n).toNat = n := Nat.mod_eq_of_lt h
theorem g_and {a b c : Nat} (ha : a < 2 ^ 64) (hb : b < 2 ^ 64) (hc : a &&& b = c) : lN a &&& lN b = lN c := by
  subst hc
  have h : UInt64.ofNat a &&& UInt64.ofNat b = UInt64.ofNat (a &&& b) := UInt64.toNat_inj.mp (by rw [UInt64.toNat_and, u_tn ha, u_tn hb, u_tn (Nat.and_lt_two_pow a hb)])
  have h2 := congrArg UInt64.toInt64 h
  exact h2
theorem g_and1 {a : Nat} (ha : a < 2 ^ 64) : lN a &&& 1 = lN (a % 2) := g_and (b := 1) ha (by decide) (Nat.and_two_pow_sub_one_eq_mod a 1)
theorem g_mask {a s p : Nat} (hp : 2 ^ s = p) (hs : s < 64) (ha : a < 2 ^ 64) : lN a &&& lN (p - 1) = lN (a % p) := by
  subst hp
  have := Nat.pow_lt_pow_right (show 1 < 2 by decide) hs
  exact g_and ha (by omega) (Nat.and_two_pow_sub_one_eq_mod a s)
theorem g_or {k p a b : Nat} (hp : 2 ^ k = p) (ha : a < p) (h : b * p + a < 2 ^ 64) : lN (b * p) ||| lN a = lN (b * p + a) := by
  subst hp
  have h1 : b * 2 ^ k ||| a = b * 2 ^ k + a := by rw [← Nat.shiftLeft_eq, Nat.shiftLeft_add_eq_or_of_lt ha]
  have h3 : UInt64.ofNat (b * 2 ^ k) ||| UInt64.ofNat a = UInt64.ofNat (b * 2 ^ k + a) := UInt64.toNat_inj.mp (by rw [UInt64.toNat_or, u_tn (by omega), u_tn (by omega), u_tn h, h1])
  have h2 := congrArg UInt64.toInt64 h3
  exact h2
theorem g_or' {k p a b : Nat} (hp : 2 ^ k = p) (ha : a < p) (h : a + b * p < 2 ^ 64) : lN a ||| lN (b * p) = lN (a + b * p) := by
  rw [Int64.or_comm, g_or hp ha (by omega), Nat.add_comm]
theorem g_ushr {a k p : Nat} {y : UInt64} (hy : y = UInt64.ofNat k) (hk : k < 64) (hp : 2 ^ k = p) (ha : a < 2 ^ 64) : ((lN a).toUInt64 >>> y).toInt64 = lN (a / p) := by
  subst hy hp
  have h : UInt64.ofNat a >>> UInt64.ofNat k = UInt64.ofNat (a / 2 ^ k) := UInt64.toNat_inj.mp (by rw [UInt64.toNat_shiftRight, u_tn ha, u_tn (by omega), u_tn (Nat.lt_of_le_of_lt (Nat.div_le_self _ _) ha), Nat.mod_eq_of_lt hk, Nat.shiftRight_eq_div_pow])
  have h2 := congrArg UInt64.toInt64 h
  exact h2
theorem g_shl {a k p : Nat} {y : Int64} (hy : y.toBitVec.smod 64 = BitVec.ofNat 64 k) (hk : k < 64) (hp : 2 ^ k = p) (ha : a < 2 ^ 64) : lN a <<< y = lN (a * p) := by
  subst hp
  apply Int64.toBitVec_inj.mp
  rw [Int64.toBitVec_shiftLeft, hy]
  apply BitVec.eq_of_toNat_eq
  have hb : (lN a).toBitVec.toNat = a := Nat.mod_eq_of_lt ha
  have hk' : (BitVec.ofNat 64 k).toNat = k := Nat.mod_eq_of_lt (by omega)
  have h : ((lN a).toBitVec <<< BitVec.ofNat 64 k).toNat = (a * 2 ^ k) % 2 ^ 64 := by simp only [BitVec.shiftLeft_eq', BitVec.toNat_shiftLeft, hb, hk', Nat.shiftLeft_eq]
  exact h
/-! ===== lN to 2^62 under >> and >>> ===== -/
theorem pf_lI {a : Nat} (h : a < 2 ^ 63) : (lN a).toInt = (a : Int) := lg_ofNat_toInt h
theorem pf_shr {a d : Nat} {D : Int64} (hD : (D.toBitVec.smod 64).toNat = d) (h : a < 2 ^ 62) : lN a >>> D = lN (a / 2 ^ d) := by
  have hd : a / 2 ^ d ≤ a := Nat.div_le_self _ _
  apply Int64.toInt_inj.mp
  have e : (lN a >>> D).toInt = (lN a).toInt >>> d := by
    rw [← hD]
    exact BitVec.toInt_sshiftRight ..
  rw [e, Int.shiftRight_eq_div_pow, pf_lI (by omega), pf_lI (by omega)]
  rfl
theorem pf_ushr {a d : Nat} {D : UInt64} (hD : D.toNat % 64 = d) (h : a < 2 ^ 62) : ((lN a).toUInt64 >>> D).toInt64 = lN (a / 2 ^ d) := by
  have hd : a / 2 ^ d ≤ a := Nat.div_le_self _ _
  have e : (lN a).toUInt64 >>> D = UInt64.ofNat (a / 2 ^ d) := UInt64.toNat_inj.mp (by
    rw [UInt64.toNat_shiftRight, hD, Nat.shiftRight_eq_div_pow, UInt64.toNat_ofNat']
    show (UInt64.ofNat a).toNat / 2 ^ d = _
    rw [UInt64.toNat_ofNat', Nat.mod_eq_of_lt (by omega), Nat.mod_eq_of_lt (by omega)])
  rw [e]
  rfl
theorem pf_andw (x : Int64) : ∃ m, m < 2 ^ 32 ∧ x &&& 4294967295 = lN m := ⟨x.toBitVec.toNat % 2 ^ 32, Nat.mod_lt _ (by decide), Int64.toBitVec_inj.mp (BitVec.eq_of_toNat_eq (by
  show (x.toBitVec &&& 4294967295#64).toNat = (BitVec.ofNat 64 (x.toBitVec.toNat % 2 ^ 32)).toNat
  rw [BitVec.toNat_and, show (4294967295#64).toNat = 2 ^ 32 - 1 from by decide, Nat.and_two_pow_sub_one_eq_mod, BitVec.toNat_ofNat]
  omega))⟩
/-! ===== Int64 as an unsigned number: uN x ===== -/
def uN (x : Int64) : Nat := x.toUInt64.toNat
theorem uN_lt (x : Int64) : uN x < 18446744073709551616 := x.toUInt64.toNat_lt
theorem uN_inj {x y : Int64} (h : uN x = uN y) : x = y := congrArg UInt64.toInt64 (UInt64.toNat_inj.mp h)
theorem uN_add (x y : Int64) : uN (x + y) = (uN x + uN y) % 18446744073709551616 := by
  show (x.toUInt64 + y.toUInt64).toNat = _
  exact UInt64.toNat_add _ _
theorem uN_mul (x y : Int64) : uN (x * y) = (uN x * uN y) % 18446744073709551616 := by
  show (x.toUInt64 * y.toUInt64).toNat = _
  exact UInt64.toNat_mul _ _
theorem uN_shl (x : Int64) : uN (x <<< ((1 : Int32).toInt64 &&& 63)) = (2 * uN x) % 18446744073709551616 := by
  have h : (((1 : Int32).toInt64 &&& 63).toBitVec.smod 64).toNat = 1 := by decide
  show (x.toBitVec <<< (((1 : Int32).toInt64 &&& 63).toBitVec.smod 64).toNat).toNat = _
  rw [h, BitVec.toNat_shiftLeft, Nat.shiftLeft_eq, Nat.mul_comm]
  rfl
theorem uN_shr (x : Int64) (s : UInt64) : uN (x.toUInt64 >>> s).toInt64 = uN x / 2 ^ (s.toNat % 64) := by
  show (x.toUInt64 >>> s).toNat = _
  rw [UInt64.toNat_shiftRight, Nat.shiftRight_eq_div_pow]
  rfl
theorem uN_s32 (x : Int64) : uN (x.toUInt64 >>> ((32 : Int32).toInt64.toUInt64 &&& Int64.toUInt64 63)).toInt64 = uN x / 4294967296 := by
  have h : ((32 : Int32).toInt64.toUInt64 &&& Int64.toUInt64 63).toNat % 64 = 32 := by decide
  rw [uN_shr, h]
theorem uN_s63 (x : Int64) : uN (x.toUInt64 >>> ((63 : Int32).toInt64.toUInt64 &&& Int64.toUInt64 63)).toInt64 = uN x / 9223372036854775808 := by
  have h : ((63 : Int32).toInt64.toUInt64 &&& Int64.toUInt64 63).toNat % 64 = 63 := by decide
  rw [uN_shr, h]
theorem uN_lo (x : Int64) : uN (x &&& 4294967295) = uN x % 4294967296 := by
  show (x.toUInt64 &&& Int64.toUInt64 4294967295).toNat = _
  rw [UInt64.toNat_and]
  exact Nat.and_two_pow_sub_one_eq_mod _ 32
theorem uN_bit (x : Int64) : (x &&& 1) = 0 ↔ uN x % 2 = 0 := by
  have h : uN (x &&& 1) = uN x % 2 := by
    show (x.toUInt64 &&& Int64.toUInt64 1).toNat = _
    rw [UInt64.toNat_and]
    exact Nat.and_two_pow_sub_one_eq_mod _ 1
  rw [← h]
  exact ⟨fun z => by rw [z]; rfl, fun z => uN_inj (z.trans rfl)⟩
theorem uN_or {x y : Int64} (hy : uN y < 2) : uN ((x <<< ((1 : Int32).toInt64 &&& 63)) ||| y) = (2 * uN x) % 18446744073709551616 + uN y := by
  have h1 : uN ((x <<< ((1 : Int32).toInt64 &&& 63)) ||| y) = uN (x <<< ((1 : Int32).toInt64 &&& 63)) ||| uN y := UInt64.toNat_or _ _
  have h2 : (2 * uN x) % 18446744073709551616 = 2 ^ 1 * (uN x % 9223372036854775808) := by omega
  rw [h1, uN_shl, h2]
  exact (Nat.two_pow_add_eq_or_of_lt (i := 1) hy _).symm
theorem nat_xor {a : Nat} (h : a < 18446744073709551616) : a ^^^ 2 ^ 63 = (a + 9223372036854775808) % 18446744073709551616 := by
  have h1 : (a ^^^ 2 ^ 63) % 2 ^ 63 = a % 2 ^ 63 := by rw [Nat.xor_mod_two_pow, Nat.mod_self, Nat.xor_zero]
  have h2 : (a ^^^ 2 ^ 63) / 2 ^ 63 = (a / 2 ^ 63) ^^^ 1 := by rw [Nat.xor_div_two_pow, Nat.div_self (Nat.two_pow_pos 63)]
  have h3 : a / 2 ^ 63 = 0 ∨ a / 2 ^ 63 = 1 := by omega
  generalize a ^^^ 2 ^ 63 = t at h1 h2
  rcases h3 with h3 | h3
  · rw [h3] at h2
    have h2 : t / 2 ^ 63 = 1 := h2
    omega
  · rw [h3] at h2
    have h2 : t / 2 ^ 63 = 0 := h2
    omega
theorem uN_xor (x : Int64) : uN (x ^^^ (-9223372036854775808)) = (uN x + 9223372036854775808) % 18446744073709551616 := by
  rw [← nat_xor (uN_lt x)]
  exact UInt64.toNat_xor _ _
theorem uN_int (x : Int64) : x.toInt = if 2 * uN x < 18446744073709551616 then (uN x : Int) else (uN x : Int) - 18446744073709551616 := BitVec.toInt_eq_toNat_cond _
theorem uN_le (x y : Int64) : (x ^^^ (-9223372036854775808)) ≤ (y ^^^ (-9223372036854775808)) ↔ uN x ≤ uN y := by
  have hx := uN_lt x
  have hy := uN_lt y
  rw [Int64.le_iff_toInt_le, uN_int, uN_int, uN_xor, uN_xor]
  omega
theorem uN_sk (x : Int64) {k : Nat} (hk : k < 64) : uN (x.toUInt64 >>> ((nI k).toInt64.toUInt64 &&& Int64.toUInt64 63)).toInt64 = uN x / 2 ^ k := by
  have h : ((nI k).toInt64.toUInt64 &&& Int64.toUInt64 63).toNat % 64 = k := by
    rw [nI_l (by omega), UInt64.toNat_and]
    have e : (lN k).toUInt64.toNat = k % 2 ^ 64 := rfl
    have e2 : (Int64.toUInt64 63).toNat = 2 ^ 6 - 1 := by decide
    rw [e, e2, Nat.and_two_pow_sub_one_eq_mod]
    omega
  rw [uN_shr, h]
/-! ===== unsigned comparison by xor with the least ===== -/
theorem lN_bv (n : Nat) : (lN n).toBitVec = BitVec.ofNat 64 n := rfl
theorem lN_nat {n : Nat} (h : n < 2 ^ 64) : (lN n).toBitVec.toNat = n := by rw [lN_bv, BitVec.toNat_ofNat]; exact Nat.mod_eq_of_lt h
theorem lN_xor (a b : Nat) : lN a ^^^ lN b = lN (a ^^^ b) := by
  apply Int64.toBitVec_inj.mp; rw [Int64.toBitVec_xor, lN_bv, lN_bv, lN_bv]; apply BitVec.eq_of_getLsbD_eq; intro i hi; simp [BitVec.getLsbD_ofNat, Nat.testBit_xor, hi]
theorem lN_ti {m : Nat} (h : m < 2 ^ 64) : (lN m).toInt = if m < 2 ^ 63 then (m : Int) else (m : Int) - 2 ^ 64 := by
  have c := BitVec.toInt_eq_toNat_cond (lN m).toBitVec
  rw [lN_nat h] at c
  show (lN m).toBitVec.toInt = _
  rw [c]
  split <;> split <;> omega
theorem xor63 {x : Nat} (h : x < 2 ^ 63) : x ^^^ 2 ^ 63 = 2 ^ 63 + x := by
  apply Nat.eq_of_testBit_eq
  intro i
  rw [Nat.testBit_xor, Nat.testBit_two_pow]
  rcases Nat.lt_trichotomy i 63 with z | z | z
  · rw [Nat.testBit_two_pow_add_gt z, decide_eq_false (by omega)]; simp
  · subst z; rw [Nat.testBit_two_pow_add_eq]; simp
  · have hp : 2 ^ 64 ≤ 2 ^ i := Nat.pow_le_pow_right (by decide) z
    rw [Nat.testBit_lt_two_pow (show x < 2 ^ i by omega), Nat.testBit_lt_two_pow (show 2 ^ 63 + x < 2 ^ i by omega), decide_eq_false (by omega)]; rfl
theorem xorS {a : Nat} (h : a < 2 ^ 64) : (lN a ^^^ (-9223372036854775808)).toInt = (a : Int) - 2 ^ 63 := by
  rw [show (-9223372036854775808 : Int64) = lN (2 ^ 63) from by decide +kernel, lN_xor]
  rcases Nat.lt_or_ge a (2 ^ 63) with z | z
  · rw [xor63 z, lN_ti (by omega), if_neg (by omega)]; omega
  · obtain ⟨x, rfl⟩ : ∃ x, a = 2 ^ 63 + x := ⟨a - 2 ^ 63, by omega⟩
    rw [← xor63 (by omega), Nat.xor_assoc, Nat.xor_self, Nat.xor_zero, lN_ti (by omega), if_pos (by omega), xor63 (by omega)]; omega
theorem ultL {a b : Nat} (ha : a < 2 ^ 64) (hb : b < 2 ^ 64) : ((lN b ^^^ (-9223372036854775808)) ≤ (lN a ^^^ (-9223372036854775808))) ↔ b ≤ a := by
  rw [Int64.le_iff_toInt_le, xorS ha, xorS hb]; omega
/-! ===== Int64 masks of n low bits ===== -/
theorem cr_bits (W U M : BitVec 64) : ((W &&& U) &&& (U &&& (M ^^^ BitVec.allOnes 64))) = 0#64 ↔ (W &&& U) &&& M = W &&& U := by
  constructor
  · intro h
    apply BitVec.eq_of_getLsbD_eq
    intro i hi
    have e := congrArg (fun x => BitVec.getLsbD x i) h
    simp only [BitVec.getLsbD_and, BitVec.getLsbD_xor, BitVec.getLsbD_allOnes, BitVec.getLsbD_zero, hi, decide_true] at e ⊢
    revert e
    cases W.getLsbD i <;> cases U.getLsbD i <;> cases M.getLsbD i <;> decide
  · intro h
    apply BitVec.eq_of_getLsbD_eq
    intro i hi
    have e := congrArg (fun x => BitVec.getLsbD x i) h
    simp only [BitVec.getLsbD_and, BitVec.getLsbD_xor, BitVec.getLsbD_allOnes, BitVec.getLsbD_zero, hi, decide_true] at e ⊢
    revert e
    cases W.getLsbD i <;> cases U.getLsbD i <;> cases M.getLsbD i <;> decide
theorem cr_mask (w U m : Int64) (n : Nat) (hm : m.toBitVec.toNat = 2 ^ n - 1) : ((w &&& U) &&& (U &&& (m ^^^ (-1)))) = 0 ↔ (w &&& U).toBitVec.toNat < 2 ^ n := by
  have e0 : (-1 : Int64).toBitVec = BitVec.allOnes 64 := by decide
  have z0 : (0 : Int64).toBitVec = 0#64 := by decide
  rw [← Int64.toBitVec_inj, z0, Int64.toBitVec_and, Int64.toBitVec_and, Int64.toBitVec_and, Int64.toBitVec_xor, e0, cr_bits]
  generalize w.toBitVec &&& U.toBitVec = T
  rw [← BitVec.toNat_inj, BitVec.toNat_and, hm, Nat.and_two_pow_sub_one_eq_mod]
  constructor
  · intro h
    have t := Nat.mod_lt T.toNat (Nat.two_pow_pos n)
    rw [h] at t
    exact t
  · exact Nat.mod_eq_of_lt
theorem cr_shr (t : Int64) (x : UInt64) (n : Nat) (hx : x.toNat % 64 = n) : (t.toUInt64 >>> x).toInt64 = 0 ↔ t.toBitVec.toNat < 2 ^ n := by
  rw [← Int64.toBitVec_inj, ← BitVec.toNat_inj]
  show (t.toUInt64 >>> x).toNat = 0 ↔ t.toUInt64.toNat < 2 ^ n
  rw [UInt64.toNat_shiftRight, hx, Nat.shiftRight_eq_div_pow]
  constructor
  · intro h
    have d : t.toUInt64.toNat / 2 ^ n < 1 := by
      rw [h]
      decide
    have e := (Nat.div_lt_iff_lt_mul (Nat.two_pow_pos n)).mp d
    rw [Nat.one_mul] at e
    exact e
  · exact Nat.div_eq_of_lt
theorem cr_amt (s : Int64) : ∃ n, n < 64 ∧ s &&& 63 = lN n ∧ (s.toUInt64 &&& Int64.toUInt64 63).toNat % 64 = n := by
  have e : (s.toUInt64 &&& Int64.toUInt64 63).toNat = s.toUInt64.toNat % 2 ^ 6 := by
    rw [UInt64.toNat_and, show (Int64.toUInt64 63).toNat = 2 ^ 6 - 1 from by decide, Nat.and_two_pow_sub_one_eq_mod]
  refine ⟨s.toUInt64.toNat % 2 ^ 6, by omega, ?_, by omega⟩
  rw [← Int64.toBitVec_inj, ← BitVec.toNat_inj]
  show (s.toUInt64 &&& Int64.toUInt64 63).toNat = (BitVec.ofNat 64 (s.toUInt64.toNat % 2 ^ 6)).toNat
  rw [e, BitVec.toNat_ofNat]
  omega
end
section
/-! one member's table, pure: tags T by slot (0: free, k + 1: key k), values V by slot, contents c by key -/
def tb_ds (a b : Nat) : Nat := (b + 32 - a) % 32
def tb_hm (k : Nat) : Nat := (k % 7 * 2 + 25) % 32
theorem tb_hm_lt (k : Nat) : tb_hm k < 32 := Nat.mod_lt _ (by decide)
theorem tb_ds_lt (a b : Nat) : tb_ds a b < 32 := Nat.mod_lt _ (by decide)
def tb_B (T : Nat → Nat) (V : Nat → Int64) (c : Nat → Option Int64) : Prop :=
  (∀ s, s < 32 → T s ≤ 18) ∧
  (∀ s, s < 32 → T s ≠ 0 → c (T s - 1) = some (V s)) ∧
  (∀ k, k < 18 → ∀ v, c k = some v → ∃ s, s < 32 ∧ T s = k + 1) ∧
  (∀ s s', s < 32 → s' < 32 → T s ≠ 0 → T s = T s' → s = s') ∧
  (∀ s, s < 32 → T s ≠ 0 → ∀ d, d < tb_ds (tb_hm (T s - 1)) s → T ((tb_hm (T s - 1) + d) % 32) ≠ 0)
theorem tb_pg : ∀ (n : Nat) (f : Nat → Nat), (∀ i, i < n + 1 → f i < n) → ∃ i j, i < j ∧ j < n + 1 ∧ f i = f j := by
  intro n
  induction n with
  | zero => intro f h; exact absurd (h 0 (by omega)) (by omega)
  | succ n ih =>
    intro f h
    by_cases hx : ∃ i, i < n + 1 ∧ f i = f (n + 1)
    · obtain ⟨i, hi, e⟩ := hx
      exact ⟨i, n + 1, hi, by omega, e⟩
    · have hne : ∀ i, i < n + 1 → f i ≠ f (n + 1) := fun i hi e => hx ⟨i, hi, e⟩
      obtain ⟨i, j, hij, hj, e⟩ := ih (fun i => if f i = n then f (n + 1) else f i) (by
        intro i hi
        have h1 := h i (by omega)
        have h2 := h (n + 1) (by omega)
        have h3 := hne i hi
        show (if f i = n then f (n + 1) else f i) < n
        by_cases z : f i = n
        · rw [if_pos z]; omega
        · rw [if_neg z]; omega)
      refine ⟨i, j, hij, by omega, ?_⟩
      have h3 := hne i (by omega)
      have h4 := hne j (by omega)
      have e' : (if f i = n then f (n + 1) else f i) = (if f j = n then f (n + 1) else f j) := e
      by_cases z : f i = n
      · by_cases w : f j = n
        · rw [z, w]
        · rw [if_pos z, if_neg w] at e'; exact absurd e'.symm h4
      · by_cases w : f j = n
        · rw [if_neg z, if_pos w] at e'; exact absurd e' h3
        · rw [if_neg z, if_neg w] at e'; exact e'
theorem tb_free {T : Nat → Nat} {V : Nat → Int64} {c : Nat → Option Int64} (h : tb_B T V c) : ∃ z, z < 32 ∧ T z = 0 := by
  obtain ⟨h1, _, _, h4, _⟩ := h
  apply Classical.byContradiction
  intro hn
  have hp : ∀ s, s < 32 → T s ≠ 0 := fun s hs e => hn ⟨s, hs, e⟩
  obtain ⟨i, j, hij, hj, e⟩ := tb_pg 18 (fun s => T s - 1) (by
    intro i hi
    have a := h1 i (by omega)
    have b := hp i (by omega)
    show T i - 1 < 18
    omega)
  have e' : T i - 1 = T j - 1 := e
  have a := hp i (by omega)
  have b := hp j (by omega)
  have := h4 i j (by omega) (by omega) a (by omega)
  omega
/-- the slot where the search for k ends -/
def tb_S (T : Nat → Nat) (k s : Nat) : Prop :=
  s < 32 ∧ (T s = 0 ∨ T s = k + 1) ∧ ∀ d, d < tb_ds (tb_hm k) s → T ((tb_hm k + d) % 32) ≠ 0 ∧ T ((tb_hm k + d) % 32) ≠ k + 1
theorem tb_at {a b : Nat} (ha : a < 32) (hb : b < 32) : (a + tb_ds a b) % 32 = b := by
  unfold tb_ds; omega
theorem tb_S_some {T : Nat → Nat} {V : Nat → Int64} {c : Nat → Option Int64} {k s : Nat} (h : tb_B T V c) (hs : tb_S T k s) (ht : T s ≠ 0) : c k = some (V s) := by
  obtain ⟨_, h2, _, _, _⟩ := h
  obtain ⟨s1, s2, _⟩ := hs
  have e : T s = k + 1 := s2.resolve_left ht
  have := h2 s s1 ht
  rw [e] at this
  exact this
theorem tb_S_none {T : Nat → Nat} {V : Nat → Int64} {c : Nat → Option Int64} {k s : Nat} (h : tb_B T V c) (hk : k < 18) (hs : tb_S T k s) (ht : T s = 0) : c k = none := by
  obtain ⟨_, _, h3, _, h5⟩ := h
  obtain ⟨s1, _, s3⟩ := hs
  cases hc : c k with
  | none => rfl
  | some v =>
    exfalso
    obtain ⟨q, hq, e⟩ := h3 k hk v hc
    have hp := h5 q hq (by omega)
    rw [e, Nat.add_sub_cancel] at hp
    have a1 := tb_at (tb_hm_lt k) s1
    have a2 := tb_at (tb_hm_lt k) hq
    rcases Nat.lt_trichotomy (tb_ds (tb_hm k) s) (tb_ds (tb_hm k) q) with z | z | z
    · have := hp _ z
      rw [a1] at this
      exact this ht
    · rw [← z, a1] at a2
      rw [← a2] at e
      omega
    · have := (s3 _ z).2
      rw [a2] at this
      exact this e
def tb_up (f : Nat → Nat) (k x : Nat) : Nat → Nat := fun j => if j = k then x else f j
theorem tb_us {f : Nat → Nat} {k x : Nat} : tb_up f k x k = x := if_pos rfl
theorem tb_un {f : Nat → Nat} {k j x : Nat} (h : j ≠ k) : tb_up f k x j = f j := if_neg h
def tb_cu (c : Nat → Option Int64) (k : Nat) (o : Option Int64) : Nat → Option Int64 := fun j => if j = k then o else c j
theorem tb_cs {c : Nat → Option Int64} {k : Nat} {o : Option Int64} : tb_cu c k o k = o := if_pos rfl
theorem tb_cn {c : Nat → Option Int64} {k j : Nat} {o : Option Int64} (h : j ≠ k) : tb_cu c k o j = c j := if_neg h
theorem tb_put {T : Nat → Nat} {V : Nat → Int64} {c : Nat → Option Int64} {k s : Nat} {v : Int64} (h : tb_B T V c) (hk : k < 18) (hs : tb_S T k s) :
    tb_B (tb_up T s (k + 1)) (vp_updL V s v) (tb_cu c k (some v)) := by
  have hsome := fun ht => tb_S_some h hs ht
  have hnone := fun ht => tb_S_none h hk hs ht
  obtain ⟨h1, h2, h3, h4, h5⟩ := h
  obtain ⟨s1, s2, s3⟩ := hs
  -- key k stands nowhere but at s
  have hu : ∀ q, q < 32 → q ≠ s → T q ≠ k + 1 := by
    intro q hq hqs e
    rcases s2 with z | z
    · have a := h2 q hq (by omega)
      rw [e, Nat.add_sub_cancel, hnone z] at a
      exact absurd a (by simp)
    · exact hqs (h4 q s hq s1 (by omega) (by omega))
  have hnz : ∀ q, T q ≠ 0 → tb_up T s (k + 1) q ≠ 0 := by
    intro q hq
    by_cases z : q = s
    · rw [z, tb_us]; omega
    · rw [tb_un z]; exact hq
  refine ⟨?_, ?_, ?_, ?_, ?_⟩
  · intro q hq
    by_cases z : q = s
    · rw [z, tb_us]; omega
    · rw [tb_un z]; exact h1 q hq
  · intro q hq hne
    by_cases z : q = s
    · rw [z, tb_us, Nat.add_sub_cancel, tb_cs, pk_uLs]
    · rw [tb_un z] at hne ⊢
      have hk' : T q - 1 ≠ k := by have := hu q hq z; omega
      rw [tb_cn hk', pk_uLn z]
      exact h2 q hq hne
  · intro j hj w hw
    by_cases z : j = k
    · exact ⟨s, s1, by rw [tb_us, z]⟩
    · rw [tb_cn z] at hw
      obtain ⟨q, hq, e⟩ := h3 j hj w hw
      have hqs : q ≠ s := by
        intro e'
        rw [e'] at e
        rcases s2 with y | y <;> omega
      exact ⟨q, hq, by rw [tb_un hqs]; exact e⟩
  · intro q q' hq hq' hne e
    by_cases z : q = s
    · by_cases y : q' = s
      · rw [z, y]
      · rw [z, tb_us, tb_un y] at e
        exact absurd e.symm (hu q' hq' y)
    · by_cases y : q' = s
      · rw [y, tb_us, tb_un z] at e
        exact absurd e (hu q hq z)
      · rw [tb_un z, tb_un y] at e
        rw [tb_un z] at hne
        exact h4 q q' hq hq' hne e
  · intro q hq hne d hd
    by_cases z : q = s
    · rw [z, tb_us, Nat.add_sub_cancel] at hd ⊢
      exact hnz _ (s3 d hd).1
    · rw [tb_un z] at hd hne ⊢
      exact hnz _ (h5 q hq hne d hd)
/-- while a slot is being freed: h the hole, s the slot looked at, z a free slot ahead; c the contents without the key that goes -/
def tb_E (T : Nat → Nat) (V : Nat → Int64) (c : Nat → Option Int64) (h s z : Nat) : Prop :=
  (h < 32 ∧ s < 32 ∧ z < 32 ∧ T z = 0 ∧ T h ≠ 0 ∧ 0 < tb_ds h s ∧ tb_ds h s + tb_ds s z = tb_ds h z) ∧
  (∀ q, q < 32 → T q ≤ 18) ∧
  (∀ q, q < 32 → q ≠ h → T q ≠ 0 → c (T q - 1) = some (V q)) ∧
  (∀ k, k < 18 → ∀ v, c k = some v → ∃ q, q < 32 ∧ q ≠ h ∧ T q = k + 1) ∧
  (∀ q q', q < 32 → q' < 32 → q ≠ h → q' ≠ h → T q ≠ 0 → T q = T q' → q = q') ∧
  (∀ q, q < 32 → q ≠ h → T q ≠ 0 → (∀ d, d < tb_ds (tb_hm (T q - 1)) q → T ((tb_hm (T q - 1) + d) % 32) ≠ 0) ∧
    (tb_ds (tb_hm (T q - 1)) h < tb_ds (tb_hm (T q - 1)) q → tb_ds h s ≤ tb_ds h q))
theorem tb_E0 {T : Nat → Nat} {V : Nat → Int64} {c : Nat → Option Int64} {k s z : Nat} (h : tb_B T V c) (hk : k < 18) (hs : s < 32) (ht : T s = k + 1) (hz : z < 32) (hz0 : T z = 0) :
    tb_E T V (tb_cu c k none) s ((s + 1) % 32) z := by
  obtain ⟨h1, h2, h3, h4, h5⟩ := h
  have hsz : s ≠ z := by intro e; rw [e] at ht; omega
  refine ⟨⟨hs, Nat.mod_lt _ (by decide), hz, hz0, by omega, ?_, ?_⟩, h1, ?_, ?_, ?_, ?_⟩
  · unfold tb_ds; omega
  · unfold tb_ds; omega
  · intro q hq hne h0
    have hk' : T q - 1 ≠ k := by
      intro e
      exact hne (h4 q s hq hs h0 (by omega))
    rw [tb_cn hk']
    exact h2 q hq h0
  · intro j hj v hv
    by_cases e : j = k
    · rw [e, tb_cs] at hv
      exact absurd hv (by simp)
    · rw [tb_cn e] at hv
      obtain ⟨q, hq, e'⟩ := h3 j hj v hv
      exact ⟨q, hq, by intro e2; rw [e2] at e'; omega, e'⟩
  · intro q q' hq hq' _ _ h0 e
    exact h4 q q' hq hq' h0 e
  · intro q hq hne h0
    refine ⟨h5 q hq h0, fun _ => ?_⟩
    unfold tb_ds
    omega
theorem tb_E_end {T : Nat → Nat} {V : Nat → Int64} {c : Nat → Option Int64} {h s z : Nat} (H : tb_E T V c h s z) (h0 : T s = 0) : tb_B (tb_up T h 0) V c := by
  obtain ⟨⟨a1, a2, a3, a4, a5, a6, a7⟩, h1, h2, h3, h4, h5⟩ := H
  refine ⟨?_, ?_, ?_, ?_, ?_⟩
  · intro q hq
    by_cases e : q = h
    · rw [e, tb_us]; omega
    · rw [tb_un e]; exact h1 q hq
  · intro q hq hne
    by_cases e : q = h
    · rw [e, tb_us] at hne; exact absurd rfl hne
    · rw [tb_un e] at hne ⊢
      exact h2 q hq e hne
  · intro k hk v hv
    obtain ⟨q, hq, e, e'⟩ := h3 k hk v hv
    exact ⟨q, hq, by rw [tb_un e]; exact e'⟩
  · intro q q' hq hq' hne e
    by_cases z1 : q = h
    · rw [z1, tb_us] at hne; exact absurd rfl hne
    · rw [tb_un z1] at hne e
      by_cases z2 : q' = h
      · rw [z2, tb_us] at e; exact absurd e hne
      · rw [tb_un z2] at e
        exact h4 q q' hq hq' z1 z2 hne e
  · intro q hq hne d hd
    by_cases z1 : q = h
    · rw [z1, tb_us] at hne; exact absurd rfl hne
    · rw [tb_un z1] at hne hd ⊢
      obtain ⟨p1, p2⟩ := h5 q hq z1 hne
      have hm := tb_hm_lt (T q - 1)
      generalize hg : tb_hm (T q - 1) = g at *
      -- the hole isn't on the way
      have hw : ¬ tb_ds g h < tb_ds g q := by
        intro hlt
        have b := p2 hlt
        have hqs : q ≠ s := by intro e; rw [e] at hne; exact hne h0
        have hlt2 : tb_ds g s < tb_ds g q ∧ (g + tb_ds g s) % 32 = s := by
          unfold tb_ds at *; omega
        have := p1 _ hlt2.1
        rw [hlt2.2] at this
        exact this h0
      have hne2 : (g + d) % 32 ≠ h := by
        intro e
        apply hw
        unfold tb_ds at *
        omega
      rw [tb_un hne2]
      exact p1 d hd
theorem tb_E_skip {T : Nat → Nat} {V : Nat → Int64} {c : Nat → Option Int64} {h s z : Nat} (H : tb_E T V c h s z) (h0 : T s ≠ 0) (hd : tb_ds (tb_hm (T s - 1)) s < tb_ds h s) :
    tb_E T V c h ((s + 1) % 32) z ∧ tb_ds ((s + 1) % 32) z < tb_ds s z := by
  obtain ⟨⟨a1, a2, a3, a4, a5, a6, a7⟩, h1, h2, h3, h4, h5⟩ := H
  have hsz : s ≠ z := by intro e; rw [e] at h0; exact h0 a4
  have e1 : tb_ds h ((s + 1) % 32) = tb_ds h s + 1 ∧ tb_ds ((s + 1) % 32) z + 1 = tb_ds s z := by unfold tb_ds at *; omega
  refine ⟨⟨⟨a1, Nat.mod_lt _ (by decide), a3, a4, a5, by omega, by omega⟩, h1, h2, h3, h4, ?_⟩, by omega⟩
  intro q hq hne hq0
  obtain ⟨p1, p2⟩ := h5 q hq hne hq0
  refine ⟨p1, fun hlt => ?_⟩
  have b := p2 hlt
  rw [e1.1]
  by_cases e : q = s
  · exfalso
    rw [e] at hlt
    have hm := tb_hm_lt (T s - 1)
    generalize tb_hm (T s - 1) = g at *
    unfold tb_ds at *
    omega
  · unfold tb_ds at *
    omega
theorem tb_E_move {T : Nat → Nat} {V : Nat → Int64} {c : Nat → Option Int64} {h s z : Nat} (H : tb_E T V c h s z) (h0 : T s ≠ 0) (hd : ¬ tb_ds (tb_hm (T s - 1)) s < tb_ds h s) :
    tb_E (tb_up T h (T s)) (vp_updL V h (V s)) c s ((s + 1) % 32) z ∧ tb_ds ((s + 1) % 32) z < tb_ds s z := by
  obtain ⟨⟨a1, a2, a3, a4, a5, a6, a7⟩, h1, h2, h3, h4, h5⟩ := H
  have hsz : s ≠ z := by intro e; rw [e] at h0; exact h0 a4
  have hhs : s ≠ h := by intro e; rw [e] at a6; unfold tb_ds at a6; omega
  have hhz : z ≠ h := by intro e; rw [e] at a4; exact a5 a4
  have e1 : 0 < tb_ds s ((s + 1) % 32) ∧ tb_ds s ((s + 1) % 32) = 1 ∧ tb_ds ((s + 1) % 32) z + 1 = tb_ds s z := by unfold tb_ds at *; omega
  have hnz : ∀ q, T q ≠ 0 → tb_up T h (T s) q ≠ 0 := by
    intro q hq
    by_cases e : q = h
    · rw [e, tb_us]; exact h0
    · rw [tb_un e]; exact hq
  refine ⟨⟨⟨a2, Nat.mod_lt _ (by decide), a3, by rw [tb_un hhz]; exact a4, hnz s h0, e1.1, by omega⟩, ?_, ?_, ?_, ?_, ?_⟩, by omega⟩
  · intro q hq
    by_cases e : q = h
    · rw [e, tb_us]; exact h1 s a2
    · rw [tb_un e]; exact h1 q hq
  · intro q hq hqs hne
    by_cases e : q = h
    · rw [e, tb_us, pk_uLs]; exact h2 s a2 hhs h0
    · rw [tb_un e] at hne ⊢
      rw [pk_uLn e]
      exact h2 q hq e hne
  · intro k hk v hv
    obtain ⟨q, hq, e, e'⟩ := h3 k hk v hv
    by_cases y : q = s
    · exact ⟨h, a1, fun e2 => hhs e2.symm, by rw [tb_us, ← y]; exact e'⟩
    · exact ⟨q, hq, y, by rw [tb_un e]; exact e'⟩
  · intro q q' hq hq' n1 n2 hne e
    by_cases y : q = h
    · by_cases y' : q' = h
      · rw [y, y']
      · rw [y, tb_us, tb_un y'] at e
        exact absurd (h4 s q' a2 hq' hhs y' h0 e).symm n2
    · rw [tb_un y] at hne e
      by_cases y' : q' = h
      · rw [y', tb_us] at e
        exact absurd (h4 q s hq a2 y hhs hne e) n1
      · rw [tb_un y'] at e
        exact h4 q q' hq hq' y y' hne e
  · intro q hq hqs hne
    refine ⟨fun d hlt => ?_, fun _ => ?_⟩
    · by_cases y : q = h
      · rw [y, tb_us] at hlt ⊢
        have p1 := (h5 s a2 hhs h0).1
        have hm := tb_hm_lt (T s - 1)
        apply hnz
        apply p1
        generalize tb_hm (T s - 1) = g at *
        unfold tb_ds at *
        omega
      · rw [tb_un y] at hlt hne ⊢
        exact hnz _ ((h5 q hq y hne).1 d hlt)
    · rw [e1.2.1]
      unfold tb_ds
      omega
end
section
/-! numbers of this claim -/
theorem ar_32 (m s : Nat) : (32 : Int32) * nI m + nI s = nI (32 * m + s) := by
  rw [show (32 : Int32) = nI 32 from rfl, pk_mul, nI_add]
theorem ar_32m (m : Nat) : (32 : Int32) * nI m = nI (32 * m) := by
  rw [show (32 : Int32) = nI 32 from rfl, pk_mul]
theorem ar_z {n : Nat} (h : n < 2 ^ 31) : nI n = 0 ↔ n = 0 := by
  rw [show (0 : Int32) = nI 0 from rfl, nI_eq h (by decide)]
theorem ar_home : ∀ k, k < 18 → ((nI k - nI k / 7 * 7) * 2 + 25) &&& 31 = nI (tb_hm k) := by decide +kernel
theorem ar_s1 : ∀ s, s < 32 → (nI s + 1) &&& 31 = nI ((s + 1) % 32) := by decide +kernel
theorem ar_ds : ∀ s, s < 32 → ∀ f, f < 32 → (nI s - nI f) &&& 31 = nI (tb_ds f s) := by decide +kernel
theorem ar_m31 : ∀ q, q < 160 → nI q &&& 31 = nI (q % 32) := by decide +kernel
theorem ar_b : ∀ t, t < 128 → (nI t).toInt8.toInt32 = nI t := by decide +kernel
theorem ar_nb {t : Nat} (h : t < 128) : vp_nar .byte (nI t) = nI t := by rw [vp_nar_byte]; exact ar_b t h
theorem ar_nbb {t : Nat} (h : t < 128) : vp_nar .byte (nI t).toInt8.toInt32 = nI t := by rw [ar_b t h]; exact ar_nb h
theorem xs_home {post : Int32 → Prop} {k : Nat} (hk : k < 18) (h : post (nI (tb_hm k))) : wpX_home post (nI k) := by
  refine And.intro (by decide) ?_
  rw [ar_home k hk]
  exact h
theorem tb_vE {st : Nat → Int64} {b h : Nat} {v : Int64} : (fun q => vp_updL st (b + h) v (b + q)) = vp_updL (fun q => st (b + q)) h v := by
  funext q
  by_cases e : q = h
  · rw [e, pk_uLs, pk_uLs]
  · rw [pk_uLn e, pk_uLn (by omega)]
theorem tb_tE {tg : Nat → Int32} {T : Nat → Nat} {b h t : Nat} (hT : ∀ q, q < 32 → tg (b + q) = nI (T q)) : ∀ q, q < 32 → upd tg (b + h) (nI t) (b + q) = nI (tb_up T h t q) := by
  intro q hq
  by_cases e : q = h
  · rw [e, pk_us, tb_us]
  · rw [pk_un (by omega), tb_un e]; exact hT q hq
section
variable {xWC xLV xPF xLO xEX xWS xDR xVT xCH : Int32} {xVV xOC : Int64} {xcp xcc xwi xtg xrn xrc xnu xrt xra xrk xan xdo xhe xfr xta xso xsr xsn xsx xsc xsd xse xdp : Nat → Int32} {xst xrr xrs xdc xsk xrg : Nat → Int64}
variable {post : Int32 → Prop} {pos : SX → Prop} {T : Nat → Nat} {m k : Nat}
theorem xs_slot5 {z : Nat} (hm : m < 5) (hk : k < 18) (hT : ∀ s, s < 32 → xtg (32 * m + s) = nI (T s)) (h18 : ∀ s, s < 32 → T s ≤ 18) (hz : z < 32) (hz0 : T z = 0)
    (hp : ∀ s, tb_S T k s → post (nI (32 * m + s))) :
    ∀ n s, s < 32 → tb_ds s z < n → tb_ds (tb_hm k) s + tb_ds s z = tb_ds (tb_hm k) z →
      (∀ d, d < tb_ds (tb_hm k) s → T ((tb_hm k + d) % 32) ≠ 0 ∧ T ((tb_hm k + d) % 32) ≠ k + 1) → wX_slot_5 post (nI m) (nI k) xWC xLV xPF xLO xEX xWS xDR xVT xVV xOC xCH xcp xcc xwi xtg xst xrn xrc xrr xnu xrt xra xrk xan xrs xdo xdc xhe xfr xta xso xsr xsn xsx xsc xsd xse xsk xdp xrg n (nI s) := by
  intro n
  induction n with
  | zero => intro s _ h; omega
  | succ n ih =>
    intro s hs hn hd hl
    have e1 := ar_32 m s
    have ein : vp_in (32 * nI m + nI s) 160 := by rw [e1]; exact vp_in_nI (by omega) (by omega)
    have et : xtg (32 * nI m + nI s).toNatClampNeg = nI (T s) := by rw [e1, nI_clamp (by omega)]; exact hT s hs
    have h1 := h18 s hs
    refine And.intro ein (br_c (fun h => ?_) (fun h => And.intro ein (br_c (fun h' => ?_) (fun h' => ?_))))
    · rw [et] at h
      rw [e1]
      exact hp s ⟨hs, Or.inl ((ar_z (by omega)).mp h), hl⟩
    · rw [et, nI_1, nI_eq (by omega) (by omega)] at h'
      rw [e1]
      exact hp s ⟨hs, Or.inr h', hl⟩
    · rw [et] at h h'
      rw [nI_1, nI_eq (by omega) (by omega)] at h'
      have h0 : T s ≠ 0 := fun e => h ((ar_z (by omega)).mpr e)
      have hsz : s ≠ z := by intro e; rw [e] at h0; exact h0 hz0
      have hg := tb_hm_lt k
      have e2 : tb_ds ((s + 1) % 32) z + 1 = tb_ds s z ∧ tb_ds (tb_hm k) ((s + 1) % 32) = tb_ds (tb_hm k) s + 1 ∧ (tb_hm k + tb_ds (tb_hm k) s) % 32 = s := by
        generalize tb_hm k = g at *
        unfold tb_ds at *
        omega
      refine nm_r (ar_s1 s hs) (ih _ (Nat.mod_lt _ (by decide)) (by omega) (by omega) ?_)
      intro d hd'
      by_cases e : d = tb_ds (tb_hm k) s
      · rw [e, e2.2.2]; exact ⟨h0, h'⟩
      · exact hl d (by omega)
theorem xs_slotT {V : Nat → Int64} {c : Nat → Option Int64} (hm : m < 5) (hk : k < 18) (hT : ∀ s, s < 32 → xtg (32 * m + s) = nI (T s)) (hB : tb_B T V c)
    (hp : ∀ s, tb_S T k s → post (nI (32 * m + s))) : wpX_slot post (xWC, xLV, xPF, xLO, xEX, xWS, xDR, xVT, xVV, xOC, xCH, xcp, xcc, xwi, xtg, xst, xrn, xrc, xrr, xnu, xrt, xra, xrk, xan, xrs, xdo, xdc, xhe, xfr, xta, xso, xsr, xsn, xsx, xsc, xsd, xse, xsk, xdp, xrg) (nI m) (nI k) := by
  obtain ⟨z, hz, hz0⟩ := tb_free hB
  unfold wpX_slot
  refine xs_home hk ⟨tb_ds (tb_hm k) z + 1, xs_slot5 hm hk hT hB.1 hz hz0 hp _ _ (tb_hm_lt k) (by omega) ?_ ?_⟩
  · unfold tb_ds; omega
  · intro d hd
    unfold tb_ds at hd
    omega
theorem xs_erase16 {c : Nat → Option Int64} {z : Nat} (hm : m < 5) : ∀ (n : Nat) (T : Nat → Nat) (tg : Nat → Int32) (st : Nat → Int64) (h s : Nat),
    (∀ q, q < 32 → tg (32 * m + q) = nI (T q)) → tb_E T (fun q => st (32 * m + q)) c h s z → tb_ds s z < n →
    (∀ (tg' : Nat → Int32) (st' : Nat → Int64) (T' : Nat → Nat), (∀ q, q < 32 → tg' (32 * m + q) = nI (T' q)) → tb_B T' (fun q => st' (32 * m + q)) c →
      (∀ q, q < 32 * m ∨ 32 * m + 32 ≤ q → tg' q = tg q ∧ st' q = st q) → pos (xWC, xLV, xPF, xLO, xEX, xWS, xDR, xVT, xVV, xOC, xCH, xcp, xcc, xwi, tg', st', xrn, xrc, xrr, xnu, xrt, xra, xrk, xan, xrs, xdo, xdc, xhe, xfr, xta, xso, xsr, xsn, xsx, xsc, xsd, xse, xsk, xdp, xrg)) →
    wX_erase_16 pos (nI (32 * m)) xWC xLV xPF xLO xEX xWS xDR xVT xVV xOC xCH n (nI h) (nI s) xcp xcc xwi tg st xrn xrc xrr xnu xrt xra xrk xan xrs xdo xdc xhe xfr xta xso xsr xsn xsx xsc xsd xse xsk xdp xrg := by
  intro n
  induction n with
  | zero => intro T tg st h s _ _ hn; omega
  | succ n ih =>
    intro T tg st h s hT H hn hp
    obtain ⟨⟨a1, a2, a3, a4, a5, a6, a7⟩, g1, _⟩ := id H
    have es : nI (32 * m) + nI s = nI (32 * m + s) := nI_add _ _
    have eh : nI (32 * m) + nI h = nI (32 * m + h) := nI_add _ _
    have ins : vp_in (nI (32 * m) + nI s) 160 := by rw [es]; exact vp_in_nI (by omega) (by omega)
    have inh : vp_in (nI (32 * m) + nI h) 160 := by rw [eh]; exact vp_in_nI (by omega) (by omega)
    have cs : (nI (32 * m) + nI s).toNatClampNeg = 32 * m + s := by rw [es, nI_clamp (by omega)]
    have ch : (nI (32 * m) + nI h).toNatClampNeg = 32 * m + h := by rw [eh, nI_clamp (by omega)]
    have et : tg (nI (32 * m) + nI s).toNatClampNeg = nI (T s) := by rw [cs]; exact hT s a2
    have h18 := g1 s a2
    refine And.intro ins (br_c (fun h0 => And.intro inh ?_) (fun h0 => And.intro ins ?_))
    · rw [et] at h0
      have h0' := (ar_z (by omega)).mp h0
      refine nm_r (e' := upd tg (32 * m + h) (nI 0)) (by rw [ch]; exact congrArg _ (ar_nb (t := 0) (by decide))) ?_
      exact hp _ _ _ (tb_tE hT) (tb_E_end H h0') (fun q hq => ⟨pk_un (by omega), rfl⟩)
    · rw [et] at h0
      have h0' : T s ≠ 0 := fun e => h0 ((ar_z (by omega)).mpr e)
      have ep : tg (nI (32 * m) + nI s).toNatClampNeg - 1 = nI (T s - 1) := by
        rw [et]
        obtain ⟨t, ht⟩ : ∃ t, T s = t + 1 := ⟨T s - 1, by omega⟩
        rw [ht, nI_pred, Nat.add_sub_cancel]
      rw [ep]
      refine xs_home (by omega) ?_
      have ec : ((nI s - nI (tb_hm (T s - 1))) &&& 31 < (nI s - nI h) &&& 31) ↔ tb_ds (tb_hm (T s - 1)) s < tb_ds h s := by
        rw [ar_ds s a2 _ (tb_hm_lt _), ar_ds s a2 _ a1]
        exact nI_ltI (Nat.lt_of_lt_of_le (tb_ds_lt _ _) (by decide)) (Nat.lt_of_lt_of_le (tb_ds_lt _ _) (by decide))
      refine br_c (fun hc => ?_) (fun hc => And.intro ins (And.intro inh ?_))
      · have K := tb_E_skip H h0' (ec.mp hc)
        exact nm_r (ar_s1 s a2) (ih T tg st h _ hT K.1 (by omega) hp)
      · have K := tb_E_move H h0' (fun hx => hc (ec.mpr hx))
        refine nm_r (e' := upd tg (32 * m + h) (nI (T s))) (by rw [ch, et, ar_nb (by omega)]) (And.intro ins (And.intro inh ?_))
        refine nm_r (e' := vp_updL st (32 * m + h) (st (32 * m + s))) (by rw [ch, cs]) ?_
        refine nm_r (ar_s1 s a2) (ih _ _ _ s _ (tb_tE hT) ?_ (by omega) ?_)
        · rw [tb_vE]; exact K.1
        · intro tg' st' T' q1 q2 q3
          refine hp tg' st' T' q1 q2 (fun q hq => ?_)
          obtain ⟨r1, r2⟩ := q3 q hq
          rw [pk_un (by omega)] at r1
          rw [pk_uLn (by omega)] at r2
          exact ⟨r1, r2⟩
/-- all five tables: contents c m k -/
def tb_M (tg : Nat → Int32) (st : Nat → Int64) (c : Nat → Nat → Option Int64) : Prop :=
  ∀ m, m < 5 → ∃ T : Nat → Nat, (∀ q, q < 32 → tg (32 * m + q) = nI (T q)) ∧ tb_B T (fun q => st (32 * m + q)) (c m)
def tb_c2 (c : Nat → Nat → Option Int64) (m k : Nat) (o : Option Int64) : Nat → Nat → Option Int64 := fun m' j => if m' = m ∧ j = k then o else c m' j
theorem tb_c2s {c : Nat → Nat → Option Int64} {m k : Nat} {o : Option Int64} : tb_c2 c m k o m k = o := if_pos ⟨rfl, rfl⟩
theorem tb_c2n {c : Nat → Nat → Option Int64} {m k m' j : Nat} {o : Option Int64} (h : ¬ (m' = m ∧ j = k)) : tb_c2 c m k o m' j = c m' j := if_neg h
theorem tb_c2m {c : Nat → Nat → Option Int64} {m k : Nat} {o : Option Int64} : tb_c2 c m k o m = tb_cu (c m) k o := by
  funext j
  by_cases e : j = k
  · rw [e, tb_c2s, tb_cs]
  · rw [tb_cn e, tb_c2n (fun h => e h.2)]
theorem tb_c2o {c : Nat → Nat → Option Int64} {m k m' : Nat} {o : Option Int64} (h : m' ≠ m) : tb_c2 c m k o m' = c m' := by
  funext j
  exact tb_c2n (fun e => h e.1)
theorem tb_B_congr {T : Nat → Nat} {V : Nat → Int64} {c c' : Nat → Option Int64} (h : tb_B T V c) (e : ∀ k, k < 18 → c' k = c k) : tb_B T V c' := by
  obtain ⟨h1, h2, h3, h4, h5⟩ := h
  refine ⟨h1, fun s hs h0 => ?_, fun k hk v hv => h3 k hk v (by rw [← e k hk]; exact hv), h4, h5⟩
  have := h1 s hs
  rw [e _ (by omega)]
  exact h2 s hs h0
theorem tb_M_congr {tg : Nat → Int32} {st : Nat → Int64} {c c' : Nat → Nat → Option Int64} (h : tb_M tg st c) (e : ∀ m k, m < 5 → k < 18 → c' m k = c m k) : tb_M tg st c' := by
  intro m hm
  obtain ⟨T, h1, h2⟩ := h m hm
  exact ⟨T, h1, tb_B_congr h2 (fun k hk => e m k hm hk)⟩
theorem tb_M_put {tg tg' : Nat → Int32} {st st' : Nat → Int64} {c : Nat → Nat → Option Int64} {o : Option Int64} {T' : Nat → Nat} (h : tb_M tg st c) (hm : m < 5)
    (h1 : ∀ q, q < 32 → tg' (32 * m + q) = nI (T' q)) (h2 : tb_B T' (fun q => st' (32 * m + q)) (tb_cu (c m) k o))
    (h3 : ∀ q, q < 32 * m ∨ 32 * m + 32 ≤ q → tg' q = tg q ∧ st' q = st q) : tb_M tg' st' (tb_c2 c m k o) := by
  intro m' hm'
  by_cases e : m' = m
  · rw [e, tb_c2m]; exact ⟨T', h1, h2⟩
  · rw [tb_c2o e]
    obtain ⟨T, g1, g2⟩ := h m' hm'
    have ev : (fun q => st (32 * m' + q)) = fun q => if q < 32 then st' (32 * m' + q) else st (32 * m' + q) := by
      funext q
      by_cases hq : q < 32
      · rw [if_pos hq]; exact (h3 _ (by omega)).2.symm
      · rw [if_neg hq]
    refine ⟨T, fun q hq => by rw [(h3 _ (by omega)).1]; exact g1 q hq, ?_⟩
    obtain ⟨k1, k2, k3, k4, k5⟩ := g2
    exact ⟨k1, fun s hs h0 => (k2 s hs h0).trans (congrArg some (h3 _ (by omega)).2.symm), k3, k4, k5⟩
theorem xs_slot {c : Nat → Nat → Option Int64} (hm : m < 5) (hk : k < 18) (h : tb_M xtg xst c)
    (hp : ∀ q, q < 160 → 32 * m ≤ q → q < 32 * m + 32 → ((xtg q = 0 ∧ c m k = none) ∨ (xtg q ≠ 0 ∧ c m k = some (xst q))) → post (nI q)) : wpX_slot post (xWC, xLV, xPF, xLO, xEX, xWS, xDR, xVT, xVV, xOC, xCH, xcp, xcc, xwi, xtg, xst, xrn, xrc, xrr, xnu, xrt, xra, xrk, xan, xrs, xdo, xdc, xhe, xfr, xta, xso, xsr, xsn, xsx, xsc, xsd, xse, xsk, xdp, xrg) (nI m) (nI k) := by
  obtain ⟨T, h1, h2⟩ := h m hm
  refine xs_slotT hm hk h1 h2 (fun s hs => hp _ ?_ ?_ ?_ ?_)
  · have := hs.1; omega
  · omega
  · have := hs.1; omega
  · have h18 := h2.1 s hs.1
    by_cases e : T s = 0
    · exact Or.inl ⟨by rw [h1 s hs.1, e]; rfl, tb_S_none h2 hk hs e⟩
    · have z1 := tb_S_some h2 hs e
      exact Or.inr ⟨by rw [h1 s hs.1]; exact fun z => e ((ar_z (by omega)).mp z), z1⟩
theorem xs_store {c : Nat → Nat → Option Int64} (hm : m < 5) (hk : k < 18) (there : Int32) (v : Int64) (h : tb_M xtg xst c)
    (hp : ∀ (tg' : Nat → Int32) (st' : Nat → Int64), tb_M tg' st' (tb_c2 c m k (if there = 0 then none else some v)) →
      (∀ q, q < 32 * m ∨ 32 * m + 32 ≤ q → tg' q = xtg q ∧ st' q = xst q) → pos (xWC, xLV, xPF, xLO, xEX, xWS, xDR, xVT, xVV, xOC, xCH, xcp, xcc, xwi, tg', st', xrn, xrc, xrr, xnu, xrt, xra, xrk, xan, xrs, xdo, xdc, xhe, xfr, xta, xso, xsr, xsn, xsx, xsc, xsd, xse, xsk, xdp, xrg)) : wpX_store pos (xWC, xLV, xPF, xLO, xEX, xWS, xDR, xVT, xVV, xOC, xCH, xcp, xcc, xwi, xtg, xst, xrn, xrc, xrr, xnu, xrt, xra, xrk, xan, xrs, xdo, xdc, xhe, xfr, xta, xso, xsr, xsn, xsx, xsc, xsd, xse, xsk, xdp, xrg) (nI m) (nI k) there v := by
  obtain ⟨T, h1, h2⟩ := h m hm
  unfold wpX_store
  refine xs_slotT hm hk h1 h2 (fun s hs => ?_)
  have s1 := hs.1
  have h18 := h2.1 s s1
  have ein : vp_in (nI (32 * m + s)) 160 := vp_in_nI (by omega) (by omega)
  have ec : (nI (32 * m + s)).toNatClampNeg = 32 * m + s := nI_clamp (by omega)
  refine br_c (fun h0 => And.intro ein (br_c (fun ht => ?_) (fun ht => ?_))) (fun h0 => And.intro ein ?_)
  · rw [ec, h1 s s1] at ht
    have e0 := tb_S_none h2 hk hs ((ar_z (by omega)).mp ht)
    refine hp xtg xst (tb_M_congr h (fun m' j hm' hj => ?_)) (fun q _ => ⟨rfl, rfl⟩)
    rw [if_pos h0]
    by_cases e : m' = m ∧ j = k
    · rw [e.1, e.2, tb_c2s, e0]
    · exact tb_c2n e
  · rw [ec, h1 s s1] at ht
    have hne : T s ≠ 0 := fun e => ht ((ar_z (by omega)).mpr e)
    have hTs : T s = k + 1 := hs.2.1.resolve_left hne
    obtain ⟨z, hz, hz0⟩ := tb_free h2
    rw [ar_m31 _ (by omega), show (32 * m + s) % 32 = s from by omega]
    unfold wpX_erase
    refine nm_r (ar_s1 s s1) (nm_r (ar_32m m) ⟨tb_ds ((s + 1) % 32) z + 1, xs_erase16 hm _ T xtg xst s _ h1 (tb_E0 h2 hk s1 hTs hz hz0) (by omega) ?_⟩)
    intro tg' st' T' q1 q2 q3
    refine hp tg' st' ?_ q3
    rw [if_pos h0]
    exact tb_M_put h hm q1 q2 q3
  · refine nm_r (e' := upd xtg (32 * m + s) (nI (k + 1))) (by rw [ec, nI_1, ar_nbb (by omega)]) (And.intro ein ?_)
    refine nm_r (e' := vp_updL xst (32 * m + s) v) (by rw [ec]) ?_
    refine hp _ _ ?_ (fun q hq => ⟨pk_un (by omega), pk_uLn (by omega)⟩)
    rw [if_neg h0]
    refine tb_M_put h hm (tb_tE h1) ?_ (fun q hq => ⟨pk_un (by omega), pk_uLn (by omega)⟩)
    rw [tb_vE]
    exact tb_put h2 hk hs
end
end
section
/-! entries and records of the members: H p m: member m holds partition p -/
theorem ar_18 (m p : Nat) : (18 : Int32) * nI m + 3 * nI p = nI (18 * m + 3 * p) := by
  rw [show (18 : Int32) = nI 18 from rfl, show (3 : Int32) = nI 3 from rfl, pk_mul, pk_mul, nI_add]
theorem ar_183 (m p : Nat) : (18 : Int32) * nI m + 3 * nI p + 3 = nI (18 * m + 3 * p + 3) := by
  rw [ar_18, show (3 : Int32) = nI 3 from rfl, nI_add]
theorem ar_18c (m p c : Nat) : (18 : Int32) * nI m + 3 * nI p + nI c = nI (18 * m + 3 * p + c) := by
  rw [ar_18, nI_add]
theorem ar_6 (k : Nat) : nI k + 6 = nI (k + 6) := nI_add k 6
def da_G (H : Nat → Nat → Bool) (E : Nat → Nat → Option Int64) (N C : Nat → Nat → Int32) (R : Nat → Nat → Int64)
    (tg : Nat → Int32) (st : Nat → Int64) (rn rc : Nat → Int32) (rr : Nat → Int64) : Prop :=
  tb_M tg st (fun m k => if H (k % 6) m = true then E m k else none) ∧
  ∀ m p c, m < 5 → p < 6 → c < 3 → (H p m = false → rn (18 * m + 3 * p + c) = 0) ∧
    (H p m = true → rn (18 * m + 3 * p + c) = N m (3 * p + c) ∧
      (N m (3 * p + c) ≠ 0 → rc (18 * m + 3 * p + c) = C m (3 * p + c) ∧ rr (18 * m + 3 * p + c) = R m (3 * p + c)))
def da_D (H : Nat → Nat → Bool) (E : Nat → Option Int64) (N C : Nat → Int32) (R : Nat → Int64)
    (tg : Nat → Int32) (st : Nat → Int64) (rn rc : Nat → Int32) (rr : Nat → Int64) : Prop :=
  da_G H (fun _ => E) (fun _ => N) (fun _ => C) (fun _ => R) tg st rn rc rr
def da_h (H : Nat → Nat → Bool) (p m : Nat) (b : Bool) : Nat → Nat → Bool := fun p' m' => if p' = p ∧ m' = m then b else H p' m'
theorem da_hs {H : Nat → Nat → Bool} {p m : Nat} {b : Bool} : da_h H p m b p m = b := if_pos ⟨rfl, rfl⟩
theorem da_hn {H : Nat → Nat → Bool} {p m p' m' : Nat} {b : Bool} (h : ¬ (p' = p ∧ m' = m)) : da_h H p m b p' m' = H p' m' := if_neg h
theorem da_G_congr {H H' : Nat → Nat → Bool} {E E' : Nat → Nat → Option Int64} {N N' C C' : Nat → Nat → Int32} {R R' : Nat → Nat → Int64}
    {tg : Nat → Int32} {st : Nat → Int64} {rn rc : Nat → Int32} {rr : Nat → Int64} (h : da_G H E N C R tg st rn rc rr)
    (eH : ∀ p m, p < 6 → m < 5 → H' p m = H p m) (eE : ∀ m k, m < 5 → k < 18 → H (k % 6) m = true → E' m k = E m k)
    (eN : ∀ m p c, m < 5 → p < 6 → c < 3 → H p m = true → N' m (3 * p + c) = N m (3 * p + c) ∧ (N m (3 * p + c) ≠ 0 → C' m (3 * p + c) = C m (3 * p + c) ∧ R' m (3 * p + c) = R m (3 * p + c))) :
    da_G H' E' N' C' R' tg st rn rc rr := by
  refine ⟨tb_M_congr h.1 (fun m k hm hk => ?_), fun m p c hm hp hc => ?_⟩
  · show (if H' (k % 6) m = true then E' m k else none) = (if H (k % 6) m = true then E m k else none)
    rw [eH _ m (Nat.mod_lt _ (by decide)) hm]
    by_cases e : H (k % 6) m = true
    · rw [if_pos e, if_pos e]; exact eE m k hm hk e
    · rw [if_neg e, if_neg e]
  · obtain ⟨h1, h2⟩ := h.2 m p c hm hp hc
    rw [eH p m hp hm]
    refine ⟨h1, fun e => ?_⟩
    obtain ⟨g1, g2⟩ := h2 e
    obtain ⟨e1, e2⟩ := eN m p c hm hp hc e
    rw [e1]
    refine ⟨g1, fun hne => ?_⟩
    obtain ⟨e3, e4⟩ := e2 hne
    rw [e3, e4]
    exact g2 hne
def da_cs (c : Nat → Nat → Option Int64) (m p x : Nat) : Nat → Nat → Option Int64 := fun m' j => if m' = m ∧ j % 6 = p ∧ j < x then none else c m' j
def da_ct (c : Nat → Nat → Option Int64) (E : Nat → Option Int64) (m p x : Nat) : Nat → Nat → Option Int64 := fun m' j => if m' = m ∧ j % 6 = p ∧ j < x then E j else c m' j
section
variable {xWC xLV xPF xLO xEX xWS xDR xVT xCH : Int32} {xVV xOC : Int64} {xcp xcc xwi xtg xrn xrc xnu xrt xra xrk xan xdo xhe xfr xta xso xsr xsn xsx xsc xsd xse xdp : Nat → Int32} {xst xrr xrs xdc xsk xrg : Nat → Int64}
variable {pos : SX → Prop} {m p a b : Nat} {c : Nat → Nat → Option Int64}
theorem xs_clear2 (hm : m < 5) (hp6 : p < 6) : ∀ (n i x : Nat) (tg : Nat → Int32) (st : Nat → Int64), x = p + 6 * i → i ≤ 3 → 3 - i < n → tb_M tg st (da_cs c m p x) →
    (∀ (tg' : Nat → Int32) (st' : Nat → Int64), tb_M tg' st' (da_cs c m p 18) → ∃ n31 : Nat, wX_clear_31 pos (nI m) (nI p) xWC xLV xPF xLO xEX xWS xDR xVT xVV xOC xCH n31 (nI (18 * m + 3 * p)) xcp xcc xwi tg' st' xrn xrc xrr xnu xrt xra xrk xan xrs xdo xdc xhe xfr xta xso xsr xsn xsx xsc xsd xse xsk xdp xrg) →
    wX_clear_2 pos (nI m) (nI p) n (nI x) xWC xLV xPF xLO xEX xWS xDR xVT xVV xOC xCH xcp xcc xwi tg st xrn xrc xrr xnu xrt xra xrk xan xrs xdo xdc xhe xfr xta xso xsr xsn xsx xsc xsd xse xsk xdp xrg := by
  intro n
  induction n with
  | zero => intro i x tg st _ _ h; omega
  | succ n ih =>
    intro i x tg st hx hi hn h hp
    refine pk_le 18 x (fun h18 => ?_) (fun h18 => ?_)
    · refine nm_r (ar_18 m p) (hp tg st (tb_M_congr h (fun m' j _ hj => ?_)))
      show (if m' = m ∧ j % 6 = p ∧ j < 18 then none else c m' j) = (if m' = m ∧ j % 6 = p ∧ j < x then none else c m' j)
      by_cases e : m' = m ∧ j % 6 = p
      · rw [if_pos ⟨e.1, e.2, hj⟩, if_pos ⟨e.1, e.2, by omega⟩]
      · rw [if_neg (fun z => e ⟨z.1, z.2.1⟩), if_neg (fun z => e ⟨z.1, z.2.1⟩)]
    · refine xs_store hm h18 0 0 h (fun tg' st' h' _ => ?_)
      refine nm_r (ar_6 x) (ih (i + 1) (x + 6) tg' st' (by omega) (by omega) (by omega) (tb_M_congr h' (fun m' j _ hj => ?_)) hp)
      rw [if_pos rfl]
      by_cases e : m' = m ∧ j = x
      · rw [e.1, e.2, tb_c2s]
        exact if_pos ⟨rfl, by omega, by omega⟩
      · rw [tb_c2n e]
        show (if m' = m ∧ j % 6 = p ∧ j < x + 6 then none else c m' j) = (if m' = m ∧ j % 6 = p ∧ j < x then none else c m' j)
        by_cases e' : m' = m ∧ j % 6 = p ∧ j < x
        · rw [if_pos e', if_pos ⟨e'.1, e'.2.1, by omega⟩]
        · rw [if_neg e', if_neg (by intro z; omega)]
theorem xs_clear31 (hm : m < 5) (hp6 : p < 6) : ∀ (n i : Nat) (rn : Nat → Int32), i ≤ 3 → 3 - i < n →
    (∀ rn' : Nat → Int32, (∀ j, rn' j = if 18 * m + 3 * p + i ≤ j ∧ j < 18 * m + 3 * p + 3 then 0 else rn j) → pos (xWC, xLV, xPF, xLO, xEX, xWS, xDR, xVT, xVV, xOC, xCH, xcp, xcc, xwi, xtg, xst, rn', xrc, xrr, xnu, xrt, xra, xrk, xan, xrs, xdo, xdc, xhe, xfr, xta, xso, xsr, xsn, xsx, xsc, xsd, xse, xsk, xdp, xrg)) →
    wX_clear_31 pos (nI m) (nI p) xWC xLV xPF xLO xEX xWS xDR xVT xVV xOC xCH n (nI (18 * m + 3 * p + i)) xcp xcc xwi xtg xst rn xrc xrr xnu xrt xra xrk xan xrs xdo xdc xhe xfr xta xso xsr xsn xsx xsc xsd xse xsk xdp xrg := by
  intro n
  induction n with
  | zero => intro i rn _ h; omega
  | succ n ih =>
    intro i rn hi hn hp
    refine pk_le (18 * m + 3 * p + 3) (18 * m + 3 * p + i) (fun h => ?_) (fun h => ?_) (ar_183 m p)
    · exact hp rn (fun j => (if_neg (by omega)).symm)
    · refine And.intro (vp_in_nI (by omega) (by omega)) ?_
      refine nm_r (e' := upd rn (18 * m + 3 * p + i) 0) (by rw [nI_clamp (by omega)]) ?_
      refine nm_r (nI_1 _) (ih (i + 1) _ (by omega) (by omega) (fun rn' h' => hp rn' (fun j => ?_)))
      rw [h' j]
      by_cases e : 18 * m + 3 * p + (i + 1) ≤ j ∧ j < 18 * m + 3 * p + 3
      · rw [if_pos e, if_pos (by omega)]
      · rw [if_neg e]
        by_cases e' : j = 18 * m + 3 * p + i
        · rw [e', pk_us, if_pos (by omega)]
        · rw [pk_un e', if_neg (by omega)]
theorem xs_clear {H : Nat → Nat → Bool} {E : Nat → Nat → Option Int64} {N C : Nat → Nat → Int32} {R : Nat → Nat → Int64} (hm : m < 5) (hp6 : p < 6)
    (h : da_G H E N C R xtg xst xrn xrc xrr)
    (hp : ∀ (tg' : Nat → Int32) (st' : Nat → Int64) (rn' : Nat → Int32), da_G (da_h H p m false) E N C R tg' st' rn' xrc xrr → pos (xWC, xLV, xPF, xLO, xEX, xWS, xDR, xVT, xVV, xOC, xCH, xcp, xcc, xwi, tg', st', rn', xrc, xrr, xnu, xrt, xra, xrk, xan, xrs, xdo, xdc, xhe, xfr, xta, xso, xsr, xsn, xsx, xsc, xsd, xse, xsk, xdp, xrg)) :
    wpX_clear pos (xWC, xLV, xPF, xLO, xEX, xWS, xDR, xVT, xVV, xOC, xCH, xcp, xcc, xwi, xtg, xst, xrn, xrc, xrr, xnu, xrt, xra, xrk, xan, xrs, xdo, xdc, xhe, xfr, xta, xso, xsr, xsn, xsx, xsc, xsd, xse, xsk, xdp, xrg) (nI m) (nI p) := by
  unfold wpX_clear
  refine ⟨4, xs_clear2 (c := fun m k => if H (k % 6) m = true then E m k else none) hm hp6 4 0 p xtg xst (by omega) (by omega) (by omega) (tb_M_congr h.1 (fun m' j _ hj => ?_)) (fun tg' st' h' => ⟨4, ?_⟩)⟩
  · exact if_neg (by intro z; omega)
  · refine xs_clear31 hm hp6 4 0 xrn (by omega) (by omega) (fun rn' h2 => hp tg' st' rn' ⟨tb_M_congr h' (fun m' j _ hj => ?_), fun m' p' c' hm' hp' hc' => ?_⟩)
    · show (if da_h H p m false (j % 6) m' = true then E m' j else none) = (if m' = m ∧ j % 6 = p ∧ j < 18 then none else if H (j % 6) m' = true then E m' j else none)
      by_cases e : m' = m ∧ j % 6 = p
      · rw [e.1, e.2, da_hs, if_neg (by decide), if_pos ⟨rfl, rfl, hj⟩]
      · rw [da_hn (fun z => e ⟨z.2, z.1⟩)]
        exact (if_neg (fun z => e ⟨z.1, z.2.1⟩)).symm
    · obtain ⟨g1, g2⟩ := h.2 m' p' c' hm' hp' hc'
      by_cases e : p' = p ∧ m' = m
      · rw [e.1, e.2, da_hs]
        exact ⟨fun _ => (h2 _).trans (if_pos (by omega)), fun z => absurd z (by decide)⟩
      · rw [da_hn e]
        rw [h2, if_neg (by omega)]
        exact ⟨g1, g2⟩
theorem xs_trec (ha : a < 90) (hb : b < 90) (hp : pos (xWC, xLV, xPF, xLO, xEX, xWS, xDR, xVT, xVV, xOC, xCH, xcp, xcc, xwi, xtg, xst, upd xrn b (xrn a), upd xrc b (vp_nar .byte (xrc a)), vp_updL xrr b (xrr a), xnu, xrt, xra, xrk, xan, xrs, xdo, xdc, xhe, xfr, xta, xso, xsr, xsn, xsx, xsc, xsd, xse, xsk, xdp, xrg)) : wpX_transferRecord pos (xWC, xLV, xPF, xLO, xEX, xWS, xDR, xVT, xVV, xOC, xCH, xcp, xcc, xwi, xtg, xst, xrn, xrc, xrr, xnu, xrt, xra, xrk, xan, xrs, xdo, xdc, xhe, xfr, xta, xso, xsr, xsn, xsx, xsc, xsd, xse, xsk, xdp, xrg) (nI a) (nI b) := by
  have ia : vp_in (nI a) 90 := vp_in_nI ha (by omega)
  have ib : vp_in (nI b) 90 := vp_in_nI hb (by omega)
  have ca : (nI a).toNatClampNeg = a := nI_clamp (by omega)
  have cb : (nI b).toNatClampNeg = b := nI_clamp (by omega)
  unfold wpX_transferRecord
  refine And.intro ia (And.intro ib (nm_r (e' := upd xrn b (xrn a)) (by rw [ca, cb]) (And.intro ia (And.intro ib ?_))))
  refine nm_r (e' := upd xrc b (vp_nar .byte (xrc a))) (by rw [ca, cb]) (And.intro ia (And.intro ib ?_))
  exact nm_r (e' := vp_updL xrr b (xrr a)) (by rw [ca, cb]) hp
theorem xs_tr59 (ha : a < 5) (hb : b < 5) (hne : a ≠ b) (hp6 : p < 6) : ∀ (n i : Nat) (rn rc : Nat → Int32) (rr : Nat → Int64), i ≤ 3 → 3 - i < n →
    (∀ (rn' rc' : Nat → Int32) (rr' : Nat → Int64), (∀ c, i ≤ c → c < 3 → rn' (18 * b + 3 * p + c) = rn (18 * a + 3 * p + c) ∧ rc' (18 * b + 3 * p + c) = vp_nar .byte (rc (18 * a + 3 * p + c)) ∧ rr' (18 * b + 3 * p + c) = rr (18 * a + 3 * p + c)) →
      (∀ j, j < 18 * b + 3 * p + i ∨ 18 * b + 3 * p + 3 ≤ j → rn' j = rn j ∧ rc' j = rc j ∧ rr' j = rr j) → pos (xWC, xLV, xPF, xLO, xEX, xWS, xDR, xVT, xVV, xOC, xCH, xcp, xcc, xwi, xtg, xst, rn', rc', rr', xnu, xrt, xra, xrk, xan, xrs, xdo, xdc, xhe, xfr, xta, xso, xsr, xsn, xsx, xsc, xsd, xse, xsk, xdp, xrg)) →
    wX_transfer_59 pos (nI a) (nI b) (nI p) n (nI i) xWC xLV xPF xLO xEX xWS xDR xVT xVV xOC xCH xcp xcc xwi xtg xst rn rc rr xnu xrt xra xrk xan xrs xdo xdc xhe xfr xta xso xsr xsn xsx xsc xsd xse xsk xdp xrg := by
  intro n
  induction n with
  | zero => intro i rn rc rr _ h; omega
  | succ n ih =>
    intro i rn rc rr hi hn hp
    refine pk_le 3 i (fun h => ?_) (fun h => ?_)
    · exact hp rn rc rr (fun c h1 h2 => by omega) (fun j _ => ⟨rfl, rfl, rfl⟩)
    · rw [ar_18c, ar_18c]
      refine xs_trec (by omega) (by omega) ?_
      refine nm_r (nI_1 i) (ih (i + 1) _ _ _ (by omega) (by omega) (fun rn' rc' rr' h1 h2 => hp rn' rc' rr' (fun c hc hc3 => ?_) (fun j hj => ?_)))
      · by_cases e : c = i
        · obtain ⟨q1, q2, q3⟩ := h2 (18 * b + 3 * p + c) (by omega)
          rw [q1, q2, q3, e, pk_us, pk_us, pk_uLs]
          exact ⟨rfl, rfl, rfl⟩
        · obtain ⟨q1, q2, q3⟩ := h1 c (by omega) hc3
          rw [pk_un (by omega)] at q1
          rw [pk_un (by omega)] at q2
          rw [pk_uLn (by omega)] at q3
          exact ⟨q1, q2, q3⟩
      · obtain ⟨q1, q2, q3⟩ := h2 j (by omega)
        rw [pk_un (by omega)] at q1
        rw [pk_un (by omega)] at q2
        rw [pk_uLn (by omega)] at q3
        exact ⟨q1, q2, q3⟩
theorem xs_tr9 {E : Nat → Option Int64} (ha : a < 5) (hb : b < 5) (hne : a ≠ b) (hp6 : p < 6) (h0 : ∀ k, k < 18 → k % 6 = p → c a k = E k ∧ c b k = none) :
    ∀ (n i x : Nat) (tg : Nat → Int32) (st : Nat → Int64), x = p + 6 * i → i ≤ 3 → 3 - i < n → tb_M tg st (da_ct c E b p x) →
    (∀ (tg' : Nat → Int32) (st' : Nat → Int64), tb_M tg' st' (da_ct c E b p 18) → ∃ n59 : Nat, wX_transfer_59 pos (nI a) (nI b) (nI p) n59 0 xWC xLV xPF xLO xEX xWS xDR xVT xVV xOC xCH xcp xcc xwi tg' st' xrn xrc xrr xnu xrt xra xrk xan xrs xdo xdc xhe xfr xta xso xsr xsn xsx xsc xsd xse xsk xdp xrg) →
    wX_transfer_9 pos (nI a) (nI b) (nI p) n (nI x) xWC xLV xPF xLO xEX xWS xDR xVT xVV xOC xCH xcp xcc xwi tg st xrn xrc xrr xnu xrt xra xrk xan xrs xdo xdc xhe xfr xta xso xsr xsn xsx xsc xsd xse xsk xdp xrg := by
  intro n
  induction n with
  | zero => intro i x tg st _ _ h; omega
  | succ n ih =>
    intro i x tg st hx hi hn h hp
    refine pk_le 18 x (fun h18 => ?_) (fun h18 => ?_)
    · refine hp tg st (tb_M_congr h (fun m' j _ hj => ?_))
      show (if m' = b ∧ j % 6 = p ∧ j < 18 then E j else c m' j) = (if m' = b ∧ j % 6 = p ∧ j < x then E j else c m' j)
      by_cases e : m' = b ∧ j % 6 = p
      · rw [if_pos ⟨e.1, e.2, hj⟩, if_pos ⟨e.1, e.2, by omega⟩]
      · rw [if_neg (fun z => e ⟨z.1, z.2.1⟩), if_neg (fun z => e ⟨z.1, z.2.1⟩)]
    · have hxp : x % 6 = p := by omega
      obtain ⟨e1, e2⟩ := h0 x h18 hxp
      have ea : da_ct c E b p x a x = E x := by rw [← e1]; exact if_neg (fun z => hne z.1)
      -- the stage behind it, from contents with E x at (b, x)
      have hst : ∀ (tg' : Nat → Int32) (st' : Nat → Int64) (o : Option Int64), o = E x → tb_M tg' st' (tb_c2 (da_ct c E b p x) b x o) → tb_M tg' st' (da_ct c E b p (x + 6)) := by
        intro tg' st' o eo h'
        refine tb_M_congr h' (fun m' j _ hj => ?_)
        by_cases e : m' = b ∧ j = x
        · rw [e.1, e.2, tb_c2s, eo]
          exact if_pos ⟨rfl, hxp, by omega⟩
        · rw [tb_c2n e]
          show (if m' = b ∧ j % 6 = p ∧ j < x + 6 then E j else c m' j) = (if m' = b ∧ j % 6 = p ∧ j < x then E j else c m' j)
          by_cases e' : m' = b ∧ j % 6 = p ∧ j < x
          · rw [if_pos e', if_pos ⟨e'.1, e'.2.1, by omega⟩]
          · rw [if_neg e', if_neg (by intro z; omega)]
      refine xs_slot ha h18 h (fun q hq _ _ hc => ?_)
      have ein : vp_in (nI q) 160 := vp_in_nI hq (by omega)
      have ec : (nI q).toNatClampNeg = q := nI_clamp (by omega)
      rw [ea] at hc
      refine And.intro ein (br_c (fun ht => ?_) (fun ht => And.intro ein ?_))
      · rw [ec] at ht
        have eE : E x = none := by
          rcases hc with z | z
          · exact z.2
          · exact absurd ht z.1
        refine nm_r (ar_6 x) (ih (i + 1) (x + 6) tg st (by omega) (by omega) (by omega) (hst tg st none eE.symm (tb_M_congr h (fun m' j _ hj => ?_))) hp)
        by_cases e : m' = b ∧ j = x
        · rw [e.1, e.2, tb_c2s]
          refine ((if_neg (by omega)).trans e2).symm
        · exact tb_c2n e
      · rw [ec] at ht ⊢
        have eE : E x = some (st q) := by
          rcases hc with z | z
          · exact absurd z.1 ht
          · exact z.2
        refine xs_store hb h18 1 (st q) h (fun tg' st' h' _ => ?_)
        rw [if_neg (by decide)] at h'
        exact nm_r (ar_6 x) (ih (i + 1) (x + 6) tg' st' (by omega) (by omega) (by omega) (hst tg' st' _ eE.symm h') hp)
theorem xs_transfer {H : Nat → Nat → Bool} {E : Nat → Option Int64} {N C : Nat → Int32} {R : Nat → Int64} (ha : a < 5) (hb : b < 5) (hne : a ≠ b) (hp6 : p < 6)
    (h : da_D H E N C R xtg xst xrn xrc xrr) (hH : H p a = true) (hC : ∀ j, j < 18 → N j ≠ 0 → vp_nar .byte (C j) = C j)
    (hp : ∀ (tg' : Nat → Int32) (st' : Nat → Int64) (rn' rc' : Nat → Int32) (rr' : Nat → Int64), da_D (da_h H p b true) E N C R tg' st' rn' rc' rr' → pos (xWC, xLV, xPF, xLO, xEX, xWS, xDR, xVT, xVV, xOC, xCH, xcp, xcc, xwi, tg', st', rn', rc', rr', xnu, xrt, xra, xrk, xan, xrs, xdo, xdc, xhe, xfr, xta, xso, xsr, xsn, xsx, xsc, xsd, xse, xsk, xdp, xrg)) :
    wpX_transfer pos (xWC, xLV, xPF, xLO, xEX, xWS, xDR, xVT, xVV, xOC, xCH, xcp, xcc, xwi, xtg, xst, xrn, xrc, xrr, xnu, xrt, xra, xrk, xan, xrs, xdo, xdc, xhe, xfr, xta, xso, xsr, xsn, xsx, xsc, xsd, xse, xsk, xdp, xrg) (nI a) (nI b) (nI p) := by
  unfold wpX_transfer
  refine xs_clear hb hp6 h (fun tg1 st1 rn1 h1 => ?_)
  refine ⟨4, xs_tr9 (c := fun m k => if da_h H p b false (k % 6) m = true then E k else none) (E := E) ha hb hne hp6 ?_ 4 0 p tg1 st1 (by omega) (by omega) (by omega) (tb_M_congr h1.1 (fun m' j _ hj => ?_)) (fun tg' st' h' => ⟨4, ?_⟩)⟩
  · intro k hk e
    rw [e, da_hs]
    refine ⟨?_, if_neg (by decide)⟩
    rw [da_hn (fun z => hne z.2)]
    exact if_pos hH
  · exact if_neg (by intro z; omega)
  · refine xs_tr59 ha hb hne hp6 4 0 rn1 xrc xrr (by omega) (by omega) (fun rn' rc' rr' k1 k2 => hp tg' st' rn' rc' rr' ⟨tb_M_congr h' (fun m' j _ hj => ?_), fun m' p' c' hm' hp' hc' => ?_⟩)
    · show (if da_h H p b true (j % 6) m' = true then E j else none) = (if m' = b ∧ j % 6 = p ∧ j < 18 then E j else if da_h H p b false (j % 6) m' = true then E j else none)
      by_cases e : m' = b ∧ j % 6 = p
      · rw [e.1, e.2, da_hs, if_pos rfl, if_pos ⟨rfl, rfl, hj⟩]
      · rw [da_hn (fun z => e ⟨z.2, z.1⟩), da_hn (fun z => e ⟨z.2, z.1⟩)]
        exact (if_neg (fun z => e ⟨z.1, z.2.1⟩)).symm
    · by_cases e : p' = p ∧ m' = b
      · rw [e.1, e.2, da_hs]
        obtain ⟨q1, q2, q3⟩ := k1 c' (by omega) hc'
        obtain ⟨_, g2⟩ := h1.2 a p c' ha hp6 hc'
        rw [da_hn (fun z => hne z.2)] at g2
        obtain ⟨r1, r2⟩ := g2 hH
        refine ⟨fun z => absurd z (by decide), fun _ => ⟨q1.trans r1, fun hN => ?_⟩⟩
        obtain ⟨r3, r4⟩ := r2 hN
        refine ⟨?_, q3.trans r4⟩
        rw [q2, r3]
        exact hC _ (by omega) hN
      · obtain ⟨g1, g2⟩ := h1.2 m' p' c' hm' hp' hc'
        rw [da_hn e] at g1 g2
        rw [da_hn e]
        obtain ⟨q1, q2, q3⟩ := k2 (18 * m' + 3 * p' + c') (by omega)
        rw [q1, q2, q3]
        exact ⟨g1, g2⟩
end
end
section
/-! lists of copies: pure -/
def li_A (a : Nat → Int32) (b : Nat) (l : List Nat) : Prop := ∀ i x, l[i]? = some x → a (b + i) = nI x
theorem li_lt {l : List Nat} {i x : Nat} (h : l[i]? = some x) : i < l.length := (List.getElem?_eq_some_iff.mp h).1
theorem li_snoc {a : Nat → Int32} {b : Nat} {l : List Nat} {x : Nat} (h : li_A a b l) : li_A (upd a (b + l.length) (nI x)) b (l ++ [x]) := by
  intro i y hy
  by_cases e : i < l.length
  · rw [List.getElem?_append_left e] at hy
    rw [pk_un (by omega)]
    exact h i y hy
  · rw [List.getElem?_append_right (by omega)] at hy
    have h1 : i - l.length < 1 := li_lt hy
    have e1 : i = l.length := by omega
    rw [e1, Nat.sub_self] at hy
    have e2 : x = y := Option.some.inj hy
    rw [e1, pk_us, e2]
theorem li_keep {a a' : Nat → Int32} {b : Nat} {l : List Nat} (h : li_A a b l) (e : ∀ i, i < l.length → a' (b + i) = a (b + i)) : li_A a' b l := by
  intro i x hx
  rw [e i (li_lt hx)]
  exact h i x hx
theorem li_nil {a : Nat → Int32} {b : Nat} : li_A a b [] := fun i x h => absurd (li_lt h) (Nat.not_lt_zero i)
/-- the wished list of partition p, of the first i places from p on -/
def li_wa (B L p : Nat) : Nat → List Nat
  | 0 => []
  | i + 1 => if (li_wa B L p i).length ≤ B ∧ L.testBit ((p + i) % 5) = true then li_wa B L p i ++ [(p + i) % 5] else li_wa B L p i
def li_W (B L p : Nat) : List Nat := li_wa B L p 5
theorem li_wa_t {B L p i : Nat} (h : (li_wa B L p i).length ≤ B) (h' : L.testBit ((p + i) % 5) = true) : li_wa B L p (i + 1) = li_wa B L p i ++ [(p + i) % 5] := if_pos ⟨h, h'⟩
theorem li_wa_f {B L p i : Nat} (h : ¬ ((li_wa B L p i).length ≤ B ∧ L.testBit ((p + i) % 5) = true)) : li_wa B L p (i + 1) = li_wa B L p i := if_neg h
theorem li_wa_len (B L p : Nat) : ∀ i, (li_wa B L p i).length ≤ B + 1 ∧ (li_wa B L p i).length ≤ i := by
  intro i
  induction i with
  | zero => exact ⟨Nat.zero_le _, Nat.le_refl _⟩
  | succ i ih =>
    by_cases h : (li_wa B L p i).length ≤ B ∧ L.testBit ((p + i) % 5) = true
    · rw [li_wa_t h.1 h.2, List.length_append]
      have : [(p + i) % 5].length = 1 := rfl
      omega
    · rw [li_wa_f h]; omega
theorem li_wa_stop {B L p i : Nat} (h : B < (li_wa B L p i).length) : ∀ d, li_wa B L p (i + d) = li_wa B L p i := by
  intro d
  induction d with
  | zero => rfl
  | succ d ih =>
    rw [← Nat.add_assoc, li_wa_f (by rw [ih]; omega), ih]
def li_chk (B L p : Nat) : Bool := decide ((li_W B L p).Nodup) && decide ((li_W B L p).length ≤ 3) && (li_W B L p).all (fun x => decide (x < 5) && L.testBit x) && (L == 0 || !(li_W B L p).isEmpty)
theorem li_chk_ok : ∀ B, B < 3 → ∀ L, L < 32 → ∀ p, p < 6 → li_chk B L p = true := by decide +kernel
theorem li_W_ok : ∀ B, B < 3 → ∀ L, L < 32 → ∀ p, p < 6 → (li_W B L p).Nodup ∧ (li_W B L p).length ≤ 3 ∧ (∀ x, x ∈ li_W B L p → x < 5 ∧ L.testBit x = true) ∧ (L ≠ 0 → li_W B L p ≠ []) := by
  intro B hB L hL p hp
  have h := li_chk_ok B hB L hL p hp
  unfold li_chk at h
  rw [Bool.and_eq_true, Bool.and_eq_true, Bool.and_eq_true, decide_eq_true_iff, decide_eq_true_iff] at h
  obtain ⟨⟨⟨h1, h2⟩, h3⟩, h4⟩ := h
  refine ⟨h1, h2, fun x hx => ?_, fun h0 z => ?_⟩
  · have := List.all_eq_true.mp h3 x hx
    rw [Bool.and_eq_true, decide_eq_true_iff] at this
    exact this
  · rw [z] at h4
    simp at h4
    exact h0 h4
/-- the set of a list, as bits -/
def li_mk (l : List Nat) : Nat := l.foldl (fun s m => s ||| 2 ^ m) 0
theorem li_mk_tb (m : Nat) : ∀ (l : List Nat) (s : Nat), (l.foldl (fun s m => s ||| 2 ^ m) s).testBit m = (s.testBit m || decide (m ∈ l)) := by
  intro l
  induction l with
  | nil => intro s; simp
  | cons a l ih =>
    intro s
    rw [List.foldl_cons, ih, Nat.testBit_or, Nat.testBit_two_pow]
    by_cases e : m = a
    · subst e; simp
    · have e' : ¬ a = m := fun z => e z.symm
      simp [e, e']
theorem li_mk_bit {l : List Nat} {m : Nat} : (li_mk l).testBit m = true ↔ m ∈ l := by
  unfold li_mk
  rw [li_mk_tb]
  simp
theorem li_mk_lt' : ∀ (l : List Nat) (s : Nat), s < 32 → (∀ x, x ∈ l → x < 5) → l.foldl (fun s m => s ||| 2 ^ m) s < 32 := by
  intro l
  induction l with
  | nil => intro s hs _; exact hs
  | cons a l ih =>
    intro s hs h
    rw [List.foldl_cons]
    refine ih _ ?_ (fun x hx => h x (List.mem_cons_of_mem _ hx))
    have ha := h a List.mem_cons_self
    have h2 : 2 ^ a < 2 ^ 5 := Nat.pow_lt_pow_right (by decide) ha
    exact Nat.or_lt_two_pow (n := 5) hs h2
theorem li_mk_lt {l : List Nat} (h : ∀ x, x ∈ l → x < 5) : li_mk l < 32 := li_mk_lt' l 0 (by decide) h
theorem li_mk_take {l : List Nat} {i x : Nat} (h : l[i]? = some x) : li_mk (l.take (i + 1)) = li_mk (l.take i) ||| 2 ^ x := by
  obtain ⟨hi, e⟩ := List.getElem?_eq_some_iff.mp h
  unfold li_mk
  rw [List.take_succ_eq_append_getElem hi, List.foldl_append, e]
  rfl
theorem li_mk_one {l : List Nat} {m : Nat} (hn : l.Nodup) : li_mk l = 2 ^ m ↔ l = [m] := by
  constructor
  · intro h
    have hm : ∀ x, x ∈ l ↔ x = m := by
      intro x
      rw [← li_mk_bit, h, Nat.testBit_two_pow, decide_eq_true_iff]
      exact ⟨fun e => e.symm, fun e => e.symm⟩
    match l, hn, hm with
    | [], _, hm => exact absurd ((hm m).mpr rfl) (by simp)
    | [a], _, hm => rw [(hm a).mp (by simp)]
    | a :: b :: t, hn, hm =>
      have e1 := (hm a).mp (by simp)
      have e2 := (hm b).mp (by simp)
      rw [List.nodup_cons] at hn
      exact absurd (by rw [e1, e2]; simp) hn.1
  · intro h
    rw [h]
    show 0 ||| 2 ^ m = 2 ^ m
    exact Nat.zero_or _
def li_rm (l : List Nat) (m : Nat) : List Nat := l.filter (fun x => x != m)
theorem li_rm_mem {l : List Nat} {m x : Nat} : x ∈ li_rm l m ↔ x ∈ l ∧ x ≠ m := by
  unfold li_rm
  rw [List.mem_filter, bne_iff_ne]
theorem li_rm_no {l : List Nat} {m : Nat} (h : ¬ m ∈ l) : li_rm l m = l := by
  unfold li_rm
  rw [List.filter_eq_self]
  intro a ha
  rw [bne_iff_ne]
  intro e
  rw [e] at ha
  exact h ha
theorem li_rm_len (l : List Nat) (m : Nat) : (li_rm l m).length ≤ l.length := List.length_filter_le _ _
theorem li_rm_nodup {l : List Nat} {m : Nat} (h : l.Nodup) : (li_rm l m).Nodup := List.Nodup.sublist List.filter_sublist h
theorem li_rm_take {l : List Nat} {m i x : Nat} (h : l[i]? = some x) : li_rm (l.take (i + 1)) m = if x = m then li_rm (l.take i) m else li_rm (l.take i) m ++ [x] := by
  obtain ⟨hi, e⟩ := List.getElem?_eq_some_iff.mp h
  unfold li_rm
  rw [List.take_succ_eq_append_getElem hi, List.filter_append, e]
  by_cases z : x = m
  · rw [if_pos z]; simp [z]
  · rw [if_neg z]; simp [z]
/-- the list of p behind the going of m, if L are live then -/
def li_d (B L : Nat) (l : List Nat) (m p : Nat) : List Nat := if li_rm l m = [] then (li_W B L p).take 1 else li_rm l m
def li_u (ls : Nat → List Nat) (p : Nat) (l : List Nat) : Nat → List Nat := fun q => if q = p then l else ls q
theorem li_us {ls : Nat → List Nat} {p : Nat} {l : List Nat} : li_u ls p l p = l := if_pos rfl
theorem li_un {ls : Nat → List Nat} {p q : Nat} {l : List Nat} (h : q ≠ p) : li_u ls p l q = ls q := if_neg h
def li_R (cp cc : Nat → Int32) (ls : Nat → List Nat) : Prop := ∀ p, p < 6 → cc p = nI (ls p).length ∧ li_A cp (5 * p) (ls p)
def li_K (ls : Nat → List Nat) : Prop := ∀ p, p < 6 → (ls p).length ≤ 5 ∧ ∀ x, x ∈ ls p → x < 5
theorem li_R_put {cp cc cp' cc' : Nat → Int32} {ls : Nat → List Nat} {p : Nat} {l : List Nat} (h : li_R cp cc ls) (hK : li_K ls)
    (h1 : ∀ q, q < 5 * p ∨ 5 * p + 5 ≤ q → cp' q = cp q) (h2 : ∀ q, q ≠ p → cc' q = cc q) (h3 : cc' p = nI l.length) (h4 : li_A cp' (5 * p) l) : li_R cp' cc' (li_u ls p l) := by
  intro q hq
  by_cases e : q = p
  · rw [e, li_us]; exact ⟨h3, h4⟩
  · rw [li_un e]
    obtain ⟨g1, g2⟩ := h q hq
    have k := (hK q hq).1
    exact ⟨by rw [h2 q e]; exact g1, li_keep g2 (fun i hi => h1 _ (by omega))⟩
theorem li_K_put {ls : Nat → List Nat} {p : Nat} {l : List Nat} (hK : li_K ls) (h1 : l.length ≤ 5) (h2 : ∀ x, x ∈ l → x < 5) : li_K (li_u ls p l) := by
  intro q hq
  by_cases e : q = p
  · rw [e, li_us]; exact ⟨h1, h2⟩
  · rw [li_un e]; exact hK q hq
theorem li_mem {l : List Nat} {i x : Nat} (h : l[i]? = some x) : x ∈ l := List.mem_of_getElem? h
theorem li_W1 {B L p : Nat} (hB : B < 3) (hL : L < 32) (hp : p < 6) : ((li_W B L p).take 1).length ≤ 5 ∧ ∀ x, x ∈ (li_W B L p).take 1 → x < 5 ∧ L.testBit x = true := by
  obtain ⟨_, h2, h3, _⟩ := li_W_ok B hB L hL p hp
  refine ⟨?_, fun x hx => h3 x (List.mem_of_mem_take hx)⟩
  rw [List.length_take]
  omega
theorem li_d_K {B L p m : Nat} {l : List Nat} (hB : B < 3) (hL : L < 32) (hp : p < 6) (h1 : l.length ≤ 5) (h2 : ∀ x, x ∈ l → x < 5) : (li_d B L l m p).length ≤ 5 ∧ ∀ x, x ∈ li_d B L l m p → x < 5 := by
  unfold li_d
  by_cases e : li_rm l m = []
  · rw [if_pos e]
    obtain ⟨g1, g2⟩ := li_W1 hB hL hp
    exact ⟨g1, fun x hx => (g2 x hx).1⟩
  · rw [if_neg e]
    have := li_rm_len l m
    exact ⟨by omega, fun x hx => h2 x (li_rm_mem.mp hx).1⟩
/-! numbers -/
theorem ar_5 (p : Nat) : (5 : Int32) * nI p = nI (5 * p) := by
  rw [show (5 : Int32) = nI 5 from rfl, pk_mul]
theorem ar_5i (p i : Nat) : (5 : Int32) * nI p + nI i = nI (5 * p + i) := by
  rw [ar_5, nI_add]
theorem ar_3i (p i : Nat) : (3 : Int32) * nI p + nI i = nI (3 * p + i) := by
  rw [show (3 : Int32) = nI 3 from rfl, pk_mul, nI_add]
theorem ar_5r {p i : Nat} (h : p + i < 100) : (nI p + nI i) - (nI p + nI i) / 5 * 5 = nI ((p + i) % 5) := by
  rw [nI_add]
  exact pk_rem (d := 5) (by omega) (by decide) (by decide)
theorem ar_bit1 : ∀ L, L < 32 → ∀ m, m < 5 → ((nI L >>> (nI m &&& 31)) &&& 1 = 1 ↔ L.testBit m = true) := by decide +kernel
theorem ar_bit0 : ∀ L, L < 32 → ∀ m, m < 5 → ((nI L >>> (nI m &&& 31)) &&& 1 = 0 ↔ L.testBit m = false) := by decide +kernel
theorem ar_or : ∀ L, L < 32 → ∀ m, m < 5 → nI L ||| ((1 : Int32) <<< (nI m &&& 31)) = nI (L ||| 2 ^ m) := by decide +kernel
theorem ar_shl : ∀ m, m < 5 → (1 : Int32) <<< (nI m &&& 31) = nI (2 ^ m) := by decide +kernel
/-- the members L without m -/
def li_out (L m : Nat) : Nat := if L.testBit m = true then L - 2 ^ m else L
theorem ar_out : ∀ L, L < 32 → ∀ m, m < 5 → nI L &&& (((1 : Int32) <<< (nI m &&& 31)) ^^^ (-1)) = nI (li_out L m) := by decide +kernel
theorem li_out_lt : ∀ L, L < 32 → ∀ m, m < 5 → li_out L m < 32 := by decide +kernel
theorem li_out_tb : ∀ L, L < 32 → ∀ m, m < 5 → ∀ x, x < 5 → (li_out L m).testBit x = (L.testBit x && x != m) := by decide +kernel
theorem li_or_tb : ∀ L, L < 32 → ∀ m, m < 5 → ∀ x, x < 5 → (L ||| 2 ^ m).testBit x = (L.testBit x || x == m) := by decide +kernel
theorem li_or_lt : ∀ L, L < 32 → ∀ m, m < 5 → L ||| 2 ^ m < 32 := by decide +kernel
theorem li_0 : ∀ L, L < 32 → L ≠ 0 → ∃ m, m < 5 ∧ L.testBit m = true := by
  have h : ∀ L, L < 32 → L ≠ 0 → L.testBit 0 = true ∨ L.testBit 1 = true ∨ L.testBit 2 = true ∨ L.testBit 3 = true ∨ L.testBit 4 = true := by decide +kernel
  intro L hL h0
  rcases h L hL h0 with h | h | h | h | h
  · exact ⟨0, by decide, h⟩
  · exact ⟨1, by decide, h⟩
  · exact ⟨2, by decide, h⟩
  · exact ⟨3, by decide, h⟩
  · exact ⟨4, by decide, h⟩
end
section
section
variable {xWC xLV xPF xLO xEX xWS xDR xVT xCH : Int32} {xVV xOC : Int64} {xcp xcc xwi xtg xrn xrc xnu xrt xra xrk xan xdo xhe xfr xta xso xsr xsn xsx xsc xsd xse xdp : Nat → Int32} {xst xrr xrs xdc xsk xrg : Nat → Int64}
variable {post : Int32 → Prop} {pos : SX → Prop} {B L p m : Nat} {ls : Nat → List Nat}
theorem xl_wanted7 (hB : B < 3) (hL : L < 32) (hp : p < 6) (hWC : xWC = nI (B + 1)) : ∀ (n i : Nat) (wi : Nat → Int32), i ≤ 5 → 5 - i < n → li_A wi 0 (li_wa B L p i) →
    (∀ wi' : Nat → Int32, li_A wi' 0 (li_W B L p) → pos (xWC, xLV, xPF, xLO, xEX, nI (li_W B L p).length, xDR, xVT, xVV, xOC, xCH, xcp, xcc, wi', xtg, xst, xrn, xrc, xrr, xnu, xrt, xra, xrk, xan, xrs, xdo, xdc, xhe, xfr, xta, xso, xsr, xsn, xsx, xsc, xsd, xse, xsk, xdp, xrg)) →
    wX_wanted_7 pos (nI p) (nI L) xWC xLV xPF xLO xEX xDR xVT xVV xOC xCH n (nI i) (nI (li_wa B L p i).length) xcp xcc wi xtg xst xrn xrc xrr xnu xrt xra xrk xan xrs xdo xdc xhe xfr xta xso xsr xsn xsx xsc xsd xse xsk xdp xrg := by
  intro n
  induction n with
  | zero => intro i wi _ h; omega
  | succ n ih =>
    intro i wi hi hn hA hq
    obtain ⟨l1, l2⟩ := li_wa_len B L p i
    refine pk_le 5 i (fun h5 => ?_) (fun h5 => ?_)
    · have e5 : i = 5 := by omega
      subst e5
      exact hq wi hA
    · refine pk_le (B + 1) (li_wa B L p i).length (fun hs => ?_) (fun hs => ?_) hWC
      · have e : li_W B L p = li_wa B L p i := by
          have := li_wa_stop (B := B) (L := L) (p := p) (i := i) (by omega) (5 - i)
          rw [show i + (5 - i) = 5 from by omega] at this
          exact this
        have hq' := hq wi (by rw [e]; exact hA)
        rw [e] at hq'
        exact hq'
      · have hm5 : (p + i) % 5 < 5 := Nat.mod_lt _ (by decide)
        refine And.intro (by decide) (nm_r (ar_5r (by omega)) (br_c (fun hb => ?_) (fun hb => ?_)))
        · have ht := (ar_bit1 L hL _ hm5).mp hb
          have e := li_wa_t (B := B) (by omega) ht
          refine nm_r (nI_1 _) (And.intro (vp_in_nI (by omega) (by omega)) ?_)
          refine nm_r (e' := upd wi (0 + (li_wa B L p i).length) (nI ((p + i) % 5))) (by rw [nI_clamp (by omega), ar_nbb (by omega), Nat.zero_add]) ?_
          refine nm_r (nI_1 i) ?_
          have K := ih (i + 1) (upd wi (0 + (li_wa B L p i).length) (nI ((p + i) % 5))) (by omega) (by omega) (by rw [e]; exact li_snoc hA) hq
          rw [e, List.length_append] at K
          exact K
        · have ht : ¬ L.testBit ((p + i) % 5) = true := fun z => hb ((ar_bit1 L hL _ hm5).mpr z)
          have e := li_wa_f (B := B) (fun z => ht z.2)
          refine nm_r (nI_1 i) ?_
          have K := ih (i + 1) wi (by omega) (by omega) (by rw [e]; exact hA) hq
          rw [e] at K
          exact K
theorem xl_wanted (hB : B < 3) (hL : L < 32) (hp : p < 6) (hWC : xWC = nI (B + 1))
    (hq : ∀ wi' : Nat → Int32, li_A wi' 0 (li_W B L p) → pos (xWC, xLV, xPF, xLO, xEX, nI (li_W B L p).length, xDR, xVT, xVV, xOC, xCH, xcp, xcc, wi', xtg, xst, xrn, xrc, xrr, xnu, xrt, xra, xrk, xan, xrs, xdo, xdc, xhe, xfr, xta, xso, xsr, xsn, xsx, xsc, xsd, xse, xsk, xdp, xrg)) : wpX_wanted pos (xWC, xLV, xPF, xLO, xEX, xWS, xDR, xVT, xVV, xOC, xCH, xcp, xcc, xwi, xtg, xst, xrn, xrc, xrr, xnu, xrt, xra, xrk, xan, xrs, xdo, xdc, xhe, xfr, xta, xso, xsr, xsn, xsx, xsc, xsd, xse, xsk, xdp, xrg) (nI p) (nI L) := by
  unfold wpX_wanted
  exact ⟨6, xl_wanted7 hB hL hp hWC 6 0 xwi (by omega) (by omega) li_nil hq⟩
theorem xl_alone (hp : p < 6) (hm : m < 5) (h : li_R xcp xcc ls) (hK : li_K ls) (hq : ∀ cp' cc' : Nat → Int32, li_R cp' cc' (li_u ls p [m]) → pos (xWC, xLV, xPF, xLO, xEX, xWS, xDR, xVT, xVV, xOC, xCH, cp', cc', xwi, xtg, xst, xrn, xrc, xrr, xnu, xrt, xra, xrk, xan, xrs, xdo, xdc, xhe, xfr, xta, xso, xsr, xsn, xsx, xsc, xsd, xse, xsk, xdp, xrg)) : wpX_alone pos (xWC, xLV, xPF, xLO, xEX, xWS, xDR, xVT, xVV, xOC, xCH, xcp, xcc, xwi, xtg, xst, xrn, xrc, xrr, xnu, xrt, xra, xrk, xan, xrs, xdo, xdc, xhe, xfr, xta, xso, xsr, xsn, xsx, xsc, xsd, xse, xsk, xdp, xrg) (nI p) (nI m) := by
  unfold wpX_alone
  refine And.intro (by rw [ar_5]; exact vp_in_nI (by omega) (by omega)) ?_
  refine nm_r (e' := upd xcp (5 * p) (nI m)) (by rw [ar_5, nI_clamp (by omega), ar_nbb (by omega)]) (And.intro (vp_in_nI hp (by omega)) ?_)
  refine nm_r (e' := upd xcc p (nI 1)) (by rw [nI_clamp (by omega)]; exact congrArg _ (ar_nb (t := 1) (by decide))) ?_
  refine hq _ _ (li_R_put h hK (fun q hq => pk_un (by omega)) (fun q hq => pk_un hq) pk_us ?_)
  intro i x hx
  have h1 : i < 1 := li_lt hx
  have e1 : i = 0 := by omega
  rw [e1] at hx
  have e2 : m = x := Option.some.inj hx
  rw [e1, Nat.add_zero, pk_us, e2]
theorem xl_copies15 (hp : p < 6) (h : li_R xcp xcc ls) (hK : li_K ls) (hq : post (nI (li_mk (ls p)))) : ∀ (n i : Nat), i ≤ (ls p).length → (ls p).length - i < n →
    wX_copies_15 post (nI p) xWC xLV xPF xLO xEX xWS xDR xVT xVV xOC xCH xcp xcc xwi xtg xst xrn xrc xrr xnu xrt xra xrk xan xrs xdo xdc xhe xfr xta xso xsr xsn xsx xsc xsd xse xsk xdp xrg n (nI (li_mk ((ls p).take i))) (nI (5 * p + i)) := by
  intro n
  obtain ⟨g1, g2⟩ := h p hp
  obtain ⟨k1, k2⟩ := hK p hp
  have ec : (5 : Int32) * nI p + xcc (nI p).toNatClampNeg = nI (5 * p + (ls p).length) := by
    rw [nI_clamp (by omega), g1, ar_5i]
  induction n with
  | zero => intro i _ h; omega
  | succ n ih =>
    intro i hi hn
    refine And.intro (vp_in_nI hp (by omega)) (pk_le (5 * p + (ls p).length) (5 * p + i) (fun hl => ?_) (fun hl => ?_) ec)
    · have e : i = (ls p).length := by omega
      rw [e, List.take_length]
      exact hq
    · have hx := List.getElem?_eq_getElem (l := ls p) (i := i) (by omega)
      generalize hgx : (ls p)[i]'(by omega) = x at hx
      have hx5 := k2 x (li_mem hx)
      have hlt : li_mk ((ls p).take i) < 32 := li_mk_lt (fun y hy => k2 y (List.mem_of_mem_take hy))
      refine And.intro (vp_in_nI (by omega) (by omega)) ?_
      refine nm_r (e' := nI (li_mk ((ls p).take (i + 1)))) (by rw [nI_clamp (by omega), g2 i x hx, ar_or _ hlt x hx5, li_mk_take hx]) ?_
      exact nm_r (nI_1 _) (ih (i + 1) (by omega) (by omega))
theorem xl_copies (hp : p < 6) (h : li_R xcp xcc ls) (hK : li_K ls) (hq : post (nI (li_mk (ls p)))) : wpX_copies post (xWC, xLV, xPF, xLO, xEX, xWS, xDR, xVT, xVV, xOC, xCH, xcp, xcc, xwi, xtg, xst, xrn, xrc, xrr, xnu, xrt, xra, xrk, xan, xrs, xdo, xdc, xhe, xfr, xta, xso, xsr, xsn, xsx, xsc, xsd, xse, xsk, xdp, xrg) (nI p) := by
  unfold wpX_copies
  refine br_f (nI_pos (by omega)) (br_f (nI_ge (b := 6) hp (by decide)) ?_)
  refine br_f (by decide) (nm_r (ar_5 p) ⟨(ls p).length + 1, ?_⟩)
  exact xl_copies15 hp h hK hq _ 0 (by omega) (by omega)
theorem xl_withdraw7 (hB : B < 3) (hL : L < 32) (hp : p < 6) (hm : m < 5) (hWC : xWC = nI (B + 1)) (hLV : xLV = nI L) (h : li_R xcp xcc ls) (hK : li_K ls)
    (hq : ∀ (ws : Int32) (cp' cc' wi' : Nat → Int32), li_R cp' cc' (li_u ls p (li_d B L (ls p) m p)) → pos (xWC, xLV, xPF, if li_rm (ls p) m = [] then xLO + 1 else xLO, xEX, ws, xDR, xVT, xVV, xOC, xCH, cp', cc', wi', xtg, xst, xrn, xrc, xrr, xnu, xrt, xra, xrk, xan, xrs, xdo, xdc, xhe, xfr, xta, xso, xsr, xsn, xsx, xsc, xsd, xse, xsk, xdp, xrg)) :
    ∀ (n i : Nat) (cp : Nat → Int32), i ≤ (ls p).length → (ls p).length - i < n → li_A cp (5 * p) (li_rm ((ls p).take i) m) → (∀ j, i ≤ j → cp (5 * p + j) = xcp (5 * p + j)) → (∀ q, q < 5 * p ∨ 5 * p + 5 ≤ q → cp q = xcp q) →
    wX_withdraw_7 pos (nI p) (nI m) xWC xLV xPF xLO xEX xWS xDR xVT xVV xOC xCH n (nI (li_rm ((ls p).take i) m).length) (nI (5 * p + i)) cp xcc xwi xtg xst xrn xrc xrr xnu xrt xra xrk xan xrs xdo xdc xhe xfr xta xso xsr xsn xsx xsc xsd xse xsk xdp xrg := by
  intro n
  obtain ⟨g1, g2⟩ := h p hp
  obtain ⟨k1, k2⟩ := hK p hp
  have ec : (5 : Int32) * nI p + xcc (nI p).toNatClampNeg = nI (5 * p + (ls p).length) := by
    rw [nI_clamp (by omega), g1, ar_5i]
  have ip : vp_in (nI p) 6 := vp_in_nI hp (by omega)
  induction n with
  | zero => intro i cp _ h; omega
  | succ n ih =>
    intro i cp hi hn hA hB1 hB2
    have hrl : (li_rm ((ls p).take i) m).length ≤ i := Nat.le_trans (li_rm_len _ _) (by rw [List.length_take]; omega)
    refine And.intro ip (pk_le (5 * p + (ls p).length) (5 * p + i) (fun hl => And.intro ip ?_) (fun hl => And.intro (vp_in_nI (by omega) (by omega)) ?_) ec)
    · have e : i = (ls p).length := by omega
      rw [e, List.take_length] at hA hrl ⊢
      refine nm_r (e' := upd xcc p (nI (li_rm (ls p) m).length)) (by rw [nI_clamp (by omega), ar_nbb (by omega)]) ?_
      have hR : li_R cp (upd xcc p (nI (li_rm (ls p) m).length)) (li_u ls p (li_rm (ls p) m)) := li_R_put h hK hB2 (fun q hq => pk_un hq) pk_us hA
      have hK2 : li_K (li_u ls p (li_rm (ls p) m)) := li_K_put hK (by omega) (fun x hx => k2 x (li_rm_mem.mp hx).1)
      refine pk_le (li_rm (ls p) m).length 0 (fun h0 => ?_) (fun h0 => ?_)
      · have e0 : li_rm (ls p) m = [] := List.length_eq_zero_iff.mp (by omega)
        refine nm_e ?_
        rw [hLV]
        refine xl_wanted hB hL hp hWC (fun wi' hw => ?_)
        obtain ⟨w1, w2, w3, _⟩ := li_W_ok B hB L hL p hp
        refine pk_le (li_W B L p).length 0 (fun hw0 => ?_) (fun hw0 => ?_)
        · have ew : li_W B L p = [] := List.length_eq_zero_iff.mp (by omega)
          have hd : li_d B L (ls p) m p = li_rm (ls p) m := by
            unfold li_d; rw [if_pos e0, ew, e0]; rfl
          have hq' := hq (nI (li_W B L p).length) cp (upd xcc p (nI (li_rm (ls p) m).length)) wi' (by rw [hd]; exact hR)
          rw [if_pos e0, hLV] at hq'
          exact hq'
        · have hx := List.getElem?_eq_getElem (l := li_W B L p) (i := 0) (by omega)
          generalize hgx : (li_W B L p)[0]'(by omega) = x at hx
          have hx5 := (w3 x (li_mem hx)).1
          have ew := hw 0 x hx
          rw [Nat.zero_add] at ew
          have hd : li_d B L (ls p) m p = [x] := by
            unfold li_d; rw [if_pos e0, List.take_succ_eq_append_getElem (by omega), hgx]; rfl
          rw [ew]
          refine xl_alone hp hx5 hR hK2 (fun cp' cc' hR' => ?_)
          have hq' := hq (nI (li_W B L p).length) cp' cc' wi' (by
            rw [hd]
            intro q hq6
            have := hR' q hq6
            by_cases e2 : q = p
            · rw [e2, li_us] at this ⊢; exact this
            · rw [li_un e2, li_un e2] at this; rw [li_un e2]; exact this)
          rw [if_pos e0, hLV] at hq'
          exact hq'
      · have e0 : ¬ li_rm (ls p) m = [] := by intro z; rw [z] at h0; exact absurd h0 (by decide)
        have hd : li_d B L (ls p) m p = li_rm (ls p) m := by unfold li_d; rw [if_neg e0]
        have hq' := hq xWS cp (upd xcc p (nI (li_rm (ls p) m).length)) xwi (by rw [hd]; exact hR)
        rw [if_neg e0] at hq'
        exact hq'
    · have hx := List.getElem?_eq_getElem (l := ls p) (i := i) (by omega)
      generalize hgx : (ls p)[i]'(by omega) = x at hx
      have hx5 := k2 x (li_mem hx)
      have e2 := li_rm_take (m := m) hx
      have ex : cp (nI (5 * p + i)).toNatClampNeg = nI x := by rw [nI_clamp (by omega), hB1 i (by omega)]; exact g2 i x hx
      refine br_c (fun hc => ?_) (fun hc => ?_)
      · rw [ex, nI_eq (by omega) (by omega)] at hc
        rw [if_pos hc] at e2
        refine nm_r (nI_1 _) ?_
        have K := ih (i + 1) cp (by omega) (by omega) (by rw [e2]; exact hA) (fun j hj => hB1 j (by omega)) hB2
        rw [e2] at K
        exact K
      · rw [ex, nI_eq (by omega) (by omega)] at hc
        rw [if_neg hc] at e2
        refine nm_r (nI_1 _) (And.intro (vp_in_nI (by omega) (by omega)) (And.intro (by rw [ar_5i]; exact vp_in_nI (by omega) (by omega)) ?_))
        refine nm_r (e' := upd cp (5 * p + (li_rm ((ls p).take i) m).length) (nI x)) (by rw [ex, ar_5i, nI_clamp (by omega), ar_nb (by omega)]) ?_
        refine nm_r (nI_1 _) ?_
        have K := ih (i + 1) (upd cp (5 * p + (li_rm ((ls p).take i) m).length) (nI x)) (by omega) (by omega) (by rw [e2]; exact li_snoc hA) (fun j hj => by rw [pk_un (by omega)]; exact hB1 j (by omega)) (fun q hq => by rw [pk_un (by omega)]; exact hB2 q hq)
        rw [e2, List.length_append] at K
        exact K
theorem xl_withdraw (hB : B < 3) (hL : L < 32) (hp : p < 6) (hm : m < 5) (hWC : xWC = nI (B + 1)) (hLV : xLV = nI L) (h : li_R xcp xcc ls) (hK : li_K ls)
    (hq : ∀ (ws : Int32) (cp' cc' wi' : Nat → Int32), li_R cp' cc' (li_u ls p (li_d B L (ls p) m p)) → pos (xWC, xLV, xPF, if li_rm (ls p) m = [] then xLO + 1 else xLO, xEX, ws, xDR, xVT, xVV, xOC, xCH, cp', cc', wi', xtg, xst, xrn, xrc, xrr, xnu, xrt, xra, xrk, xan, xrs, xdo, xdc, xhe, xfr, xta, xso, xsr, xsn, xsx, xsc, xsd, xse, xsk, xdp, xrg)) :
    wpX_withdraw pos (xWC, xLV, xPF, xLO, xEX, xWS, xDR, xVT, xVV, xOC, xCH, xcp, xcc, xwi, xtg, xst, xrn, xrc, xrr, xnu, xrt, xra, xrk, xan, xrs, xdo, xdc, xhe, xfr, xta, xso, xsr, xsn, xsx, xsc, xsd, xse, xsk, xdp, xrg) (nI p) (nI m) := by
  unfold wpX_withdraw
  refine nm_r (ar_5 p) ⟨(ls p).length + 1, ?_⟩
  exact xl_withdraw7 hB hL hp hm hWC hLV h hK hq _ 0 xcp (by omega) (by omega) li_nil (fun _ _ => rfl) (fun _ _ => rfl)
end
end
section
theorem bo_0 : vp_nar .boolean 0 = 0 := rfl
theorem bo_1 : vp_nar .boolean 1 = 1 := rfl
/-- the reference's entries against E -/
def ye_E (ha : Nat → Int32) (va : Nat → Int64) (E : Nat → Option Int64) : Prop := ∀ k, k < 18 → (ha k = 0 ∧ E k = none) ∨ (ha k = 1 ∧ E k = some (va k))
section
variable {yBK yFA yLO yEX yVH : Int32} {yVV yOC : Int64} {ylv yls ysz yha yrn yrc yop yle ypa ynu yqt yqk yqa yon ywa : Nat → Int32} {yva yrr yar yst ysh : Nat → Int64}
variable {post : Int32 → Prop} {poi : Int32 → SY → Prop} {pos : SY → Prop} {B L p m : Nat} {ls : Nat → List Nat}
theorem yl_want5 {but : Int32} (hB : B < 3) (hp : p < 6) (hBK : yBK = nI B) (hl : ∀ x, x < 5 → (L.testBit x = true ↔ (¬ ylv x = 0 ∧ ¬ nI x = but))) :
    ∀ (n i : Nat) (wn : Nat → Int32), i ≤ 5 → 5 - i < n → li_A wn 0 (li_wa B L p i) →
    (∀ wn' : Nat → Int32, li_A wn' 0 (li_W B L p) → poi (nI (li_W B L p).length) (yBK, yFA, yLO, yEX, yVH, yVV, yOC, ylv, yls, ysz, yha, yva, yrn, yrc, yrr, yop, yar, yle, ypa, yst, ynu, yqt, yqk, yqa, yon, ysh, wn')) →
    wY_want_5 poi (nI p) but yBK yFA yLO yEX yVH yVV yOC n (nI (li_wa B L p i).length) (nI i) ylv yls ysz yha yva yrn yrc yrr yop yar yle ypa yst ynu yqt yqk yqa yon ysh wn := by
  intro n
  induction n with
  | zero => intro i wn _ h; omega
  | succ n ih =>
    intro i wn hi hn hA hq
    obtain ⟨l1, l2⟩ := li_wa_len B L p i
    refine pk_le 5 i (fun h5 => ?_) (fun h5 => ?_)
    · have e5 : i = 5 := by omega
      subst e5
      exact hq wn hA
    · have hm5 : (p + i) % 5 < 5 := Nat.mod_lt _ (by decide)
      have ec : (nI ((p + i) % 5)).toNatClampNeg = (p + i) % 5 := nI_clamp (by omega)
      have hs : ¬ ((li_wa B L p i).length ≤ B ∧ L.testBit ((p + i) % 5) = true) → wY_want_5 poi (nI p) but yBK yFA yLO yEX yVH yVV yOC n (nI (li_wa B L p i).length) (nI (i + 1)) ylv yls ysz yha yva yrn yrc yrr yop yar yle ypa yst ynu yqt yqk yqa yon ysh wn := by
        intro hf
        have e := li_wa_f hf
        have K := ih (i + 1) wn (by omega) (by omega) (by rw [e]; exact hA) hq
        rw [e] at K
        exact K
      refine And.intro (by decide) (nm_r (ar_5r (by omega)) (And.intro (vp_in_nI hm5 (by omega)) (br_c (fun hb => ?_) (fun hb => br_c (fun hc => ?_) (fun hc => ?_)))))
      · rw [ec] at hb
        exact nm_r (nI_1 i) (hs (fun z => ((hl _ hm5).mp z.2).1 hb))
      · exact nm_r (nI_1 i) (hs (fun z => ((hl _ hm5).mp z.2).2 hc))
      · rw [ec] at hb
        have ht := (hl _ hm5).mpr ⟨hb, hc⟩
        refine pk_lt B (li_wa B L p i).length (fun hd => ?_) (fun hd => ?_) hBK
        · exact nm_r (nI_1 i) (hs (fun z => by omega))
        · have e := li_wa_t hd ht
          refine nm_r (nI_1 _) (And.intro (vp_in_nI (by omega) (by omega)) ?_)
          refine nm_r (e' := upd wn (0 + (li_wa B L p i).length) (nI ((p + i) % 5))) (by rw [nI_clamp (by omega), ar_nbb (by omega), Nat.zero_add]) ?_
          refine nm_r (nI_1 i) ?_
          have K := ih (i + 1) (upd wn (0 + (li_wa B L p i).length) (nI ((p + i) % 5))) (by omega) (by omega) (by rw [e]; exact li_snoc hA) hq
          rw [e, List.length_append] at K
          exact K
theorem yl_want {but : Int32} (hB : B < 3) (hp : p < 6) (hBK : yBK = nI B) (hl : ∀ x, x < 5 → (L.testBit x = true ↔ (¬ ylv x = 0 ∧ ¬ nI x = but)))
    (hq : ∀ wn' : Nat → Int32, li_A wn' 0 (li_W B L p) → poi (nI (li_W B L p).length) (yBK, yFA, yLO, yEX, yVH, yVV, yOC, ylv, yls, ysz, yha, yva, yrn, yrc, yrr, yop, yar, yle, ypa, yst, ynu, yqt, yqk, yqa, yon, ysh, wn')) : wpY_want poi (yBK, yFA, yLO, yEX, yVH, yVV, yOC, ylv, yls, ysz, yha, yva, yrn, yrc, yrr, yop, yar, yle, ypa, yst, ynu, yqt, yqk, yqa, yon, ysh, ywa) (nI p) but := by
  unfold wpY_want
  exact ⟨6, yl_want5 hB hp hBK hl 6 0 ywa (by omega) (by omega) li_nil hq⟩
theorem yl_copies14 (hp : p < 6) (h : li_R yls ysz ls) (hK : li_K ls) (hq : post (nI (li_mk (ls p)))) : ∀ (n i : Nat), i ≤ (ls p).length → (ls p).length - i < n →
    wY_copies_14 post (nI p) yBK yFA yLO yEX yVH yVV yOC ylv yls ysz yha yva yrn yrc yrr yop yar yle ypa yst ynu yqt yqk yqa yon ysh ywa n (nI (li_mk ((ls p).take i))) (nI i) := by
  intro n
  obtain ⟨g1, g2⟩ := h p hp
  obtain ⟨k1, k2⟩ := hK p hp
  have ec : ysz (nI p).toNatClampNeg = nI (ls p).length := by rw [nI_clamp (by omega), g1]
  induction n with
  | zero => intro i _ h; omega
  | succ n ih =>
    intro i hi hn
    refine And.intro (vp_in_nI hp (by omega)) (pk_le (ls p).length i (fun hl => ?_) (fun hl => ?_) ec)
    · have e : i = (ls p).length := by omega
      rw [e, List.take_length]
      exact hq
    · have hx := List.getElem?_eq_getElem (l := ls p) (i := i) (by omega)
      generalize hgx : (ls p)[i]'(by omega) = x at hx
      have hx5 := k2 x (li_mem hx)
      have hlt : li_mk ((ls p).take i) < 32 := li_mk_lt (fun y hy => k2 y (List.mem_of_mem_take hy))
      refine And.intro (by rw [ar_5i]; exact vp_in_nI (by omega) (by omega)) ?_
      refine nm_r (e' := nI (li_mk ((ls p).take (i + 1)))) (by rw [ar_5i, nI_clamp (by omega), g2 i x hx, ar_or _ hlt x hx5, li_mk_take hx]) ?_
      exact nm_r (nI_1 _) (ih (i + 1) (by omega) (by omega))
theorem yl_copies (hp : p < 6) (h : li_R yls ysz ls) (hK : li_K ls) (hq : post (nI (li_mk (ls p)))) : wpY_copies post (yBK, yFA, yLO, yEX, yVH, yVV, yOC, ylv, yls, ysz, yha, yva, yrn, yrc, yrr, yop, yar, yle, ypa, yst, ynu, yqt, yqk, yqa, yon, ysh, ywa) (nI p) := by
  unfold wpY_copies
  refine br_f (nI_pos (by omega)) (br_f (nI_ge (b := 6) hp (by decide)) ⟨(ls p).length + 1, ?_⟩)
  exact yl_copies14 hp h hK hq _ 0 (by omega) (by omega)
theorem yl_alone (hp : p < 6) (hm : m < 5) (h : li_R yls ysz ls) (hK : li_K ls) (h1 : ls p = [m] → post 1) (h0 : ls p ≠ [m] → post 0) : wpY_alone post (yBK, yFA, yLO, yEX, yVH, yVV, yOC, ylv, yls, ysz, yha, yva, yrn, yrc, yrr, yop, yar, yle, ypa, yst, ynu, yqt, yqk, yqa, yon, ysh, ywa) (nI p) (nI m) := by
  obtain ⟨g1, g2⟩ := h p hp
  obtain ⟨k1, k2⟩ := hK p hp
  unfold wpY_alone
  refine And.intro (vp_in_nI hp (by omega)) (pk_eq (ls p).length 1 (fun hl => ?_) (fun hl => ?_) (by rw [nI_clamp (by omega), g1]))
  · obtain ⟨x, hx⟩ := List.length_eq_one_iff.mp hl
    have ex := g2 0 x (by rw [hx]; rfl)
    rw [Nat.add_zero] at ex
    have hx5 := k2 x (by rw [hx]; simp)
    refine And.intro (by rw [ar_5]; exact vp_in_nI (by omega) (by omega)) (pk_eq x m (fun e => ?_) (fun e => ?_) (by rw [ar_5, nI_clamp (by omega), ex]))
    · exact h1 (by rw [hx, e])
    · exact h0 (by rw [hx]; intro z; exact e (List.cons.inj z).1)
  · exact h0 (by intro z; rw [z] at hl; exact hl rfl)
theorem yl_lose33 (hB : B < 3) (hL : L < 32) (hp : p < 6) (hBK : yBK = nI B) (hl : ∀ x, x < 5 → (L.testBit x = true ↔ (¬ ylv x = 0 ∧ ¬ nI x = -1))) (h : li_R yls ysz ls) (hK : li_K ls) (hls : ls p = []) :
    ∀ (n i : Nat) (rn : Nat → Int32), i ≤ 3 → 3 - i < n → 
    (∀ (rn' li' sz' wn' : Nat → Int32), (∀ j, rn' j = if 3 * p + i ≤ j ∧ j < 3 * p + 3 then 0 else rn j) → li_R li' sz' (li_u ls p ((li_W B L p).take 1)) → pos (yBK, yFA, yLO, yEX, yVH, yVV, yOC, ylv, li', sz', yha, yva, rn', yrc, yrr, yop, yar, yle, ypa, yst, ynu, yqt, yqk, yqa, yon, ysh, wn')) →
    wY_lose_33 pos (nI p) yBK yFA yLO yEX yVH yVV yOC n (nI i) ylv yls ysz yha yva rn yrc yrr yop yar yle ypa yst ynu yqt yqk yqa yon ysh ywa := by
  intro n
  induction n with
  | zero => intro i rn _ h; omega
  | succ n ih =>
    intro i rn hi hn hq
    refine pk_le 3 i (fun h3 => ?_) (fun h3 => ?_)
    · refine yl_want hB hp hBK hl (fun wn' hw => ?_)
      obtain ⟨w1, w2, w3, _⟩ := li_W_ok B hB L hL p hp
      refine pk_eq (li_W B L p).length 0 (fun hw0 => ?_) (fun hw0 => ?_)
      · have ew : li_W B L p = [] := List.length_eq_zero_iff.mp hw0
        refine hq rn yls ysz wn' (fun j => (if_neg (by omega)).symm) ?_
        intro q hq6
        by_cases e : q = p
        · have hh := h p hp
          rw [hls] at hh
          rw [e, li_us, ew]
          exact hh
        · rw [li_un e]; exact h q hq6
      · have hx := List.getElem?_eq_getElem (l := li_W B L p) (i := 0) (by omega)
        generalize hgx : (li_W B L p)[0]'(by omega) = x at hx
        have hx5 := (w3 x (li_mem hx)).1
        have ew := hw 0 x hx
        rw [Nat.zero_add] at ew
        have hd : (li_W B L p).take 1 = [x] := by rw [List.take_succ_eq_append_getElem (by omega), hgx]; rfl
        refine And.intro (by rw [ar_5]; exact vp_in_nI (by omega) (by omega)) ?_
        refine nm_r (e' := upd yls (5 * p) (nI x)) (by rw [ar_5, nI_clamp (by omega), ew, ar_nb (by omega)]) (And.intro (vp_in_nI hp (by omega)) ?_)
        refine nm_r (e' := upd ysz p (nI 1)) (by rw [nI_clamp (by omega)]; exact congrArg _ (ar_nb (t := 1) (by decide))) ?_
        refine hq rn _ _ wn' (fun j => (if_neg (by omega)).symm) ?_
        rw [hd]
        refine li_R_put h hK (fun q hq => pk_un (by omega)) (fun q hq => pk_un hq) pk_us ?_
        intro i y hy
        have h1 : i < 1 := li_lt hy
        have e1 : i = 0 := by omega
        rw [e1] at hy
        have e2 : x = y := Option.some.inj hy
        rw [e1, Nat.add_zero, pk_us, e2]
    · refine And.intro (by rw [ar_3i]; exact vp_in_nI (by omega) (by omega)) ?_
      refine nm_r (e' := upd rn (3 * p + i) 0) (by rw [ar_3i, nI_clamp (by omega)]) ?_
      refine nm_r (nI_1 i) (ih (i + 1) _ (by omega) (by omega) (fun rn' li' sz' wn' h' hR => hq rn' li' sz' wn' (fun j => ?_) hR))
      rw [h' j]
      by_cases e : 3 * p + (i + 1) ≤ j ∧ j < 3 * p + 3
      · rw [if_pos e, if_pos (by omega)]
      · rw [if_neg e]
        by_cases e' : j = 3 * p + i
        · rw [e', pk_us, if_pos (by omega)]
        · rw [pk_un e', if_neg (by omega)]
theorem yl_lose12 (hp : p < 6) : ∀ (n i x : Nat) (ha : Nat → Int32), x = p + 6 * i → i ≤ 3 → 3 - i < n →
    (∀ ha' : Nat → Int32, (∀ k, k < 18 → ha' k = if k % 6 = p ∧ x ≤ k then 0 else ha k) → ∃ n33 : Nat, wY_lose_33 pos (nI p) yBK yFA yLO yEX yVH yVV yOC n33 0 ylv yls ysz ha' yva yrn yrc yrr yop yar yle ypa yst ynu yqt yqk yqa yon ysh ywa) →
    wY_lose_12 pos (nI p) yBK yFA yLO yEX yVH yVV yOC n (nI x) ylv yls ysz ha yva yrn yrc yrr yop yar yle ypa yst ynu yqt yqk yqa yon ysh ywa := by
  intro n
  induction n with
  | zero => intro i x ha _ _ h; omega
  | succ n ih =>
    intro i x ha hx hi hn hq
    refine pk_le 18 x (fun h18 => ?_) (fun h18 => ?_)
    · exact hq ha (fun k hk => (if_neg (by omega)).symm)
    · refine And.intro (vp_in_nI h18 (by omega)) ?_
      refine nm_r (e' := upd ha x 0) (by rw [nI_clamp (by omega), bo_0]) ?_
      refine nm_r (ar_6 x) (ih (i + 1) (x + 6) _ (by omega) (by omega) (by omega) (fun ha' h' => hq ha' (fun k hk => ?_)))
      rw [h' k hk]
      by_cases e : k % 6 = p ∧ x + 6 ≤ k
      · rw [if_pos e, if_pos (by omega)]
      · rw [if_neg e]
        by_cases e' : k = x
        · rw [e', pk_us, if_pos (by omega)]
        · rw [pk_un e', if_neg (by omega)]
theorem yl_lose (hB : B < 3) (hL : L < 32) (hp : p < 6) (hBK : yBK = nI B) (hl : ∀ x, x < 5 → (L.testBit x = true ↔ (¬ ylv x = 0 ∧ ¬ nI x = -1))) (h : li_R yls ysz ls) (hK : li_K ls) (hls : ls p = [])
    (hq : ∀ (ha' rn' li' sz' wn' : Nat → Int32), (∀ k, k < 18 → ha' k = if k % 6 = p then 0 else yha k) → (∀ j, j < 18 → rn' j = if j / 3 = p then 0 else yrn j) →
      li_R li' sz' (li_u ls p ((li_W B L p).take 1)) → pos (yBK, yFA, yLO + 1, yEX, yVH, yVV, yOC, ylv, li', sz', ha', yva, rn', yrc, yrr, yop, yar, yle, ypa, yst, ynu, yqt, yqk, yqa, yon, ysh, wn')) : wpY_lose pos (yBK, yFA, yLO, yEX, yVH, yVV, yOC, ylv, yls, ysz, yha, yva, yrn, yrc, yrr, yop, yar, yle, ypa, yst, ynu, yqt, yqk, yqa, yon, ysh, ywa) (nI p) := by
  unfold wpY_lose
  refine nm_e ⟨4, yl_lose12 hp 4 0 p yha (by omega) (by omega) (by omega) (fun ha' h1 => ⟨4, ?_⟩)⟩
  refine yl_lose33 hB hL hp hBK hl h hK hls 4 0 yrn (by omega) (by omega) (fun rn' li' sz' wn' h2 hR => hq ha' rn' li' sz' wn' (fun k hk => ?_) (fun j hj => ?_) hR)
  · rw [h1 k hk]
    by_cases e : k % 6 = p
    · rw [if_pos e, if_pos (by omega)]
    · rw [if_neg e, if_neg (by omega)]
  · rw [h2 j]
    by_cases e : j / 3 = p
    · rw [if_pos e, if_pos (by omega)]
    · rw [if_neg e, if_neg (by omega)]
end
/-! the going of a member, pure: lists, losses, entries, numbers of records -/
abbrev dr_S : Type := (Nat → List Nat) × Int32 × (Nat → Option Int64) × (Nat → Int32)
def dr_step (B L m p : Nat) (s : dr_S) : dr_S :=
  (li_u s.1 p (li_d B L (s.1 p) m p), if li_rm (s.1 p) m = [] then s.2.1 + 1 else s.2.1,
    (fun k => if li_rm (s.1 p) m = [] ∧ k % 6 = p then none else s.2.2.1 k), (fun j => if li_rm (s.1 p) m = [] ∧ j / 3 = p then 0 else s.2.2.2 j))
def dr_it (B L m : Nat) : Nat → dr_S → dr_S
  | 0, s => s
  | p + 1, s => dr_step B L m p (dr_it B L m p s)
theorem dr_it_ls {B L m : Nat} {s : dr_S} : ∀ p q, (dr_it B L m p s).1 q = if q < p then li_d B L (s.1 q) m q else s.1 q := by
  intro p
  induction p with
  | zero => intro q; exact (if_neg (Nat.not_lt_zero q)).symm
  | succ p ih =>
    intro q
    show li_u (dr_it B L m p s).1 p (li_d B L ((dr_it B L m p s).1 p) m p) q = _
    by_cases e : q = p
    · rw [e, li_us, ih p, if_neg (by omega), if_pos (by omega)]
    · rw [li_un e, ih q]
      by_cases e' : q < p
      · rw [if_pos e', if_pos (by omega)]
      · rw [if_neg e', if_neg (by omega)]
theorem dr_it_E {B L m : Nat} {s : dr_S} : ∀ p k, (dr_it B L m p s).2.2.1 k = if k % 6 < p ∧ li_rm (s.1 (k % 6)) m = [] then none else s.2.2.1 k := by
  intro p
  induction p with
  | zero => intro k; exact (if_neg (by omega)).symm
  | succ p ih =>
    intro k
    show (if li_rm ((dr_it B L m p s).1 p) m = [] ∧ k % 6 = p then none else (dr_it B L m p s).2.2.1 k) = _
    rw [ih k, dr_it_ls p p, if_neg (Nat.lt_irrefl p)]
    by_cases e : k % 6 = p
    · rw [e]
      by_cases e2 : li_rm (s.1 p) m = []
      · rw [if_pos ⟨e2, rfl⟩, if_pos ⟨by omega, e2⟩]
      · rw [if_neg (fun z => e2 z.1), if_neg (fun z => e2 z.2), if_neg (fun z => e2 z.2)]
    · rw [if_neg (fun z => e z.2)]
      by_cases e2 : k % 6 < p ∧ li_rm (s.1 (k % 6)) m = []
      · rw [if_pos e2, if_pos ⟨by omega, e2.2⟩]
      · rw [if_neg e2, if_neg (fun z => e2 ⟨by omega, z.2⟩)]
theorem dr_it_N {B L m : Nat} {s : dr_S} : ∀ p j, (dr_it B L m p s).2.2.2 j = if j / 3 < p ∧ li_rm (s.1 (j / 3)) m = [] then 0 else s.2.2.2 j := by
  intro p
  induction p with
  | zero => intro j; exact (if_neg (by omega)).symm
  | succ p ih =>
    intro j
    show (if li_rm ((dr_it B L m p s).1 p) m = [] ∧ j / 3 = p then 0 else (dr_it B L m p s).2.2.2 j) = _
    rw [ih j, dr_it_ls p p, if_neg (Nat.lt_irrefl p)]
    by_cases e : j / 3 = p
    · rw [e]
      by_cases e2 : li_rm (s.1 p) m = []
      · rw [if_pos ⟨e2, rfl⟩, if_pos ⟨by omega, e2⟩]
      · rw [if_neg (fun z => e2 z.1), if_neg (fun z => e2 z.2), if_neg (fun z => e2 z.2)]
    · rw [if_neg (fun z => e z.2)]
      by_cases e2 : j / 3 < p ∧ li_rm (s.1 (j / 3)) m = []
      · rw [if_pos e2, if_pos ⟨by omega, e2.2⟩]
      · rw [if_neg e2, if_neg (fun z => e2 ⟨by omega, z.2⟩)]
theorem dr_it_K {B L m : Nat} {s : dr_S} (hB : B < 3) (hL : L < 32) (hK : li_K s.1) : ∀ p, li_K (dr_it B L m p s).1 := by
  intro p q hq
  rw [dr_it_ls]
  obtain ⟨k1, k2⟩ := hK q hq
  by_cases e : q < p
  · rw [if_pos e]; exact li_d_K hB hL hq k1 k2
  · rw [if_neg e]; exact ⟨k1, k2⟩
def dr_Y (s : dr_S) (lo : Int32) (ha : Nat → Int32) (va : Nat → Int64) (rn li sz : Nat → Int32) : Prop :=
  li_R li sz s.1 ∧ lo = s.2.1 ∧ ye_E ha va s.2.2.1 ∧ ∀ j, j < 18 → rn j = s.2.2.2 j
section
variable {yBK yFA yLO yEX yVH : Int32} {yVV yOC : Int64} {ylv yls ysz yha yrn yrc yop yle ypa ynu yqt yqk yqa yon ywa : Nat → Int32} {yva yrr yar yst ysh : Nat → Int64}
variable {pos : SY → Prop} {J : Int32 → Int32 → Int32 → Int32 → Int32 → Int32 → Int64 → Int64 → (Nat → Int32) → (Nat → Int32) → (Nat → Int32) → (Nat → Int32) → (Nat → Int64) → (Nat → Int32) → (Nat → Int32) → (Nat → Int64) → (Nat → Int32) → (Nat → Int64) → (Nat → Int32) → (Nat → Int32) → (Nat → Int64) → (Nat → Int32) → (Nat → Int32) → (Nat → Int32) → (Nat → Int32) → (Nat → Int32) → (Nat → Int64) → (Nat → Int32) → Prop} {B L p m : Nat} {s : dr_S}
theorem yd_20 (hB : B < 3) (hL : L < 32) (hp : p < 6) (hm : m < 5) (hBK : yBK = nI B) (hl : ∀ x, x < 5 → (L.testBit x = true ↔ (¬ ylv x = 0 ∧ ¬ nI x = -1))) (hK : li_K s.1)
    (h : dr_Y s yLO yha yva yrn yls ysz)
    (hq : ∀ (lo : Int32) (ha rn li sz wn : Nat → Int32), dr_Y (dr_step B L m p s) lo ha yva rn li sz → J (nI (p + 1)) yBK yFA lo yEX yVH yVV yOC ylv li sz ha yva rn yrc yrr yop yar yle ypa yst ynu yqt yqk yqa yon ysh wn) :
    ∀ (n i : Nat) (li : Nat → Int32), i ≤ (s.1 p).length → (s.1 p).length - i < n → li_A li (5 * p) (li_rm ((s.1 p).take i) m) → (∀ j, i ≤ j → li (5 * p + j) = yls (5 * p + j)) → (∀ q, q < 5 * p ∨ 5 * p + 5 ≤ q → li q = yls q) →
    wY_dropOut_20 pos J (nI m) (nI p) yBK yFA yLO yEX yVH yVV yOC n (nI (li_rm ((s.1 p).take i) m).length) (nI i) ylv li ysz yha yva yrn yrc yrr yop yar yle ypa yst ynu yqt yqk yqa yon ysh ywa := by
  intro n
  obtain ⟨h1, h2, h3, h4⟩ := h
  obtain ⟨g1, g2⟩ := h1 p hp
  obtain ⟨k1, k2⟩ := hK p hp
  have ec : ysz (nI p).toNatClampNeg = nI (s.1 p).length := by rw [nI_clamp (by omega), g1]
  have ip : vp_in (nI p) 6 := vp_in_nI hp (by omega)
  induction n with
  | zero => intro i li _ h; omega
  | succ n ih =>
    intro i li hi hn hA hB1 hB2
    have hrl : (li_rm ((s.1 p).take i) m).length ≤ i := Nat.le_trans (li_rm_len _ _) (by rw [List.length_take]; omega)
    refine And.intro ip (pk_le (s.1 p).length i (fun hl' => And.intro ip ?_) (fun hl' => ?_) ec)
    · have e : i = (s.1 p).length := by omega
      rw [e, List.take_length] at hA hrl ⊢
      refine nm_r (e' := upd ysz p (nI (li_rm (s.1 p) m).length)) (by rw [nI_clamp (by omega), ar_nbb (by omega)]) ?_
      have hR : li_R li (upd ysz p (nI (li_rm (s.1 p) m).length)) (li_u s.1 p (li_rm (s.1 p) m)) := li_R_put h1 hK hB2 (fun q hq => pk_un hq) pk_us hA
      have hK2 : li_K (li_u s.1 p (li_rm (s.1 p) m)) := li_K_put hK (by omega) (fun x hx => k2 x (li_rm_mem.mp hx).1)
      refine pk_eq (li_rm (s.1 p) m).length 0 (fun h0 => ?_) (fun h0 => ?_)
      · have e0 : li_rm (s.1 p) m = [] := List.length_eq_zero_iff.mp h0
        refine yl_lose hB hL hp hBK hl hR hK2 (by rw [li_us, e0]) (fun ha' rn' li' sz' wn' q1 q2 q3 => ?_)
        refine nm_r (nI_1 p) (hq _ ha' rn' li' sz' wn' ⟨?_, ?_, ?_, ?_⟩)
        · intro q hq6
          have := q3 q hq6
          show _ ∧ _
          by_cases e2 : q = p
          · rw [e2, li_us] at this
            show sz' q = nI ((li_u s.1 p (li_d B L (s.1 p) m p)) q).length ∧ li_A li' (5 * q) ((li_u s.1 p (li_d B L (s.1 p) m p)) q)
            rw [e2, li_us]
            unfold li_d
            rw [if_pos e0]
            exact this
          · rw [li_un e2, li_un e2] at this
            show sz' q = nI ((li_u s.1 p (li_d B L (s.1 p) m p)) q).length ∧ li_A li' (5 * q) ((li_u s.1 p (li_d B L (s.1 p) m p)) q)
            rw [li_un e2]
            exact this
        · show yLO + 1 = if li_rm (s.1 p) m = [] then s.2.1 + 1 else s.2.1
          rw [if_pos e0, h2]
        · intro k hk
          show (ha' k = 0 ∧ (if li_rm (s.1 p) m = [] ∧ k % 6 = p then none else s.2.2.1 k) = none) ∨ (ha' k = 1 ∧ (if li_rm (s.1 p) m = [] ∧ k % 6 = p then none else s.2.2.1 k) = some (yva k))
          rw [q1 k hk]
          by_cases e2 : k % 6 = p
          · rw [if_pos e2, if_pos ⟨e0, e2⟩]; exact Or.inl ⟨rfl, rfl⟩
          · rw [if_neg e2, if_neg (fun z => e2 z.2)]; exact h3 k hk
        · intro j hj
          show rn' j = if li_rm (s.1 p) m = [] ∧ j / 3 = p then 0 else s.2.2.2 j
          rw [q2 j hj]
          by_cases e2 : j / 3 = p
          · rw [if_pos e2, if_pos ⟨e0, e2⟩]
          · rw [if_neg e2, if_neg (fun z => e2 z.2)]; exact h4 j hj
      · have e0 : ¬ li_rm (s.1 p) m = [] := by intro z; rw [z] at h0; exact h0 rfl
        refine nm_r (nI_1 p) (hq yLO yha yrn li _ ywa ⟨?_, ?_, ?_, ?_⟩)
        · show li_R li _ (li_u s.1 p (li_d B L (s.1 p) m p))
          unfold li_d
          rw [if_neg e0]
          exact hR
        · show yLO = if li_rm (s.1 p) m = [] then s.2.1 + 1 else s.2.1
          rw [if_neg e0, h2]
        · intro k hk
          show (yha k = 0 ∧ (if li_rm (s.1 p) m = [] ∧ k % 6 = p then none else s.2.2.1 k) = none) ∨ (yha k = 1 ∧ (if li_rm (s.1 p) m = [] ∧ k % 6 = p then none else s.2.2.1 k) = some (yva k))
          rw [if_neg (fun z => e0 z.1)]; exact h3 k hk
        · intro j hj
          show yrn j = if li_rm (s.1 p) m = [] ∧ j / 3 = p then 0 else s.2.2.2 j
          rw [if_neg (fun z => e0 z.1)]; exact h4 j hj
    · have hx := List.getElem?_eq_getElem (l := s.1 p) (i := i) (by omega)
      generalize hgx : (s.1 p)[i]'(by omega) = x at hx
      have hx5 := k2 x (li_mem hx)
      have e2 := li_rm_take (m := m) hx
      have ix : vp_in (5 * nI p + nI i) 30 := by rw [ar_5i]; exact vp_in_nI (by omega) (by omega)
      have ex : li (5 * nI p + nI i).toNatClampNeg = nI x := by rw [ar_5i, nI_clamp (by omega), hB1 i (by omega)]; exact g2 i x hx
      refine And.intro ix (br_c (fun hc => ?_) (fun hc => ?_))
      · rw [ex, nI_eq (by omega) (by omega)] at hc
        rw [if_pos hc] at e2
        refine nm_r (nI_1 _) ?_
        have K := ih (i + 1) li (by omega) (by omega) (by rw [e2]; exact hA) (fun j hj => hB1 j (by omega)) hB2
        rw [e2] at K
        exact K
      · rw [ex, nI_eq (by omega) (by omega)] at hc
        rw [if_neg hc] at e2
        refine nm_r (nI_1 _) (And.intro ix (And.intro (by rw [ar_5i]; exact vp_in_nI (by omega) (by omega)) ?_))
        refine nm_r (e' := upd li (5 * p + (li_rm ((s.1 p).take i) m).length) (nI x)) (by rw [ex, ar_5i, nI_clamp (by omega), ar_nb (by omega)]) ?_
        refine nm_r (nI_1 _) ?_
        have K := ih (i + 1) (upd li (5 * p + (li_rm ((s.1 p).take i) m).length) (nI x)) (by omega) (by omega) (by rw [e2]; exact li_snoc hA) (fun j hj => by rw [pk_un (by omega)]; exact hB1 j (by omega)) (fun q hq => by rw [pk_un (by omega)]; exact hB2 q hq)
        rw [e2, List.length_append] at K
        exact K
theorem yd_9 (hB : B < 3) (hL : L < 32) (hm : m < 5) (hBK : yBK = nI B) (hl : ∀ x, x < 5 → (L.testBit x = true ↔ (¬ ylv x = 0 ∧ ¬ nI x = -1))) (hK : li_K s.1)
    (hq : ∀ (lo : Int32) (ha rn li sz wn : Nat → Int32), dr_Y (dr_it B L m 6 s) lo ha yva rn li sz → pos (yBK, yFA, lo, yEX, yVH, yVV, yOC, ylv, li, sz, ha, yva, rn, yrc, yrr, yop, yar, yle, ypa, yst, ynu, yqt, yqk, yqa, yon, ysh, wn)) :
    ∀ (n p : Nat) (lo : Int32) (ha rn li sz wn : Nat → Int32), p ≤ 6 → 6 - p < n → dr_Y (dr_it B L m p s) lo ha yva rn li sz →
    wY_dropOut_9 pos (nI m) n (nI p) yBK yFA lo yEX yVH yVV yOC ylv li sz ha yva rn yrc yrr yop yar yle ypa yst ynu yqt yqk yqa yon ysh wn := by
  intro n
  induction n with
  | zero => intro p lo ha rn li sz wn _ h; omega
  | succ n ih =>
    intro p lo ha rn li sz wn hp hn h
    refine pk_le 6 p (fun h6 => ?_) (fun h6 => ?_)
    · have e : p = 6 := by omega
      subst e
      exact hq lo ha rn li sz wn h
    · refine ⟨((dr_it B L m p s).1 p).length + 1, ?_⟩
      exact yd_20 hB hL h6 hm hBK hl (dr_it_K hB hL hK p) h (fun lo' ha' rn' li' sz' wn' h' => ih (p + 1) lo' ha' rn' li' sz' wn' (by omega) (by omega) h') _ 0 li (by omega) (by omega) li_nil (fun _ _ => rfl) (fun _ _ => rfl)
/-- the reference's dropOut: L the members that stay -/
theorem yd_drop (hB : B < 3) (hL : L < 32) (hm : m < 5) (hBK : yBK = nI B) (hl : ∀ x, x < 5 → ylv x = if L.testBit x = true then 1 else 0) (hK : li_K s.1)
    (h : dr_Y s yLO yha yva yrn yls ysz)
    (hq : ∀ (lv : Nat → Int32) (lo : Int32) (ha rn li sz wn : Nat → Int32), (∀ x, x < 5 → lv x = if (li_out L m).testBit x = true then 1 else 0) → dr_Y (dr_it B (li_out L m) m 6 s) lo ha yva rn li sz →
      pos (yBK, yFA, lo, yEX, yVH, yVV, yOC, lv, li, sz, ha, yva, rn, yrc, yrr, yop, yar, yle, ypa, yst, ynu, yqt, yqk, yqa, yon, ysh, wn)) : wpY_dropOut pos (yBK, yFA, yLO, yEX, yVH, yVV, yOC, ylv, yls, ysz, yha, yva, yrn, yrc, yrr, yop, yar, yle, ypa, yst, ynu, yqt, yqk, yqa, yon, ysh, ywa) (nI m) := by
  have hlv : ∀ x, x < 5 → upd ylv m 0 x = if (li_out L m).testBit x = true then 1 else 0 := by
    intro x hx
    rw [li_out_tb L hL m hm x hx]
    by_cases e : x = m
    · rw [e, pk_us]; simp
    · rw [pk_un e, hl x hx]
      cases hb : L.testBit x
      · simp
      · simp [e]
  unfold wpY_dropOut
  refine And.intro (vp_in_nI hm (by omega)) (nm_r (e' := upd ylv m 0) (by rw [nI_clamp (by omega), bo_0]) ⟨7, ?_⟩)
  refine yd_9 hB (li_out_lt L hL m hm) hm hBK ?_ hK (fun lo ha rn li sz wn h' => hq _ lo ha rn li sz wn hlv h') 7 0 yLO yha yrn yls ysz ywa (by omega) (by omega) h
  intro x hx
  rw [hlv x hx]
  have hne : ∀ x, x < 5 → ¬ nI x = -1 := by decide +kernel
  cases hb : (li_out L m).testBit x
  · simp
  · simp [hne x hx]
end
end
section
theorem da_G_congr2 {H H' : Nat → Nat → Bool} {E E' : Nat → Nat → Option Int64} {N N' C C' : Nat → Nat → Int32} {R R' : Nat → Nat → Int64}
    {tg : Nat → Int32} {st : Nat → Int64} {rn rc : Nat → Int32} {rr : Nat → Int64} (h : da_G H E N C R tg st rn rc rr)
    (e1 : ∀ m k, m < 5 → k < 18 → (if H' (k % 6) m = true then E' m k else none) = (if H (k % 6) m = true then E m k else none))
    (e2 : ∀ m p c, m < 5 → p < 6 → c < 3 → (if H' p m = true then N' m (3 * p + c) else 0) = (if H p m = true then N m (3 * p + c) else 0) ∧
      (H' p m = true → H p m = true → C' m (3 * p + c) = C m (3 * p + c) ∧ R' m (3 * p + c) = R m (3 * p + c))) :
    da_G H' E' N' C' R' tg st rn rc rr := by
  refine ⟨tb_M_congr h.1 e1, fun m p c hm hp hc => ?_⟩
  obtain ⟨h1, h2⟩ := h.2 m p c hm hp hc
  obtain ⟨e3, e4⟩ := e2 m p c hm hp hc
  cases b : H p m
  · rw [b, if_neg (c := false = true) (by decide)] at e3
    refine ⟨fun _ => h1 b, fun b' => ?_⟩
    rw [if_pos b'] at e3
    exact ⟨by rw [e3]; exact h1 b, fun z => absurd e3 z⟩
  · rw [b, if_pos (c := true = true) rfl] at e3
    obtain ⟨g1, g2⟩ := h2 b
    refine ⟨fun b' => ?_, fun b' => ?_⟩
    · rw [b', if_neg (c := false = true) (by decide)] at e3
      rw [g1, ← e3]
    · rw [if_pos b'] at e3
      obtain ⟨e5, e6⟩ := e4 b' b
      rw [e3, e5, e6]
      exact ⟨g1, g2⟩
def li_H (ls : Nat → List Nat) : Nat → Nat → Bool := fun p m => decide (m ∈ ls p)
theorem li_Ht {ls : Nat → List Nat} {p m : Nat} : li_H ls p m = true ↔ m ∈ ls p := decide_eq_true_iff
theorem li_Hf {ls : Nat → List Nat} {p m : Nat} : li_H ls p m = false ↔ ¬ m ∈ ls p := decide_eq_false_iff_not
theorem li_Hu {ls : Nat → List Nat} {p q m : Nat} {l : List Nat} (h : q ≠ p) : li_H (li_u ls p l) q m = li_H ls q m := by
  unfold li_H; rw [li_un h]
theorem li_rm_nil {l : List Nat} {m x : Nat} (h : li_rm l m = []) (hx : x ∈ l) : x = m := by
  apply Classical.byContradiction
  intro e
  have : x ∈ li_rm l m := li_rm_mem.mpr ⟨hx, e⟩
  rw [h] at this
  exact absurd this (by simp)
/-- holders of p behind the going of m, value by value -/
theorem dr_val {α : Type} {B L m p : Nat} {ls : Nat → List Nat} {V1 V V' : α} {z : α} (hB : B < 3) (hL : L < 32) (hp : p < 6) (hLm : L.testBit m = false) (q x : Nat)
    (hV : V' = if li_rm (ls p) m = [] ∧ q = p then z else V) :
    (if li_H (li_u ls p (li_d B L (ls p) m p)) q x = true then (if x = m then V1 else V') else z) = (if da_h (li_H ls) p m false q x = true then (if x = m then V1 else V) else z) := by
  by_cases eq : q = p
  · subst eq
    by_cases e0 : li_rm (ls q) m = []
    · rw [if_pos ⟨e0, rfl⟩] at hV
      have hr : (if da_h (li_H ls) q m false q x = true then (if x = m then V1 else V) else z) = z := by
        by_cases ex : x = m
        · rw [ex, da_hs]; exact if_neg (by decide)
        · rw [da_hn (fun y => ex y.2)]
          exact if_neg (fun y => ex (li_rm_nil e0 (li_Ht.mp y)))
      rw [hr]
      by_cases ex : li_H (li_u ls q (li_d B L (ls q) m q)) q x = true
      · rw [if_pos ex]
        have hx := li_Ht.mp ex
        rw [li_us] at hx
        unfold li_d at hx
        rw [if_pos e0] at hx
        have hb := ((li_W1 hB hL hp).2 x hx).2
        have hxm : x ≠ m := by intro y; rw [y, hLm] at hb; exact absurd hb (by decide)
        rw [if_neg hxm, hV]
      · rw [if_neg ex]
    · rw [if_neg (fun y => e0 y.1)] at hV
      rw [hV]
      have eH : li_H (li_u ls q (li_d B L (ls q) m q)) q x = da_h (li_H ls) q m false q x := by
        have e3 : li_H (li_u ls q (li_d B L (ls q) m q)) q x = decide (x ∈ li_rm (ls q) m) := by
          unfold li_H; rw [li_us]; unfold li_d; rw [if_neg e0]
        rw [e3]
        by_cases ex : x = m
        · rw [ex, da_hs]
          exact decide_eq_false (fun y => (li_rm_mem.mp y).2 rfl)
        · rw [da_hn (fun y => ex y.2)]
          unfold li_H
          exact decide_eq_decide.mpr ⟨fun y => (li_rm_mem.mp y).1, fun y => li_rm_mem.mpr ⟨y, ex⟩⟩
      rw [eH]
  · rw [if_neg (fun y => eq y.2)] at hV
    rw [hV, li_Hu eq, da_hn (fun y => eq y.1)]
def dr_X (m : Nat) (E1 : Nat → Option Int64) (N1 C1 : Nat → Int32) (R1 : Nat → Int64) (C : Nat → Int32) (R : Nat → Int64) (s : dr_S) (lo : Int32) (cp cc tg : Nat → Int32) (st : Nat → Int64) (rn rc : Nat → Int32) (rr : Nat → Int64) : Prop :=
  li_R cp cc s.1 ∧ lo = s.2.1 ∧ da_G (li_H s.1) (fun x => if x = m then E1 else s.2.2.1) (fun x => if x = m then N1 else s.2.2.2) (fun x => if x = m then C1 else C) (fun x => if x = m then R1 else R) tg st rn rc rr
theorem dr_X_go {B L m p : Nat} {E1 : Nat → Option Int64} {N1 C1 C : Nat → Int32} {R1 R : Nat → Int64} {s : dr_S} {tg : Nat → Int32} {st : Nat → Int64} {rn rc : Nat → Int32} {rr : Nat → Int64}
    (hB : B < 3) (hL : L < 32) (hp : p < 6) (hLm : L.testBit m = false)
    (h : da_G (da_h (li_H s.1) p m false) (fun x => if x = m then E1 else s.2.2.1) (fun x => if x = m then N1 else s.2.2.2) (fun x => if x = m then C1 else C) (fun x => if x = m then R1 else R) tg st rn rc rr) :
    da_G (li_H (dr_step B L m p s).1) (fun x => if x = m then E1 else (dr_step B L m p s).2.2.1) (fun x => if x = m then N1 else (dr_step B L m p s).2.2.2) (fun x => if x = m then C1 else C) (fun x => if x = m then R1 else R) tg st rn rc rr := by
  refine da_G_congr2 h (fun x k hx hk => ?_) (fun x q c hx hq hc => ⟨?_, fun _ _ => ⟨rfl, rfl⟩⟩)
  · have := dr_val (α := Option Int64) (B := B) (L := L) (m := m) (p := p) (ls := s.1) (V1 := E1 k) (V := s.2.2.1 k) (V' := (dr_step B L m p s).2.2.1 k) (z := none) hB hL hp hLm (k % 6) x rfl
    have a1 : (if x = m then E1 else (dr_step B L m p s).2.2.1) k = (if x = m then E1 k else (dr_step B L m p s).2.2.1 k) := by split <;> rfl
    have a2 : (if x = m then E1 else s.2.2.1) k = (if x = m then E1 k else s.2.2.1 k) := by split <;> rfl
    show (if li_H (dr_step B L m p s).1 (k % 6) x = true then (if x = m then E1 else (dr_step B L m p s).2.2.1) k else none) = (if da_h (li_H s.1) p m false (k % 6) x = true then (if x = m then E1 else s.2.2.1) k else none)
    rw [a1, a2]
    exact this
  · have := dr_val (α := Int32) (B := B) (L := L) (m := m) (p := p) (ls := s.1) (V1 := N1 (3 * q + c)) (V := s.2.2.2 (3 * q + c)) (V' := (dr_step B L m p s).2.2.2 (3 * q + c)) (z := 0) hB hL hp hLm q x (by
      show (if li_rm (s.1 p) m = [] ∧ (3 * q + c) / 3 = p then (0 : Int32) else s.2.2.2 (3 * q + c)) = _
      rw [show (3 * q + c) / 3 = q from by omega])
    have a1 : (if x = m then N1 else (dr_step B L m p s).2.2.2) (3 * q + c) = (if x = m then N1 (3 * q + c) else (dr_step B L m p s).2.2.2 (3 * q + c)) := by split <;> rfl
    have a2 : (if x = m then N1 else s.2.2.2) (3 * q + c) = (if x = m then N1 (3 * q + c) else s.2.2.2 (3 * q + c)) := by split <;> rfl
    show (if li_H (dr_step B L m p s).1 q x = true then (if x = m then N1 else (dr_step B L m p s).2.2.2) (3 * q + c) else 0) = (if da_h (li_H s.1) p m false q x = true then (if x = m then N1 else s.2.2.2) (3 * q + c) else 0)
    rw [a1, a2]
    exact this
theorem dr_step_id {B L m p : Nat} {s : dr_S} (h : ¬ m ∈ s.1 p) (hne : s.1 p ≠ []) : dr_step B L m p s = s := by
  have e : li_rm (s.1 p) m = s.1 p := li_rm_no h
  have e0 : ¬ li_rm (s.1 p) m = [] := by rw [e]; exact hne
  refine Prod.ext ?_ (Prod.ext ?_ (Prod.ext ?_ ?_))
  · funext q
    show li_u s.1 p (li_d B L (s.1 p) m p) q = s.1 q
    by_cases eq : q = p
    · rw [eq, li_us]; unfold li_d; rw [if_neg e0, e]
    · exact li_un eq
  · exact if_neg e0
  · funext k
    exact if_neg (fun z => e0 z.1)
  · funext j
    exact if_neg (fun z => e0 z.1)
theorem dr_no {B L m q x : Nat} {s : dr_S} (hB : B < 3) (hL : L < 32) (hLm : L.testBit m = false) (hq : q < 6) (h : x ∈ (dr_it B L m 6 s).1 q) : x ≠ m := by
  intro z
  rw [dr_it_ls, if_pos hq] at h
  unfold li_d at h
  by_cases e0 : li_rm (s.1 q) m = []
  · rw [if_pos e0] at h
    have := ((li_W1 hB hL hq).2 x h).2
    rw [z, hLm] at this
    exact absurd this (by decide)
  · rw [if_neg e0] at h
    exact (li_rm_mem.mp h).2 z
section
variable {xWC xLV xPF xLO xEX xWS xDR xVT xCH : Int32} {xVV xOC : Int64} {xcp xcc xwi xtg xrn xrc xnu xrt xra xrk xan xdo xhe xfr xta xso xsr xsn xsx xsc xsd xse xdp : Nat → Int32} {xst xrr xrs xdc xsk xrg : Nat → Int64}
variable {pos : SX → Prop} {B L m : Nat} {s : dr_S} {E1 : Nat → Option Int64} {N1 C1 C : Nat → Int32} {R1 R : Nat → Int64}
theorem xd_16 (hB : B < 3) (hL : L < 32) (hm : m < 5) (hLm : L.testBit m = false) (hWC : xWC = nI (B + 1)) (hLV : xLV = nI L) (hK : li_K s.1) (hne : ∀ p, p < 6 → s.1 p ≠ [])
    (hq : ∀ (lo ws : Int32) (cp cc wi tg : Nat → Int32) (st : Nat → Int64) (rn : Nat → Int32), dr_X m E1 N1 C1 R1 C R (dr_it B L m 6 s) lo cp cc tg st rn xrc xrr →
      pos (xWC, xLV, xPF, lo, xEX, ws, xDR, xVT, xVV, xOC, xCH, cp, cc, wi, tg, st, rn, xrc, xrr, xnu, xrt, xra, xrk, xan, xrs, xdo, xdc, xhe, xfr, xta, xso, xsr, xsn, xsx, xsc, xsd, xse, xsk, xdp, xrg)) :
    ∀ (n p : Nat) (lo ws : Int32) (cp cc wi tg : Nat → Int32) (st : Nat → Int64) (rn : Nat → Int32), p ≤ 6 → 6 - p < n → dr_X m E1 N1 C1 R1 C R (dr_it B L m p s) lo cp cc tg st rn xrc xrr →
    wX_dropOut_16 pos (nI m) n (nI p) xWC xLV xPF lo xEX ws xDR xVT xVV xOC xCH cp cc wi tg st rn xrc xrr xnu xrt xra xrk xan xrs xdo xdc xhe xfr xta xso xsr xsn xsx xsc xsd xse xsk xdp xrg := by
  intro n
  induction n with
  | zero => intro p lo ws cp cc wi tg st rn _ h; omega
  | succ n ih =>
    intro p lo ws cp cc wi tg st rn hp hn h
    refine pk_le 6 p (fun h6 => ?_) (fun h6 => ?_)
    · have e : p = 6 := by omega
      subst e
      exact hq lo ws cp cc wi tg st rn h
    · have hK' := dr_it_K (m := m) hB hL hK p
      obtain ⟨h1, h2, h3⟩ := h
      refine xl_copies h6 h1 hK' ?_
      have hlt : li_mk ((dr_it B L m p s).1 p) < 32 := li_mk_lt (hK' p h6).2
      refine br_c (fun hb => ?_) (fun hb => ?_)
      · refine xs_clear hm h6 h3 (fun tg' st' rn' h' => ?_)
        refine xl_withdraw hB hL h6 hm hWC hLV h1 hK' (fun ws' cp' cc' wi' hR => ?_)
        refine nm_r (nI_1 p) (ih (p + 1) _ ws' cp' cc' wi' tg' st' rn' (by omega) (by omega) ⟨hR, ?_, dr_X_go hB hL h6 hLm h'⟩)
        rw [h2]
        rfl
      · have hnm : ¬ m ∈ (dr_it B L m p s).1 p := fun z => hb ((ar_bit1 _ hlt m hm).mpr (li_mk_bit.mpr z))
        have e : dr_it B L m (p + 1) s = dr_it B L m p s := dr_step_id hnm (by rw [dr_it_ls, if_neg (by omega)]; exact hne p h6)
        exact nm_r (nI_1 p) (ih (p + 1) lo ws cp cc wi tg st rn (by omega) (by omega) (by rw [e]; exact ⟨h1, h2, h3⟩))
/-- the component's dropOut: L the members before; member m's own data are free -/
theorem xd_drop (hB : B < 3) (hL : L < 32) (hm : m < 5) (hWC : xWC = nI (B + 1)) (hLV : xLV = nI L) (hK : li_K s.1) (hne : ∀ p, p < 6 → s.1 p ≠ [])
    (h : dr_X m E1 N1 C1 R1 C R s xLO xcp xcc xtg xst xrn xrc xrr)
    (hq : ∀ (lo ws : Int32) (cp cc wi tg : Nat → Int32) (st : Nat → Int64) (rn : Nat → Int32), li_R cp cc (dr_it B (li_out L m) m 6 s).1 → lo = (dr_it B (li_out L m) m 6 s).2.1 →
      da_D (li_H (dr_it B (li_out L m) m 6 s).1) (dr_it B (li_out L m) m 6 s).2.2.1 (dr_it B (li_out L m) m 6 s).2.2.2 C R tg st rn xrc xrr →
      pos (xWC, nI (li_out L m), xPF, lo, xEX, ws, xDR, xVT, xVV, xOC, xCH, cp, cc, wi, tg, st, rn, xrc, xrr, xnu, xrt, xra, xrk, xan, xrs, xdo, xdc, xhe, xfr, xta, xso, xsr, xsn, xsx, xsc, xsd, xse, xsk, xdp, xrg)) : wpX_dropOut pos (xWC, xLV, xPF, xLO, xEX, xWS, xDR, xVT, xVV, xOC, xCH, xcp, xcc, xwi, xtg, xst, xrn, xrc, xrr, xnu, xrt, xra, xrk, xan, xrs, xdo, xdc, xhe, xfr, xta, xso, xsr, xsn, xsx, xsc, xsd, xse, xsk, xdp, xrg) (nI m) := by
  have hL' := li_out_lt L hL m hm
  have hLm : (li_out L m).testBit m = false := by
    rw [li_out_tb L hL m hm m hm]; simp
  unfold wpX_dropOut
  refine nm_r (e' := nI (li_out L m)) (by rw [hLV]; exact ar_out L hL m hm) ⟨7, ?_⟩
  refine xd_16 hB hL' hm hLm hWC rfl hK hne (fun lo ws cp cc wi tg st rn h' => hq lo ws cp cc wi tg st rn h'.1 h'.2.1 ?_) 7 0 xLO xWS xcp xcc xwi xtg xst xrn (by omega) (by omega) h
  have hno : ∀ q x, q < 6 → li_H (dr_it B (li_out L m) m 6 s).1 q x = true → x ≠ m := fun q x hq6 e => dr_no hB hL' hLm hq6 (li_Ht.mp e)
  refine da_G_congr2 h'.2.2 (fun x k hx hk => ?_) (fun x q c hx hq hc => ⟨?_, fun b _ => ?_⟩)
  · by_cases e : li_H (dr_it B (li_out L m) m 6 s).1 (k % 6) x = true
    · have hxm := hno _ x (by omega) e
      rw [if_pos e, if_pos e, if_neg hxm]
    · rw [if_neg e, if_neg e]
  · by_cases e : li_H (dr_it B (li_out L m) m 6 s).1 q x = true
    · have hxm := hno q x hq e
      rw [if_pos e, if_pos e, if_neg hxm]
    · rw [if_neg e, if_neg e]
  · have hxm := hno q x hq b
    rw [if_neg hxm, if_neg hxm]
    exact ⟨rfl, rfl⟩
end
end
section
/-! the members: the abstract state (B, L, ls, E, N, C, R), and how the two objects show it -/
def ma_A (B L : Nat) (ls : Nat → List Nat) (E : Nat → Option Int64) (N C : Nat → Int32) : Prop :=
  B < 3 ∧ L < 32 ∧ (∀ p, p < 6 → (ls p).Nodup ∧ (ls p).length ≤ 5 ∧ (∀ x, x ∈ ls p → x < 5 ∧ L.testBit x = true) ∧ (L ≠ 0 → ls p ≠ []) ∧
    (ls p = [] → (∀ k, k < 18 → k % 6 = p → E k = none) ∧ ∀ c, c < 3 → N (3 * p + c) = 0)) ∧ ∀ j, j < 18 → N j ≠ 0 → ∃ cd, cd ≤ 3 ∧ C j = nI cd
def mx_X (B L : Nat) (ls : Nat → List Nat) (E : Nat → Option Int64) (N C : Nat → Int32) (R : Nat → Int64) (wc lv : Int32) (cp cc tg : Nat → Int32) (st : Nat → Int64) (rn rc : Nat → Int32) (rr : Nat → Int64) : Prop :=
  wc = nI (B + 1) ∧ lv = nI L ∧ li_R cp cc ls ∧ da_D (li_H ls) E N C R tg st rn rc rr
def my_Y (B L : Nat) (ls : Nat → List Nat) (E : Nat → Option Int64) (N C : Nat → Int32) (R : Nat → Int64) (bk : Int32) (lv li sz ha : Nat → Int32) (va : Nat → Int64) (rn rc : Nat → Int32) (rr : Nat → Int64) : Prop :=
  bk = nI B ∧ (∀ x, x < 5 → lv x = if L.testBit x = true then 1 else 0) ∧ li_R li sz ls ∧ ye_E ha va E ∧ ∀ j, j < 18 → rn j = N j ∧ rc j = C j ∧ rr j = R j
theorem ma_C {B L : Nat} {ls : Nat → List Nat} {E : Nat → Option Int64} {N C : Nat → Int32} (h : ma_A B L ls E N C) : ∀ j, j < 18 → N j ≠ 0 → vp_nar .byte (C j) = C j := by
  intro j hj hN
  obtain ⟨cd, hcd, e⟩ := h.2.2.2 j hj hN
  rw [e]
  exact ar_nb (by omega)
theorem ma_K {B L : Nat} {ls : Nat → List Nat} {E : Nat → Option Int64} {N C : Nat → Int32} (h : ma_A B L ls E N C) : li_K ls := by
  intro p hp
  obtain ⟨_, h2, h3, _⟩ := h.2.2.1 p hp
  exact ⟨h2, fun x hx => (h3 x hx).1⟩
theorem ma_ne {B L : Nat} {ls : Nat → List Nat} {E : Nat → Option Int64} {N C : Nat → Int32} {m : Nat} (h : ma_A B L ls E N C) (hm : L.testBit m = true) : ∀ p, p < 6 → ls p ≠ [] := by
  intro p hp
  refine (h.2.2.1 p hp).2.2.2.1 ?_
  intro e
  rw [e, Nat.zero_testBit] at hm
  exact absurd hm (by decide)
theorem ma_drop {B L : Nat} {ls : Nat → List Nat} {E : Nat → Option Int64} {N C : Nat → Int32} {m : Nat} {lo : Int32} (h : ma_A B L ls E N C) (hm : m < 5) :
    ma_A B (li_out L m) (dr_it B (li_out L m) m 6 (ls, lo, E, N)).1 (dr_it B (li_out L m) m 6 (ls, lo, E, N)).2.2.1 (dr_it B (li_out L m) m 6 (ls, lo, E, N)).2.2.2 C := by
  obtain ⟨hB, hL, h3, h4⟩ := h
  have hL' := li_out_lt L hL m hm
  refine ⟨hB, hL', fun p hp => ?_, fun j hj hN => ?_⟩
  · obtain ⟨a1, a2, a3, a4, a5⟩ := h3 p hp
    have hE : ∀ k, k % 6 = p → (dr_it B (li_out L m) m 6 (ls, lo, E, N)).2.2.1 k = if li_rm (ls p) m = [] then none else E k := by
      intro k hk
      rw [dr_it_E, hk]
      show (if p < 6 ∧ li_rm (ls p) m = [] then none else E k) = _
      by_cases e : li_rm (ls p) m = []
      · rw [if_pos ⟨hp, e⟩, if_pos e]
      · rw [if_neg (fun z => e z.2), if_neg e]
    have hN' : ∀ c, c < 3 → (dr_it B (li_out L m) m 6 (ls, lo, E, N)).2.2.2 (3 * p + c) = if li_rm (ls p) m = [] then 0 else N (3 * p + c) := by
      intro c hc
      rw [dr_it_N, show (3 * p + c) / 3 = p from by omega]
      show (if p < 6 ∧ li_rm (ls p) m = [] then (0 : Int32) else N (3 * p + c)) = _
      by_cases e : li_rm (ls p) m = []
      · rw [if_pos ⟨hp, e⟩, if_pos e]
      · rw [if_neg (fun z => e z.2), if_neg e]
    rw [dr_it_ls, if_pos hp]
    show (li_d B (li_out L m) (ls p) m p).Nodup ∧ (li_d B (li_out L m) (ls p) m p).length ≤ 5 ∧ (∀ x, x ∈ li_d B (li_out L m) (ls p) m p → x < 5 ∧ (li_out L m).testBit x = true) ∧ (li_out L m ≠ 0 → li_d B (li_out L m) (ls p) m p ≠ []) ∧ (li_d B (li_out L m) (ls p) m p = [] → _)
    unfold li_d
    by_cases e : li_rm (ls p) m = []
    · rw [if_pos e]
      obtain ⟨w1, w2, w3, w4⟩ := li_W_ok B hB _ hL' p hp
      obtain ⟨v1, v2⟩ := li_W1 hB hL' hp
      refine ⟨List.Nodup.sublist (List.take_sublist _ _) w1, v1, v2, fun h0 z => ?_, fun _ => ⟨fun k _ hk => ?_, fun c hc => ?_⟩⟩
      · have := w4 h0
        cases hw : li_W B (li_out L m) p with
        | nil => exact this hw
        | cons a t => rw [hw] at z; exact absurd z (by simp)
      · rw [hE k hk, if_pos e]
      · rw [hN' c hc, if_pos e]
    · rw [if_neg e]
      have hl := li_rm_len (ls p) m
      refine ⟨li_rm_nodup a1, by omega, fun x hx => ?_, fun _ => e, fun z => absurd z e⟩
      obtain ⟨x1, x2⟩ := li_rm_mem.mp hx
      obtain ⟨x3, x4⟩ := a3 x x1
      refine ⟨x3, ?_⟩
      rw [li_out_tb L hL m hm x x3, x4]
      simp [x2]
  · rw [dr_it_N] at hN
    by_cases e : j / 3 < 6 ∧ li_rm (ls (j / 3)) m = []
    · rw [if_pos e] at hN; exact absurd rfl hN
    · rw [if_neg e] at hN; exact h4 j hj hN
def dr_F (B L m : Nat) (ls : Nat → List Nat) (lo : Int32) (E : Nat → Option Int64) (N : Nat → Int32) : dr_S := dr_it B (li_out L m) m 6 (ls, lo, E, N)
theorem dr_X_of {m : Nat} {ls : Nat → List Nat} {E : Nat → Option Int64} {N C : Nat → Int32} {R : Nat → Int64} {lo : Int32} {cp cc tg : Nat → Int32} {st : Nat → Int64} {rn rc : Nat → Int32} {rr : Nat → Int64}
    (hR : li_R cp cc ls) (hD : da_D (li_H ls) E N C R tg st rn rc rr) : dr_X m E N C R C R (ls, lo, E, N) lo cp cc tg st rn rc rr := by
  refine ⟨hR, rfl, da_G_congr hD (fun _ _ _ _ => rfl) (fun x k _ _ _ => ?_) (fun x p c _ _ _ _ => ⟨?_, fun _ => ⟨?_, ?_⟩⟩)⟩
  · show (if x = m then E else E) k = E k
    split <;> rfl
  · show (if x = m then N else N) (3 * p + c) = N (3 * p + c)
    split <;> rfl
  · show (if x = m then C else C) (3 * p + c) = C (3 * p + c)
    split <;> rfl
  · show (if x = m then R else R) (3 * p + c) = R (3 * p + c)
    split <;> rfl
section
variable {xWC xLV xPF xLO xEX xWS xDR xVT xCH : Int32} {xVV xOC : Int64} {xcp xcc xwi xtg xrn xrc xnu xrt xra xrk xan xdo xhe xfr xta xso xsr xsn xsx xsc xsd xse xdp : Nat → Int32} {xst xrr xrs xdc xsk xrg : Nat → Int64}
variable {pos : SX → Prop} {B L m : Nat} {ls : Nat → List Nat} {E : Nat → Option Int64} {N C : Nat → Int32} {R : Nat → Int64}
theorem xd_dropM (hA : ma_A B L ls E N C) (hm : m < 5) (hb : L.testBit m = true) (hX : mx_X B L ls E N C R xWC xLV xcp xcc xtg xst xrn xrc xrr)
    (hq : ∀ (lo ws : Int32) (cp cc wi tg : Nat → Int32) (st : Nat → Int64) (rn : Nat → Int32), lo = (dr_F B L m ls xLO E N).2.1 →
      mx_X B (li_out L m) (dr_F B L m ls xLO E N).1 (dr_F B L m ls xLO E N).2.2.1 (dr_F B L m ls xLO E N).2.2.2 C R xWC (nI (li_out L m)) cp cc tg st rn xrc xrr →
      pos (xWC, nI (li_out L m), xPF, lo, xEX, ws, xDR, xVT, xVV, xOC, xCH, cp, cc, wi, tg, st, rn, xrc, xrr, xnu, xrt, xra, xrk, xan, xrs, xdo, xdc, xhe, xfr, xta, xso, xsr, xsn, xsx, xsc, xsd, xse, xsk, xdp, xrg)) : wpX_dropOut pos (xWC, xLV, xPF, xLO, xEX, xWS, xDR, xVT, xVV, xOC, xCH, xcp, xcc, xwi, xtg, xst, xrn, xrc, xrr, xnu, xrt, xra, xrk, xan, xrs, xdo, xdc, xhe, xfr, xta, xso, xsr, xsn, xsx, xsc, xsd, xse, xsk, xdp, xrg) (nI m) := by
  obtain ⟨x1, x2, x3, x4⟩ := hX
  exact xd_drop (s := (ls, xLO, E, N)) hA.1 hA.2.1 hm x1 x2 (ma_K hA) (ma_ne hA hb) (dr_X_of x3 x4) (fun lo ws cp cc wi tg st rn k1 k2 k3 => hq lo ws cp cc wi tg st rn k2 ⟨x1, rfl, k1, k3⟩)
end
section
variable {yBK yFA yLO yEX yVH : Int32} {yVV yOC : Int64} {ylv yls ysz yha yrn yrc yop yle ypa ynu yqt yqk yqa yon ywa : Nat → Int32} {yva yrr yar yst ysh : Nat → Int64}
variable {pos : SY → Prop} {B L m : Nat} {ls : Nat → List Nat} {E : Nat → Option Int64} {N C : Nat → Int32} {R : Nat → Int64}
theorem yd_dropM (hA : ma_A B L ls E N C) (hm : m < 5) (hY : my_Y B L ls E N C R yBK ylv yls ysz yha yva yrn yrc yrr)
    (hq : ∀ (lv : Nat → Int32) (lo : Int32) (ha rn li sz wn : Nat → Int32), lo = (dr_F B L m ls yLO E N).2.1 →
      my_Y B (li_out L m) (dr_F B L m ls yLO E N).1 (dr_F B L m ls yLO E N).2.2.1 (dr_F B L m ls yLO E N).2.2.2 C R yBK lv li sz ha yva rn yrc yrr →
      pos (yBK, yFA, lo, yEX, yVH, yVV, yOC, lv, li, sz, ha, yva, rn, yrc, yrr, yop, yar, yle, ypa, yst, ynu, yqt, yqk, yqa, yon, ysh, wn)) : wpY_dropOut pos (yBK, yFA, yLO, yEX, yVH, yVV, yOC, ylv, yls, ysz, yha, yva, yrn, yrc, yrr, yop, yar, yle, ypa, yst, ynu, yqt, yqk, yqa, yon, ysh, ywa) (nI m) := by
  obtain ⟨y1, y2, y3, y4, y5⟩ := hY
  refine yd_drop (s := (ls, yLO, E, N)) hA.1 hA.2.1 hm y1 y2 (ma_K hA) ⟨y3, rfl, y4, fun j hj => (y5 j hj).1⟩ (fun lv lo ha rn li sz wn k1 k2 => hq lv lo ha rn li sz wn k2.2.1 ⟨y1, k1, k2.1, k2.2.2.1, fun j hj => ⟨k2.2.2.2 j hj, (y5 j hj).2⟩⟩)
end
/-! join -/
def jn_ls (ls : Nat → List Nat) (m i : Nat) : Nat → List Nat := fun q => if q < i ∧ ls q = [] then [m] else ls q
theorem jn_at {ls : Nat → List Nat} {m i : Nat} : jn_ls ls m i i = ls i := if_neg (fun z => Nat.lt_irrefl i z.1)
theorem jn_0 {ls : Nat → List Nat} {m : Nat} : jn_ls ls m 0 = ls := by
  funext q
  exact if_neg (fun z => Nat.not_lt_zero q z.1)
theorem jn_t {ls : Nat → List Nat} {m i : Nat} (h : ls i = []) : jn_ls ls m (i + 1) = li_u (jn_ls ls m i) i [m] := by
  funext q
  by_cases e : q = i
  · rw [e, li_us]; exact if_pos ⟨by omega, h⟩
  · rw [li_un e]
    unfold jn_ls
    by_cases e2 : q < i ∧ ls q = []
    · rw [if_pos e2, if_pos ⟨by omega, e2.2⟩]
    · rw [if_neg e2, if_neg (fun z => e2 ⟨by omega, z.2⟩)]
theorem jn_f {ls : Nat → List Nat} {m i : Nat} (h : ls i ≠ []) : jn_ls ls m (i + 1) = jn_ls ls m i := by
  funext q
  unfold jn_ls
  by_cases e2 : q < i ∧ ls q = []
  · rw [if_pos e2, if_pos ⟨by omega, e2.2⟩]
  · rw [if_neg e2, if_neg]
    intro z
    by_cases e : q = i
    · rw [e] at z; exact h z.2
    · exact e2 ⟨by omega, z.2⟩
theorem jn_K {ls : Nat → List Nat} {m i : Nat} (hm : m < 5) (h : li_K ls) : li_K (jn_ls ls m i) := by
  intro q hq
  unfold jn_ls
  by_cases e2 : q < i ∧ ls q = []
  · rw [if_pos e2]
    refine ⟨by simp, fun x hx => ?_⟩
    rw [List.mem_singleton] at hx
    omega
  · rw [if_neg e2]; exact h q hq
theorem ma_join {B L : Nat} {ls : Nat → List Nat} {E : Nat → Option Int64} {N C : Nat → Int32} {m : Nat} (h : ma_A B L ls E N C) (hm : m < 5) : ma_A B (L ||| 2 ^ m) (jn_ls ls m 6) E N C := by
  obtain ⟨hB, hL, h3, h4⟩ := h
  refine ⟨hB, li_or_lt L hL m hm, fun p hp => ?_, h4⟩
  obtain ⟨a1, a2, a3, a4, a5⟩ := h3 p hp
  unfold jn_ls
  by_cases e : ls p = []
  · rw [if_pos ⟨hp, e⟩]
    refine ⟨by simp, by simp, fun x hx => ?_, fun _ => by simp, fun z => absurd z (by simp)⟩
    rw [List.mem_singleton] at hx
    rw [hx, li_or_tb L hL m hm m hm]
    exact ⟨hm, by simp⟩
  · rw [if_neg (fun z => e z.2)]
    refine ⟨a1, a2, fun x hx => ?_, fun _ => e, a5⟩
    obtain ⟨x1, x2⟩ := a3 x hx
    rw [li_or_tb L hL m hm x x1, x2]
    exact ⟨x1, by simp⟩
theorem da_join {B L : Nat} {ls : Nat → List Nat} {E : Nat → Option Int64} {N C : Nat → Int32} {R : Nat → Int64} {m : Nat} {tg : Nat → Int32} {st : Nat → Int64} {rn rc : Nat → Int32} {rr : Nat → Int64}
    (h : ma_A B L ls E N C) (hD : da_D (li_H ls) E N C R tg st rn rc rr) : da_D (li_H (jn_ls ls m 6)) E N C R tg st rn rc rr := by
  obtain ⟨hB, hL, h3, h4⟩ := h
  refine da_G_congr2 hD (fun x k hx hk => ?_) (fun x q c hx hq hc => ⟨?_, fun _ _ => ⟨rfl, rfl⟩⟩)
  · have hp : k % 6 < 6 := Nat.mod_lt _ (by decide)
    by_cases e : ls (k % 6) = []
    · have := ((h3 _ hp).2.2.2.2 e).1 k hk rfl
      rw [this, ite_self, ite_self]
    · have ej : li_H (jn_ls ls m 6) (k % 6) x = li_H ls (k % 6) x := by
        unfold li_H
        rw [show jn_ls ls m 6 (k % 6) = ls (k % 6) from if_neg (fun z => e z.2)]
      rw [ej]
  · by_cases e : ls q = []
    · have := ((h3 _ hq).2.2.2.2 e).2 c hc
      rw [this, ite_self, ite_self]
    · have ej : li_H (jn_ls ls m 6) q x = li_H ls q x := by
        unfold li_H
        rw [show jn_ls ls m 6 q = ls q from if_neg (fun z => e z.2)]
      rw [ej]
section
variable {xWC xLV xPF xLO xEX xWS xDR xVT xCH : Int32} {xVV xOC : Int64} {xcp xcc xwi xtg xrn xrc xnu xrt xra xrk xan xdo xhe xfr xta xso xsr xsn xsx xsc xsd xse xdp : Nat → Int32} {xst xrr xrs xdc xsk xrg : Nat → Int64}
variable {poi : Int32 → SX → Prop} {m : Nat} {ls : Nat → List Nat}
theorem xj_36 (hm : m < 5) (hK : li_K ls) : ∀ (n i : Nat) (cp cc : Nat → Int32), i ≤ 6 → 6 - i < n → li_R cp cc (jn_ls ls m i) →
    (∀ cp' cc' : Nat → Int32, li_R cp' cc' (jn_ls ls m 6) → poi 1 (xWC, xLV, xPF, xLO, xEX, xWS, xDR, xVT, xVV, xOC, xCH, cp', cc', xwi, xtg, xst, xrn, xrc, xrr, xnu, xrt, xra, xrk, xan, xrs, xdo, xdc, xhe, xfr, xta, xso, xsr, xsn, xsx, xsc, xsd, xse, xsk, xdp, xrg)) → wX_join_36 poi (nI m) n (nI i) xWC xLV xPF xLO xEX xWS xDR xVT xVV xOC xCH cp cc xwi xtg xst xrn xrc xrr xnu xrt xra xrk xan xrs xdo xdc xhe xfr xta xso xsr xsn xsx xsc xsd xse xsk xdp xrg := by
  intro n
  induction n with
  | zero => intro i cp cc _ h; omega
  | succ n ih =>
    intro i cp cc hi hn h hq
    refine pk_le 6 i (fun h6 => ?_) (fun h6 => ?_)
    · have e : i = 6 := by omega
      subst e
      exact hq cp cc h
    · have g1 := (h i h6).1
      rw [jn_at] at g1
      have k1 := (hK i h6).1
      refine And.intro (vp_in_nI h6 (by omega)) (pk_eq (ls i).length 0 (fun h0 => ?_) (fun h0 => ?_) (by rw [nI_clamp (by omega), g1]))
      · have e0 : ls i = [] := List.length_eq_zero_iff.mp h0
        refine xl_alone h6 hm h (jn_K hm hK) (fun cp' cc' hR => ?_)
        exact nm_r (nI_1 i) (ih (i + 1) cp' cc' (by omega) (by omega) (by rw [jn_t e0]; exact hR) hq)
      · have e0 : ls i ≠ [] := by intro z; rw [z] at h0; exact h0 rfl
        exact nm_r (nI_1 i) (ih (i + 1) cp cc (by omega) (by omega) (by rw [jn_f e0]; exact h) hq)
end
section
variable {yBK yFA yLO yEX yVH : Int32} {yVV yOC : Int64} {ylv yls ysz yha yrn yrc yop yle ypa ynu yqt yqk yqa yon ywa : Nat → Int32} {yva yrr yar yst ysh : Nat → Int64}
variable {poi : Int32 → SY → Prop} {m : Nat} {ls : Nat → List Nat}
theorem yj_29 (hm : m < 5) (hK : li_K ls) : ∀ (n i : Nat) (li sz : Nat → Int32), i ≤ 6 → 6 - i < n → li_R li sz (jn_ls ls m i) →
    (∀ li' sz' : Nat → Int32, li_R li' sz' (jn_ls ls m 6) → poi 1 (yBK, yFA, yLO, yEX, yVH, yVV, yOC, ylv, li', sz', yha, yva, yrn, yrc, yrr, yop, yar, yle, ypa, yst, ynu, yqt, yqk, yqa, yon, ysh, ywa)) → wY_join_29 poi (nI m) yBK yFA yLO yEX yVH yVV yOC n (nI i) ylv li sz yha yva yrn yrc yrr yop yar yle ypa yst ynu yqt yqk yqa yon ysh ywa := by
  intro n
  induction n with
  | zero => intro i li sz _ h; omega
  | succ n ih =>
    intro i li sz hi hn h hq
    refine pk_le 6 i (fun h6 => ?_) (fun h6 => ?_)
    · have e : i = 6 := by omega
      subst e
      exact hq li sz h
    · have g1 := (h i h6).1
      rw [jn_at] at g1
      have k1 := (hK i h6).1
      refine And.intro (vp_in_nI h6 (by omega)) (pk_le (ls i).length 0 (fun h0 => ?_) (fun h0 => ?_) (by rw [nI_clamp (by omega), g1]))
      · have e0 : ls i = [] := List.length_eq_zero_iff.mp (by omega)
        refine And.intro (by rw [ar_5]; exact vp_in_nI (by omega) (by omega)) ?_
        refine nm_r (e' := upd li (5 * i) (nI m)) (by rw [ar_5, nI_clamp (by omega), ar_nbb (by omega)]) (And.intro (vp_in_nI h6 (by omega)) ?_)
        refine nm_r (e' := upd sz i (nI 1)) (by rw [nI_clamp (by omega)]; exact congrArg _ (ar_nb (t := 1) (by decide))) ?_
        refine nm_r (nI_1 i) (ih (i + 1) _ _ (by omega) (by omega) ?_ hq)
        rw [jn_t e0]
        refine li_R_put h (jn_K hm hK) (fun q hq => pk_un (by omega)) (fun q hq => pk_un hq) pk_us ?_
        intro j x hx
        have h1 : j < 1 := li_lt hx
        have e1 : j = 0 := by omega
        rw [e1] at hx
        have e2 : m = x := Option.some.inj hx
        rw [e1, Nat.add_zero, pk_us, e2]
      · have e0 : ls i ≠ [] := by intro z; rw [z] at h0; exact absurd h0 (by decide)
        exact nm_r (nI_1 i) (ih (i + 1) li sz (by omega) (by omega) (by rw [jn_f e0]; exact h) hq)
end
/-! leave -/
def lz_ls (W : Nat → List Nat) (ls : Nat → List Nat) (m i : Nat) : Nat → List Nat := fun q => if q < i ∧ ls q = [m] ∧ W q ≠ [] then (W q).take 1 else ls q
theorem lz_at {W ls : Nat → List Nat} {m i : Nat} : lz_ls W ls m i i = ls i := if_neg (fun z => Nat.lt_irrefl i z.1)
theorem lz_0 {W ls : Nat → List Nat} {m : Nat} : lz_ls W ls m 0 = ls := by
  funext q
  exact if_neg (fun z => Nat.not_lt_zero q z.1)
theorem lz_t {W ls : Nat → List Nat} {m i : Nat} (h : ls i = [m]) (h' : W i ≠ []) : lz_ls W ls m (i + 1) = li_u (lz_ls W ls m i) i ((W i).take 1) := by
  funext q
  by_cases e : q = i
  · rw [e, li_us]; exact if_pos ⟨by omega, h, h'⟩
  · rw [li_un e]
    unfold lz_ls
    by_cases e2 : q < i ∧ ls q = [m] ∧ W q ≠ []
    · rw [if_pos e2, if_pos ⟨by omega, e2.2⟩]
    · rw [if_neg e2, if_neg (fun z => e2 ⟨by omega, z.2⟩)]
theorem lz_f {W ls : Nat → List Nat} {m i : Nat} (h : ¬ (ls i = [m] ∧ W i ≠ [])) : lz_ls W ls m (i + 1) = lz_ls W ls m i := by
  funext q
  unfold lz_ls
  by_cases e2 : q < i ∧ ls q = [m] ∧ W q ≠ []
  · rw [if_pos e2, if_pos ⟨by omega, e2.2⟩]
  · rw [if_neg e2, if_neg]
    intro z
    by_cases e : q = i
    · rw [e] at z; exact h z.2
    · exact e2 ⟨by omega, z.2⟩
theorem ma_leave {B L : Nat} {ls : Nat → List Nat} {E : Nat → Option Int64} {N C : Nat → Int32} {m : Nat} (h : ma_A B L ls E N C) (hm : m < 5) (i : Nat) : ma_A B L (lz_ls (li_W B (li_out L m)) ls m i) E N C := by
  obtain ⟨hB, hL, h3, h4⟩ := h
  have hL' := li_out_lt L hL m hm
  refine ⟨hB, hL, fun p hp => ?_, h4⟩
  obtain ⟨a1, a2, a3, a4, a5⟩ := h3 p hp
  unfold lz_ls
  by_cases e : p < i ∧ ls p = [m] ∧ li_W B (li_out L m) p ≠ []
  · rw [if_pos e]
    obtain ⟨w1, w2, w3, w4⟩ := li_W_ok B hB _ hL' p hp
    obtain ⟨v1, v2⟩ := li_W1 hB hL' hp
    have hne : (li_W B (li_out L m) p).take 1 ≠ [] := by
      cases hw : li_W B (li_out L m) p with
      | nil => exact absurd hw e.2.2
      | cons a t => simp
    refine ⟨List.Nodup.sublist (List.take_sublist _ _) w1, v1, fun x hx => ?_, fun _ => hne, fun z => absurd z hne⟩
    obtain ⟨x1, x2⟩ := v2 x hx
    rw [li_out_tb L hL m hm x x1, Bool.and_eq_true] at x2
    exact ⟨x1, x2.1⟩
  · rw [if_neg e]; exact ⟨a1, a2, a3, a4, a5⟩
def lz_F (B L m : Nat) (ls : Nat → List Nat) (lo : Int32) (E : Nat → Option Int64) (N : Nat → Int32) : dr_S := dr_F B L m (lz_ls (li_W B (li_out L m)) ls m 6) lo E N
section
variable {xWC xLV xPF xLO xEX xWS xDR xVT xCH : Int32} {xVV xOC : Int64} {xcp xcc xwi xtg xrn xrc xnu xrt xra xrk xan xdo xhe xfr xta xso xsr xsn xsx xsc xsd xse xdp : Nat → Int32} {xst xrr xrs xdc xsk xrg : Nat → Int64}
variable {poi : Int32 → SX → Prop} {B L m : Nat} {ls : Nat → List Nat} {E : Nat → Option Int64} {N C : Nat → Int32} {R : Nat → Int64}
theorem xv_23 (hA : ma_A B L ls E N C) (hm : m < 5) (hb : L.testBit m = true) (hWC : xWC = nI (B + 1)) (hLV : xLV = nI L)
    (hq : ∀ (lo ws : Int32) (cp cc wi tg : Nat → Int32) (st : Nat → Int64) (rn rc : Nat → Int32) (rr : Nat → Int64), lo = (lz_F B L m ls xLO E N).2.1 →
      mx_X B (li_out L m) (lz_F B L m ls xLO E N).1 (lz_F B L m ls xLO E N).2.2.1 (lz_F B L m ls xLO E N).2.2.2 C R xWC (nI (li_out L m)) cp cc tg st rn rc rr →
      poi 1 (xWC, nI (li_out L m), xPF, lo, xEX, ws, xDR, xVT, xVV, xOC, xCH, cp, cc, wi, tg, st, rn, rc, rr, xnu, xrt, xra, xrk, xan, xrs, xdo, xdc, xhe, xfr, xta, xso, xsr, xsn, xsx, xsc, xsd, xse, xsk, xdp, xrg)) :
    ∀ (n i : Nat) (ws : Int32) (cp cc wi tg : Nat → Int32) (st : Nat → Int64) (rn rc : Nat → Int32) (rr : Nat → Int64), i ≤ 6 → 6 - i < n → li_R cp cc (lz_ls (li_W B (li_out L m)) ls m i) →
      da_D (li_H (lz_ls (li_W B (li_out L m)) ls m i)) E N C R tg st rn rc rr →
      wX_leave_23 poi (nI m) n (nI i) xWC xLV xPF xLO xEX ws xDR xVT xVV xOC xCH cp cc wi tg st rn rc rr xnu xrt xra xrk xan xrs xdo xdc xhe xfr xta xso xsr xsn xsx xsc xsd xse xsk xdp xrg := by
  have hB := hA.1
  have hL := hA.2.1
  have hL' := li_out_lt L hL m hm
  intro n
  induction n with
  | zero => intro i ws cp cc wi tg st rn rc rr _ h; omega
  | succ n ih =>
    intro i ws cp cc wi tg st rn rc rr hi hn hR hD
    refine pk_le 6 i (fun h6 => ?_) (fun h6 => ?_)
    · have e : i = 6 := by omega
      subst e
      exact xd_dropM (ma_leave hA hm 6) hm hb ⟨hWC, hLV, hR, hD⟩ (fun lo' ws' cp' cc' wi' tg' st' rn' k1 k2 => hq lo' ws' cp' cc' wi' tg' st' rn' rc rr k1 k2)
    · have hAi := ma_leave hA hm i
      have hK := ma_K hAi
      have hnd : (ls i).Nodup := (hA.2.2.1 i h6).1
      refine xl_copies h6 hR hK ?_
      rw [lz_at]
      have hk5 : ∀ x, x ∈ ls i → x < 5 := fun x hx => ((hA.2.2.1 i h6).2.2.1 x hx).1
      have hlt := li_mk_lt hk5
      have hp2 : 2 ^ m < 2 ^ 5 := Nat.pow_lt_pow_right (by decide) hm
      have ec : (nI (li_mk (ls i)) = (1 : Int32) <<< (nI m &&& 31)) ↔ ls i = [m] := by
        rw [ar_shl m hm, nI_eq (by omega) (by omega), li_mk_one hnd]
      refine br_c (fun hc => ?_) (fun hc => ?_)
      · have e1 := ec.mp hc
        rw [hLV, ar_out L hL m hm]
        refine xl_wanted hB hL' h6 hWC (fun wi' hw => ?_)
        refine pk_le (li_W B (li_out L m) i).length 0 (fun h0 => ?_) (fun h0 => ?_) rfl rfl (by have := (li_W_ok B hB _ hL' i h6).2.1; omega)
        · have e0 : li_W B (li_out L m) i = [] := List.length_eq_zero_iff.mp (by omega)
          have e2 := lz_f (W := li_W B (li_out L m)) (ls := ls) (m := m) (i := i) (fun z => z.2 e0)
          refine nm_r (nI_1 i) ?_
          have K := ih (i + 1) (nI (li_W B (li_out L m) i).length) cp cc wi' tg st rn rc rr (by omega) (by omega) (by rw [e2]; exact hR) (by rw [e2]; exact hD)
          rw [hLV] at K
          exact K
        · have hx := List.getElem?_eq_getElem (l := li_W B (li_out L m) i) (i := 0) (by omega)
          generalize hgx : (li_W B (li_out L m) i)[0]'(by omega) = x at hx
          obtain ⟨hx5, hxt⟩ := (li_W_ok B hB _ hL' i h6).2.2.1 x (li_mem hx)
          have hxm : m ≠ x := by
            intro z
            rw [← z, li_out_tb L hL m hm m hm] at hxt
            simp at hxt
          have ew := hw 0 x hx
          rw [Nat.zero_add] at ew
          have hd : (li_W B (li_out L m) i).take 1 = [x] := by rw [List.take_succ_eq_append_getElem (by omega), hgx]; rfl
          have e2 := lz_t (W := li_W B (li_out L m)) (ls := ls) (m := m) (i := i) e1 (by intro z; rw [z] at h0; exact absurd h0 (by decide))
          rw [hd] at e2
          rw [ew]
          refine xs_transfer hm hx5 hxm h6 hD (li_Ht.mpr (by rw [lz_at, e1]; simp)) (ma_C hA) (fun tg' st' rn' rc' rr' hD' => ?_)
          refine xs_clear hm h6 hD' (fun tg2 st2 rn2 hD2 => ?_)
          dsimp only
          rw [ew]
          refine xl_alone h6 hx5 hR hK (fun cp' cc' hR' => ?_)
          refine nm_r (nI_1 i) ?_
          have K := ih (i + 1) (nI (li_W B (li_out L m) i).length) cp' cc' wi' tg2 st2 rn2 rc' rr' (by omega) (by omega) (by rw [e2]; exact hR') (by
            rw [e2]
            refine da_G_congr hD2 (fun q y hq hy => ?_) (fun _ _ _ _ _ => rfl) (fun _ _ _ _ _ _ _ => ⟨rfl, fun _ => ⟨rfl, rfl⟩⟩)
            by_cases eq : q = i
            · rw [eq]
              by_cases ey : y = m
              · rw [ey, da_hs]
                exact li_Hf.mpr (by rw [li_us, List.mem_singleton]; exact hxm)
              · rw [da_hn (fun z => ey z.2)]
                by_cases ex : y = x
                · rw [ex, da_hs]; exact li_Ht.mpr (by rw [li_us]; simp)
                · rw [da_hn (fun z => ex z.2)]
                  have a1 : li_H (li_u (lz_ls (li_W B (li_out L m)) ls m i) i [x]) i y = false := li_Hf.mpr (by rw [li_us, List.mem_singleton]; exact ex)
                  have a2 : li_H (lz_ls (li_W B (li_out L m)) ls m i) i y = false := li_Hf.mpr (by rw [lz_at, e1, List.mem_singleton]; exact ey)
                  rw [a1, a2]
            · rw [li_Hu eq, da_hn (fun z => eq z.1), da_hn (fun z => eq z.1)])
          rw [hLV] at K
          exact K
      · have e1 : ¬ ls i = [m] := fun z => hc (ec.mpr z)
        have e2 := lz_f (W := li_W B (li_out L m)) (ls := ls) (m := m) (i := i) (fun z => e1 z.1)
        exact nm_r (nI_1 i) (ih (i + 1) ws cp cc wi tg st rn rc rr (by omega) (by omega) (by rw [e2]; exact hR) (by rw [e2]; exact hD))
end
section
variable {yBK yFA yLO yEX yVH : Int32} {yVV yOC : Int64} {ylv yls ysz yha yrn yrc yop yle ypa ynu yqt yqk yqa yon ywa : Nat → Int32} {yva yrr yar yst ysh : Nat → Int64}
variable {poi : Int32 → SY → Prop} {B L m : Nat} {ls : Nat → List Nat} {E : Nat → Option Int64} {N C : Nat → Int32} {R : Nat → Int64}
theorem yv_22 (hA : ma_A B L ls E N C) (hm : m < 5) (hBK : yBK = nI B) (hl : ∀ x, x < 5 → ylv x = if L.testBit x = true then 1 else 0) (hE : ye_E yha yva E) (hN : ∀ j, j < 18 → yrn j = N j ∧ yrc j = C j ∧ yrr j = R j)
    (hq : ∀ (lv : Nat → Int32) (lo : Int32) (ha rn li sz wn : Nat → Int32), lo = (lz_F B L m ls yLO E N).2.1 →
      my_Y B (li_out L m) (lz_F B L m ls yLO E N).1 (lz_F B L m ls yLO E N).2.2.1 (lz_F B L m ls yLO E N).2.2.2 C R yBK lv li sz ha yva rn yrc yrr →
      poi 1 (yBK, yFA, lo, yEX, yVH, yVV, yOC, lv, li, sz, ha, yva, rn, yrc, yrr, yop, yar, yle, ypa, yst, ynu, yqt, yqk, yqa, yon, ysh, wn)) :
    ∀ (n i : Nat) (li wn : Nat → Int32), i ≤ 6 → 6 - i < n → li_R li ysz (lz_ls (li_W B (li_out L m)) ls m i) → wY_leave_22 poi (nI m) n (nI i) yBK yFA yLO yEX yVH yVV yOC ylv li ysz yha yva yrn yrc yrr yop yar yle ypa yst ynu yqt yqk yqa yon ysh wn := by
  have hB := hA.1
  have hL := hA.2.1
  have hL' := li_out_lt L hL m hm
  have hl' : ∀ x, x < 5 → ((li_out L m).testBit x = true ↔ (¬ ylv x = 0 ∧ ¬ nI x = nI m)) := by
    intro x hx
    rw [li_out_tb L hL m hm x hx, hl x hx, nI_eq (by omega) (by omega)]
    cases hb : L.testBit x
    · simp
    · simp
  intro n
  induction n with
  | zero => intro i li wn _ h; omega
  | succ n ih =>
    intro i li wn hi hn hR
    refine pk_le 6 i (fun h6 => ?_) (fun h6 => ?_)
    · have e : i = 6 := by omega
      subst e
      exact yd_dropM (ma_leave hA hm 6) hm ⟨hBK, hl, hR, hE, hN⟩ (fun lv' lo' ha' rn' li' sz' wn' k1 k2 => hq lv' lo' ha' rn' li' sz' wn' k1 k2)
    · have hK := ma_K (ma_leave hA hm i)
      refine yl_alone h6 hm hR hK (fun e1 => ?_) (fun e1 => ?_)
      · rw [lz_at] at e1
        refine br_f (by decide) ?_
        refine yl_want hB h6 hBK hl' (fun wn' hw => ?_)
        have wlen := (li_W_ok B hB _ hL' i h6).2.1
        refine pk_le (li_W B (li_out L m) i).length 0 (fun h0 => ?_) (fun h0 => ?_)
        · have e0 : li_W B (li_out L m) i = [] := List.length_eq_zero_iff.mp (by omega)
          have e2 := lz_f (W := li_W B (li_out L m)) (ls := ls) (m := m) (i := i) (fun z => z.2 e0)
          exact nm_r (nI_1 i) (ih (i + 1) li wn' (by omega) (by omega) (by rw [e2]; exact hR))
        · have hx := List.getElem?_eq_getElem (l := li_W B (li_out L m) i) (i := 0) (by omega)
          generalize hgx : (li_W B (li_out L m) i)[0]'(by omega) = x at hx
          obtain ⟨hx5, hxt⟩ := (li_W_ok B hB _ hL' i h6).2.2.1 x (li_mem hx)
          have ew := hw 0 x hx
          rw [Nat.zero_add] at ew
          have hd : (li_W B (li_out L m) i).take 1 = [x] := by rw [List.take_succ_eq_append_getElem (by omega), hgx]; rfl
          have e2 := lz_t (W := li_W B (li_out L m)) (ls := ls) (m := m) (i := i) e1 (by intro z; rw [z] at h0; exact absurd h0 (by decide))
          rw [hd] at e2
          refine And.intro (by rw [ar_5]; exact vp_in_nI (by omega) (by omega)) ?_
          refine nm_r (e' := upd li (5 * i) (nI x)) (by rw [ar_5, nI_clamp (by omega), ew, ar_nb (by omega)]) ?_
          refine nm_r (nI_1 i) (ih (i + 1) _ wn' (by omega) (by omega) ?_)
          rw [e2]
          have g := hR i h6
          rw [lz_at, e1] at g
          refine li_R_put hR hK (fun q hq => pk_un (by omega)) (fun q hq => rfl) g.1 ?_
          intro j y hy
          have h1 : j < 1 := li_lt hy
          have e3 : j = 0 := by omega
          rw [e3] at hy
          have e4 : x = y := Option.some.inj hy
          rw [e3, Nat.add_zero, pk_us, e4]
      · rw [lz_at] at e1
        have e2 := lz_f (W := li_W B (li_out L m)) (ls := ls) (m := m) (i := i) (fun z => e1 z.1)
        exact br_t rfl (nm_r (nI_1 i) (ih (i + 1) li wn (by omega) (by omega) (by rw [e2]; exact hR)))
end
end
section
/-! migrate: the first partition whose list isn't the wished one gets it -/
theorem li_ext {l l' : List Nat} (h : l.length = l'.length) (h2 : ∀ j, j < l.length → l[j]? = l'[j]?) : l = l' := by
  apply List.ext_getElem?
  intro j
  by_cases e : j < l.length
  · exact h2 j e
  · rw [List.getElem?_eq_none (by omega), List.getElem?_eq_none (by omega)]
def mv_H (ls : Nat → List Nat) (p : Nat) (l : List Nat) : Nat → Nat → Bool := fun q x => if q = p then decide (x ∈ ls p ∨ x ∈ l) else li_H ls q x
def mv_J (ls : Nat → List Nat) (p : Nat) (l : List Nat) (i : Nat) : Nat → Nat → Bool := fun q x => if q = p then decide (x ∈ l ∨ (x ∈ ls p ∧ i ≤ x)) else li_H ls q x
section
variable {xWC xLV xPF xLO xEX xWS xDR xVT xCH : Int32} {xVV xOC : Int64} {xcp xcc xwi xtg xrn xrc xnu xrt xra xrk xan xdo xhe xfr xta xso xsr xsn xsx xsc xsd xse xdp : Nat → Int32} {xst xrr xrs xdc xsk xrg : Nat → Int64}
variable {poi : Int32 → SX → Prop} {pos : SX → Prop} {B L p : Nat} {ls : Nat → List Nat} {W : List Nat} {E : Nat → Option Int64} {N C : Nat → Int32} {R : Nat → Int64}
theorem xm_114 (hp : p < 6) (hW : W.length ≤ 3) (hWS : xWS = nI W.length) (hW5 : ∀ x, x ∈ W → x < 5) (hw : li_A xwi 0 W) (hK : li_K ls) {cp0 : Nat → Int32}
    (h0 : ∀ q, q < 6 → q ≠ p → xcc q = nI (ls q).length ∧ li_A cp0 (5 * q) (ls q)) (hcc : xcc p = nI W.length)
    (hq : ∀ cp' : Nat → Int32, li_R cp' xcc (li_u ls p W) → pos (xWC, xLV, xPF, xLO, xEX, xWS, xDR, xVT, xVV, xOC, xCH, cp', xcc, xwi, xtg, xst, xrn, xrc, xrr, xnu, xrt, xra, xrk, xan, xrs, xdo, xdc, xhe, xfr, xta, xso, xsr, xsn, xsx, xsc, xsd, xse, xsk, xdp, xrg)) :
    ∀ (n i : Nat) (cp : Nat → Int32), i ≤ W.length → W.length - i < n → (∀ q, q < 5 * p ∨ 5 * p + 5 ≤ q → cp q = cp0 q) → li_A cp (5 * p) (W.take i) →
    wX_move_114 pos (nI p) xWC xLV xPF xLO xEX xWS xDR xVT xVV xOC xCH n (nI i) cp xcc xwi xtg xst xrn xrc xrr xnu xrt xra xrk xan xrs xdo xdc xhe xfr xta xso xsr xsn xsx xsc xsd xse xsk xdp xrg := by
  intro n
  induction n with
  | zero => intro i cp _ h; omega
  | succ n ih =>
    intro i cp hi hn hf hA
    refine pk_le W.length i (fun hl => ?_) (fun hl => ?_) hWS
    · have e : i = W.length := by omega
      rw [e, List.take_length] at hA
      refine hq cp (fun q hq6 => ?_)
      by_cases eq : q = p
      · rw [eq, li_us]; exact ⟨hcc, hA⟩
      · rw [li_un eq]
        obtain ⟨g1, g2⟩ := h0 q hq6 eq
        have k := (hK q hq6).1
        exact ⟨g1, li_keep g2 (fun j hj => hf _ (by omega))⟩
    · have hx := List.getElem?_eq_getElem (l := W) (i := i) (by omega)
      generalize hgx : W[i]'(by omega) = x at hx
      have hx5 := hW5 x (li_mem hx)
      have ew := hw i x hx
      rw [Nat.zero_add] at ew
      refine And.intro (vp_in_nI (by omega) (by omega)) (And.intro (by rw [ar_5i]; exact vp_in_nI (by omega) (by omega)) ?_)
      refine nm_r (e' := upd cp (5 * p + i) (nI x)) (by rw [ar_5i, nI_clamp (by omega), nI_clamp (by omega), ew, ar_nb (by omega)]) ?_
      refine nm_r (nI_1 i) (ih (i + 1) _ (by omega) (by omega) (fun q hq => by rw [pk_un (by omega)]; exact hf q hq) ?_)
      have e1 : W.take (i + 1) = W.take i ++ [x] := by rw [List.take_succ_eq_append_getElem (by omega), hgx]
      have e2 : (W.take i).length = i := by rw [List.length_take]; omega
      rw [e1]
      have := li_snoc (x := x) hA
      rw [e2] at this
      exact this
theorem xm_71 (hp : p < 6) (hW : W.length ≤ 3) (hWS : xWS = nI W.length) (hW5 : ∀ x, x ∈ W → x < 5) (hw : li_A xwi 0 W) (hK : li_K ls) (hR : li_R xcp xcc ls) {h : Nat} (hh : h < 32)
    (hh2 : ∀ x, x < 5 → (h.testBit x = true ↔ (x ∈ ls p ∧ ¬ x ∈ W)))
    (hq : ∀ (cp' cc' tg' : Nat → Int32) (st' : Nat → Int64) (rn' : Nat → Int32), li_R cp' cc' (li_u ls p W) → da_D (li_H (li_u ls p W)) E N C R tg' st' rn' xrc xrr → pos (xWC, xLV, xPF, xLO, xEX, xWS, xDR, xVT, xVV, xOC, xCH, cp', cc', xwi, tg', st', rn', xrc, xrr, xnu, xrt, xra, xrk, xan, xrs, xdo, xdc, xhe, xfr, xta, xso, xsr, xsn, xsx, xsc, xsd, xse, xsk, xdp, xrg)) :
    ∀ (n i : Nat) (tg : Nat → Int32) (st : Nat → Int64) (rn : Nat → Int32), i ≤ 5 → 5 - i < n → da_D (mv_J ls p W i) E N C R tg st rn xrc xrr →
    wX_move_71 pos (nI p) (nI h) n (nI i) xWC xLV xPF xLO xEX xWS xDR xVT xVV xOC xCH xcp xcc xwi tg st rn xrc xrr xnu xrt xra xrk xan xrs xdo xdc xhe xfr xta xso xsr xsn xsx xsc xsd xse xsk xdp xrg := by
  intro n
  induction n with
  | zero => intro i tg st rn _ h; omega
  | succ n ih =>
    intro i tg st rn hi hn hD
    refine pk_le 5 i (fun h5 => ?_) (fun h5 => ?_)
    · have e : i = 5 := by omega
      subst e
      refine And.intro (vp_in_nI hp (by omega)) ?_
      refine nm_r (e' := upd xcc p (nI W.length)) (by rw [nI_clamp (by omega), hWS, ar_nbb (by omega)]) ⟨W.length + 1, ?_⟩
      refine xm_114 (ls := ls) (W := W) (cp0 := xcp) hp hW hWS hW5 hw hK (fun q hq6 hqp => by rw [pk_un hqp]; exact hR q hq6) pk_us (fun cp' hR' => hq cp' _ tg st rn hR' ?_) _ 0 xcp (by omega) (by omega) (fun _ _ => rfl) li_nil
      refine da_G_congr hD (fun q x hq6 hx => ?_) (fun _ _ _ _ _ => rfl) (fun _ _ _ _ _ _ _ => ⟨rfl, fun _ => ⟨rfl, rfl⟩⟩)
      unfold mv_J
      by_cases eq : q = p
      · rw [if_pos eq, eq]
        unfold li_H
        rw [li_us]
        exact decide_eq_decide.mpr ⟨fun z => Or.inl z, fun z => z.elim id (fun z => by omega)⟩
      · rw [if_neg eq, li_Hu eq]
    · refine br_c (fun hb => ?_) (fun hb => ?_)
      · have hb' := (ar_bit1 h hh i h5).mp hb
        obtain ⟨b1, b2⟩ := (hh2 i h5).mp hb'
        refine xs_clear h5 hp hD (fun tg' st' rn' hD' => ?_)
        refine nm_r (nI_1 i) (ih (i + 1) tg' st' rn' (by omega) (by omega) ?_)
        refine da_G_congr hD' (fun q x hq6 hx => ?_) (fun _ _ _ _ _ => rfl) (fun _ _ _ _ _ _ _ => ⟨rfl, fun _ => ⟨rfl, rfl⟩⟩)
        by_cases eq : q = p
        · rw [eq]
          by_cases ex : x = i
          · rw [ex, da_hs]
            unfold mv_J
            rw [if_pos rfl]
            exact decide_eq_false (fun z => z.elim b2 (fun z => by omega))
          · rw [da_hn (fun z => ex z.2)]
            unfold mv_J
            rw [if_pos rfl, if_pos rfl]
            exact decide_eq_decide.mpr ⟨fun z => z.elim Or.inl (fun z => Or.inr ⟨z.1, by omega⟩), fun z => z.elim Or.inl (fun z => Or.inr ⟨z.1, by omega⟩)⟩
        · rw [da_hn (fun z => eq z.1)]
          unfold mv_J
          rw [if_neg eq, if_neg eq]
      · have hb' : ¬ (i ∈ ls p ∧ ¬ i ∈ W) := fun z => hb ((ar_bit1 h hh i h5).mpr ((hh2 i h5).mpr z))
        refine nm_r (nI_1 i) (ih (i + 1) tg st rn (by omega) (by omega) ?_)
        refine da_G_congr hD (fun q x hq6 hx => ?_) (fun _ _ _ _ _ => rfl) (fun _ _ _ _ _ _ _ => ⟨rfl, fun _ => ⟨rfl, rfl⟩⟩)
        unfold mv_J
        by_cases eq : q = p
        · rw [if_pos eq, if_pos eq]
          refine decide_eq_decide.mpr ⟨fun z => z.elim Or.inl (fun z => Or.inr ⟨z.1, by omega⟩), fun z => z.elim Or.inl (fun z => ?_)⟩
          by_cases ex : x = i
          · rw [ex] at z ⊢
            by_cases hw : i ∈ W
            · exact Or.inl hw
            · exact absurd ⟨z.1, hw⟩ hb'
          · exact Or.inr ⟨z.1, by omega⟩
        · rw [if_neg eq, if_neg eq]
theorem xm_18 (hA : ma_A B L ls E N C) (hp : p < 6) {a : Nat} (ha : a ∈ ls p) (hWn : W.Nodup) (hW : W.length ≤ 3) (hWS : xWS = nI W.length) (hW5 : ∀ x, x ∈ W → x < 5) (hw : li_A xwi 0 W) (hR : li_R xcp xcc ls)
    (hq : ∀ (cp' cc' tg' : Nat → Int32) (st' : Nat → Int64) (rn' rc' : Nat → Int32) (rr' : Nat → Int64), li_R cp' cc' (li_u ls p W) → da_D (li_H (li_u ls p W)) E N C R tg' st' rn' rc' rr' → pos (xWC, xLV, xPF, xLO, xEX, xWS, xDR, xVT, xVV, xOC, xCH, cp', cc', xwi, tg', st', rn', rc', rr', xnu, xrt, xra, xrk, xan, xrs, xdo, xdc, xhe, xfr, xta, xso, xsr, xsn, xsx, xsc, xsd, xse, xsk, xdp, xrg)) :
    ∀ (n i h : Nat) (tg : Nat → Int32) (st : Nat → Int64) (rn rc : Nat → Int32) (rr : Nat → Int64), i ≤ W.length → W.length - i < n → h < 32 → (∀ x, x < 5 → (h.testBit x = true ↔ (x ∈ ls p ∧ ¬ x ∈ W.take i))) →
    da_D (mv_H ls p (W.take i)) E N C R tg st rn rc rr → wX_move_18 pos (nI p) (nI a) n (nI h) (nI i) xWC xLV xPF xLO xEX xWS xDR xVT xVV xOC xCH xcp xcc xwi tg st rn rc rr xnu xrt xra xrk xan xrs xdo xdc xhe xfr xta xso xsr xsn xsx xsc xsd xse xsk xdp xrg := by
  have hK := ma_K hA
  have ha5 := (hK p hp).2 a ha
  intro n
  induction n with
  | zero => intro i h tg st rn rc rr _ h; omega
  | succ n ih =>
    intro i h tg st rn rc rr hi hn hh hh2 hD
    refine pk_le W.length i (fun hl => ⟨6, ?_⟩) (fun hl => ?_) hWS
    · have e : i = W.length := by omega
      rw [e, List.take_length] at hh2 hD
      refine xm_71 hp hW hWS hW5 hw hK hR hh hh2 (fun cp' cc' tg' st' rn' k1 k2 => hq cp' cc' tg' st' rn' rc rr k1 k2) 6 0 tg st rn (by omega) (by omega) ?_
      refine da_G_congr hD (fun q x hq6 hx => ?_) (fun _ _ _ _ _ => rfl) (fun _ _ _ _ _ _ _ => ⟨rfl, fun _ => ⟨rfl, rfl⟩⟩)
      unfold mv_H mv_J
      by_cases eq : q = p
      · rw [if_pos eq, if_pos eq]
        exact decide_eq_decide.mpr ⟨fun z => z.elim Or.inr (fun z => Or.inl z.1), fun z => z.elim (fun z => Or.inr ⟨z, Nat.zero_le _⟩) Or.inl⟩
      · rw [if_neg eq, if_neg eq]
    · have hx := List.getElem?_eq_getElem (l := W) (i := i) (by omega)
      generalize hgx : W[i]'(by omega) = x at hx
      have hx5 := hW5 x (li_mem hx)
      have ew := hw i x hx
      rw [Nat.zero_add] at ew
      have e1 : W.take (i + 1) = W.take i ++ [x] := by rw [List.take_succ_eq_append_getElem (by omega), hgx]
      have hxi : ¬ x ∈ W.take i := by
        have hs : (W.take (i + 1)).Nodup := List.Nodup.sublist (List.take_sublist _ _) hWn
        rw [e1, List.nodup_append] at hs
        intro z
        exact hs.2.2 x z x (by simp) rfl
      have hmem : ∀ y, y ∈ W.take (i + 1) ↔ (y ∈ W.take i ∨ y = x) := by
        intro y
        rw [e1, List.mem_append, List.mem_singleton]
      -- the step behind the transfer
      have hcont : ∀ (tg : Nat → Int32) (st : Nat → Int64) (rn rc : Nat → Int32) (rr : Nat → Int64), da_D (mv_H ls p (W.take (i + 1))) E N C R tg st rn rc rr →
          wX_move_53 pos (wX_move_18 pos (nI p) (nI a) n) (nI p) (nI h) (nI a) (nI i) (nI x) xWC xLV xPF xLO xEX xWS xDR xVT xVV xOC xCH xcp xcc xwi tg st rn rc rr xnu xrt xra xrk xan xrs xdo xdc xhe xfr xta xso xsr xsn xsx xsc xsd xse xsk xdp xrg := by
        intro tg st rn rc rr hD'
        refine nm_r (ar_out h hh x hx5) (nm_r (nI_1 i) (ih (i + 1) _ tg st rn rc rr (by omega) (by omega) (li_out_lt h hh x hx5) ?_ hD'))
        intro y hy
        rw [li_out_tb h hh x hx5 y hy, Bool.and_eq_true, bne_iff_ne, hh2 y hy, hmem]
        constructor
        · exact fun z => ⟨z.1.1, fun w => w.elim z.1.2 z.2⟩
        · exact fun z => ⟨⟨z.1, fun w => z.2 (Or.inl w)⟩, fun w => z.2 (Or.inr w)⟩
      refine And.intro (vp_in_nI (by omega) (by omega)) (nm_r (e' := nI x) (by rw [nI_clamp (by omega)]; exact ew) (br_c (fun hb => ?_) (fun hb => ?_)))
      · have hb' := (ar_bit0 h hh x hx5).mp hb
        have hxl : ¬ x ∈ ls p := by
          intro z
          have := (hh2 x hx5).mpr ⟨z, hxi⟩
          rw [hb'] at this
          exact absurd this (by decide)
        have hax : a ≠ x := fun z => hxl (z ▸ ha)
        refine xs_transfer ha5 hx5 hax hp hD (by unfold mv_H; rw [if_pos rfl]; exact decide_eq_true (Or.inl ha)) (ma_C hA) (fun tg' st' rn' rc' rr' hD' => ?_)
        refine hcont tg' st' rn' rc' rr' (da_G_congr hD' (fun q y hq6 hy => ?_) (fun _ _ _ _ _ => rfl) (fun _ _ _ _ _ _ _ => ⟨rfl, fun _ => ⟨rfl, rfl⟩⟩))
        by_cases eq : q = p
        · rw [eq]
          by_cases ey : y = x
          · rw [ey, da_hs]
            unfold mv_H
            rw [if_pos rfl]
            exact decide_eq_true (Or.inr ((hmem x).mpr (Or.inr rfl)))
          · rw [da_hn (fun z => ey z.2)]
            unfold mv_H
            rw [if_pos rfl, if_pos rfl]
            refine decide_eq_decide.mpr ⟨fun z => z.elim Or.inl (fun z => ((hmem y).mp z).elim Or.inr (fun z => absurd z ey)), fun z => z.elim Or.inl (fun z => Or.inr ((hmem y).mpr (Or.inl z)))⟩
        · rw [da_hn (fun z => eq z.1)]
          unfold mv_H
          rw [if_neg eq, if_neg eq]
      · have hxl : x ∈ ls p := by
          apply Classical.byContradiction
          intro z
          apply hb
          apply (ar_bit0 h hh x hx5).mpr
          cases hb2 : h.testBit x
          · rfl
          · exact absurd ((hh2 x hx5).mp hb2).1 z
        refine hcont tg st rn rc rr (da_G_congr hD (fun q y hq6 hy => ?_) (fun _ _ _ _ _ => rfl) (fun _ _ _ _ _ _ _ => ⟨rfl, fun _ => ⟨rfl, rfl⟩⟩))
        unfold mv_H
        by_cases eq : q = p
        · rw [if_pos eq, if_pos eq]
          refine decide_eq_decide.mpr ⟨fun z => z.elim Or.inl (fun z => ((hmem y).mp z).elim Or.inr (fun z => Or.inl (by rw [z]; exact hxl))), fun z => z.elim Or.inl (fun z => Or.inr ((hmem y).mpr (Or.inl z)))⟩
        · rw [if_neg eq, if_neg eq]
theorem xm_move (hA : ma_A B L ls E N C) (hp : p < 6) (hne : ls p ≠ []) (hWn : W.Nodup) (hW : W.length ≤ 3) (hWS : xWS = nI W.length) (hW5 : ∀ x, x ∈ W → x < 5) (hw : li_A xwi 0 W) (hR : li_R xcp xcc ls) (hD : da_D (li_H ls) E N C R xtg xst xrn xrc xrr)
    (hq : ∀ (cp' cc' tg' : Nat → Int32) (st' : Nat → Int64) (rn' rc' : Nat → Int32) (rr' : Nat → Int64), li_R cp' cc' (li_u ls p W) → da_D (li_H (li_u ls p W)) E N C R tg' st' rn' rc' rr' → pos (xWC, xLV, xPF, xLO, xEX, xWS, xDR, xVT, xVV, xOC, xCH, cp', cc', xwi, tg', st', rn', rc', rr', xnu, xrt, xra, xrk, xan, xrs, xdo, xdc, xhe, xfr, xta, xso, xsr, xsn, xsx, xsc, xsd, xse, xsk, xdp, xrg)) :
    wpX_move pos (xWC, xLV, xPF, xLO, xEX, xWS, xDR, xVT, xVV, xOC, xCH, xcp, xcc, xwi, xtg, xst, xrn, xrc, xrr, xnu, xrt, xra, xrk, xan, xrs, xdo, xdc, xhe, xfr, xta, xso, xsr, xsn, xsx, xsc, xsd, xse, xsk, xdp, xrg) (nI p) := by
  have hK := ma_K hA
  have hpos : 0 < (ls p).length := by
    cases h : ls p with
    | nil => exact absurd h hne
    | cons a t => simp
  have hx := List.getElem?_eq_getElem (l := ls p) (i := 0) hpos
  generalize hgx : (ls p)[0]'hpos = a at hx
  have ea := (hR p hp).2 0 a hx
  rw [Nat.add_zero] at ea
  unfold wpX_move
  refine xl_copies hp hR hK ?_
  refine And.intro (by rw [ar_5]; exact vp_in_nI (by omega) (by omega)) (nm_r (e' := nI a) (by rw [ar_5, nI_clamp (by omega)]; exact ea) ⟨W.length + 1, ?_⟩)
  refine xm_18 hA hp (li_mem hx) hWn hW hWS hW5 hw hR hq _ 0 _ xtg xst xrn xrc xrr (by omega) (by omega) (li_mk_lt (hK p hp).2) ?_ ?_
  · intro x hx5
    rw [li_mk_bit]
    simp
  · refine da_G_congr hD (fun q y hq6 hy => ?_) (fun _ _ _ _ _ => rfl) (fun _ _ _ _ _ _ _ => ⟨rfl, fun _ => ⟨rfl, rfl⟩⟩)
    unfold mv_H
    by_cases eq : q = p
    · rw [if_pos eq, eq]
      unfold li_H
      exact decide_eq_decide.mpr ⟨fun z => z.elim id (fun z => absurd z (by simp)), Or.inl⟩
    · rw [if_neg eq]
end
end
section
section
variable {xWC xLV xPF xLO xEX xWS xDR xVT xCH : Int32} {xVV xOC : Int64} {xcp xcc xwi xtg xrn xrc xnu xrt xra xrk xan xdo xhe xfr xta xso xsr xsn xsx xsc xsd xse xdp : Nat → Int32} {xst xrr xrs xdc xsk xrg : Nat → Int64}
variable {poi : Int32 → SX → Prop} {B L p : Nat} {ls : Nat → List Nat} {W : List Nat} {E : Nat → Option Int64} {N C : Nat → Int32} {R : Nat → Int64}
theorem xm_38 {n' : Nat} (hp : p < 6) (hW : W.length ≤ 3) (hWS : xWS = nI W.length) (hW5 : ∀ x, x ∈ W → x < 5) (hw : li_A xwi 0 W) (hR : li_R xcp xcc ls) (hK : li_K ls)
    (hy : W = ls p → wX_migrate_2 poi n' (nI (p + 1)) xWC xLV xPF xLO xEX xWS xDR xVT xVV xOC xCH xcp xcc xwi xtg xst xrn xrc xrr xnu xrt xra xrk xan xrs xdo xdc xhe xfr xta xso xsr xsn xsx xsc xsd xse xsk xdp xrg) (hn : W ≠ ls p → wX_migrate_81 poi (wX_migrate_2 poi n') (nI p) 0 xWC xLV xPF xLO xEX xWS xDR xVT xVV xOC xCH xcp xcc xwi xtg xst xrn xrc xrr xnu xrt xra xrk xan xrs xdo xdc xhe xfr xta xso xsr xsn xsx xsc xsd xse xsk xdp xrg) :
    ∀ (n i b : Nat), i ≤ W.length → W.length - i < n → b ≤ 1 → (b = 1 ↔ (W.length = (ls p).length ∧ ∀ j, j < i → W[j]? = (ls p)[j]?)) →
    wX_migrate_38 poi (wX_migrate_2 poi n') (nI p) xWC xLV xPF xLO xEX xWS xDR xVT xVV xOC xCH xcp xcc xwi xtg xst xrn xrc xrr xnu xrt xra xrk xan xrs xdo xdc xhe xfr xta xso xsr xsn xsx xsc xsd xse xsk xdp xrg n (nI b) (nI i) := by
  have h81 : ∀ b, b ≤ 1 → (b = 1 ↔ W = ls p) → wX_migrate_81 poi (wX_migrate_2 poi n') (nI p) (nI b) xWC xLV xPF xLO xEX xWS xDR xVT xVV xOC xCH xcp xcc xwi xtg xst xrn xrc xrr xnu xrt xra xrk xan xrs xdo xdc xhe xfr xta xso xsr xsn xsx xsc xsd xse xsk xdp xrg := by
    intro b hb hc
    by_cases e : b = 1
    · rw [e]
      exact br_f (by decide) (nm_r (nI_1 p) (hy (hc.mp e)))
    · have e0 : b = 0 := by omega
      rw [e0]
      exact hn (fun z => e (hc.mpr z))
  have hR' := (hR p hp).2
  have hk := hK p hp
  intro n
  induction n with
  | zero => intro i b _ h; omega
  | succ n ih =>
    intro i b hi hn hb hc
    refine pk_le W.length i (fun hl => h81 b hb ?_) (fun hl => pk_eq b 0 (fun h0 => h81 b hb ?_) (fun h0 => ?_)) hWS
    · have e : i = W.length := by omega
      rw [hc, e]
      exact ⟨fun z => li_ext z.1 z.2, fun z => ⟨by rw [z], fun j _ => by rw [z]⟩⟩
    · constructor
      · intro z; omega
      · intro z
        refine hc.mpr ⟨by rw [z], fun j _ => by rw [z]⟩
    · have e1 : b = 1 := by omega
      obtain ⟨c1, c2⟩ := hc.mp e1
      have hx := List.getElem?_eq_getElem (l := W) (i := i) (by omega)
      generalize hgx : W[i]'(by omega) = x at hx
      have hy2 := List.getElem?_eq_getElem (l := ls p) (i := i) (by omega)
      generalize hgy : (ls p)[i]'(by omega) = y at hy2
      have hx5 := hW5 x (li_mem hx)
      have hy5 := hk.2 y (li_mem hy2)
      have ew := hw i x hx
      rw [Nat.zero_add] at ew
      have ey := hR' i y hy2
      refine And.intro (vp_in_nI (by omega) (by omega)) (And.intro (by rw [ar_5i]; exact vp_in_nI (by omega) (by omega)) ?_)
      refine pk_eq x y (fun e => ?_) (fun e => ?_) (by rw [nI_clamp (by omega), ew]) (by rw [ar_5i, nI_clamp (by omega), ey])
      · refine nm_r (nI_1 i) (ih (i + 1) 1 (by omega) (by omega) (by omega) ⟨fun _ => ⟨c1, fun j hj => ?_⟩, fun _ => rfl⟩)
        by_cases ej : j = i
        · rw [ej, hx, hy2, e]
        · exact c2 j (by omega)
      · refine nm_r (nI_1 i) (ih (i + 1) 0 (by omega) (by omega) (by omega) ⟨fun z => absurd z (by decide), fun z => ?_⟩)
        have := z.2 i (by omega)
        rw [hx, hy2] at this
        exact absurd (Option.some.inj this) e
def mg_L (B L : Nat) (ls : Nat → List Nat) : Nat → (Nat → List Nat) × Int32
  | 0 => (ls, -1)
  | d + 1 => if li_W B L (5 - d) = ls (5 - d) then mg_L B L ls d else (li_u ls (5 - d) (li_W B L (5 - d)), nI (5 - d))
theorem xm_2 (hA : ma_A B L ls E N C) (hWC : xWC = nI (B + 1)) (hLV : xLV = nI L) (hR : li_R xcp xcc ls) (hD : da_D (li_H ls) E N C R xtg xst xrn xrc xrr)
    (hq : ∀ (ws : Int32) (cp cc wi tg : Nat → Int32) (st : Nat → Int64) (rn rc : Nat → Int32) (rr : Nat → Int64), li_R cp cc (mg_L B L ls 6).1 → da_D (li_H (mg_L B L ls 6).1) E N C R tg st rn rc rr →
      poi (mg_L B L ls 6).2 (xWC, xLV, xPF, xLO, xEX, ws, xDR, xVT, xVV, xOC, xCH, cp, cc, wi, tg, st, rn, rc, rr, xnu, xrt, xra, xrk, xan, xrs, xdo, xdc, xhe, xfr, xta, xso, xsr, xsn, xsx, xsc, xsd, xse, xsk, xdp, xrg)) :
    ∀ (n d : Nat) (ws : Int32) (wi : Nat → Int32), d ≤ 6 → d < n → mg_L B L ls d = mg_L B L ls 6 → wX_migrate_2 poi n (nI (6 - d)) xWC xLV xPF xLO xEX ws xDR xVT xVV xOC xCH xcp xcc wi xtg xst xrn xrc xrr xnu xrt xra xrk xan xrs xdo xdc xhe xfr xta xso xsr xsn xsx xsc xsd xse xsk xdp xrg := by
  have hB := hA.1
  have hL := hA.2.1
  have hK := ma_K hA
  intro n
  induction n with
  | zero => intro d ws wi _ h; omega
  | succ n ih =>
    intro d ws wi hd hn hm
    refine pk_le 6 (6 - d) (fun h6 => ?_) (fun h6 => ?_)
    · have e : d = 0 := by omega
      subst e
      have hq' := hq ws xcp xcc wi xtg xst xrn xrc xrr (by rw [← hm]; exact hR) (by rw [← hm]; exact hD)
      rw [← hm] at hq'
      exact hq'
    · obtain ⟨d, rfl⟩ : ∃ c, d = c + 1 := ⟨d - 1, by omega⟩
      rw [show 6 - (d + 1) = 5 - d from by omega] at h6 ⊢
      have hp : 5 - d < 6 := by omega
      rw [hLV]
      refine xl_wanted hB hL hp hWC (fun wi' hw => ?_)
      obtain ⟨w1, w2, w3, w4⟩ := li_W_ok B hB L hL (5 - d) hp
      obtain ⟨k1, k2⟩ := hK (5 - d) hp
      have hy : li_W B L (5 - d) = ls (5 - d) → wX_migrate_2 poi n (nI (5 - d + 1)) xWC (nI L) xPF xLO xEX (nI (li_W B L (5 - d)).length) xDR xVT xVV xOC xCH xcp xcc wi' xtg xst xrn xrc xrr xnu xrt xra xrk xan xrs xdo xdc xhe xfr xta xso xsr xsn xsx xsc xsd xse xsk xdp xrg := by
        intro e
        have e2 : mg_L B L ls (d + 1) = mg_L B L ls d := if_pos e
        rw [e2] at hm
        have K := ih d (nI (li_W B L (5 - d)).length) wi' (by omega) (by omega) hm
        rw [hLV, show 6 - d = 5 - d + 1 from by omega] at K
        exact K
      have hnn : li_W B L (5 - d) ≠ ls (5 - d) → wX_migrate_81 poi (wX_migrate_2 poi n) (nI (5 - d)) 0 xWC (nI L) xPF xLO xEX (nI (li_W B L (5 - d)).length) xDR xVT xVV xOC xCH xcp xcc wi' xtg xst xrn xrc xrr xnu xrt xra xrk xan xrs xdo xdc xhe xfr xta xso xsr xsn xsx xsc xsd xse xsk xdp xrg := by
        intro e
        have e2 : mg_L B L ls (d + 1) = (li_u ls (5 - d) (li_W B L (5 - d)), nI (5 - d)) := if_neg e
        rw [e2] at hm
        have hL0 : L ≠ 0 := by
          intro z
          apply e
          have a1 : ls (5 - d) = [] := by
            cases hl : ls (5 - d) with
            | nil => rfl
            | cons a t =>
              have := ((hA.2.2.1 _ hp).2.2.1 a (by rw [hl]; simp)).2
              rw [z, Nat.zero_testBit] at this
              exact absurd this (by decide)
          have a2 : li_W B L (5 - d) = [] := by
            cases hl : li_W B L (5 - d) with
            | nil => rfl
            | cons a t =>
              have := (w3 a (by rw [hl]; simp)).2
              rw [z, Nat.zero_testBit] at this
              exact absurd this (by decide)
          rw [a1, a2]
        refine br_t rfl (xm_move (W := li_W B L (5 - d)) hA hp ((hA.2.2.1 _ hp).2.2.2.1 hL0) w1 w2 rfl (fun x hx => (w3 x hx).1) hw hR hD (fun cp' cc' tg' st' rn' rc' rr' q1 q2 => ?_))
        have hq' := hq (nI (li_W B L (5 - d)).length) cp' cc' wi' tg' st' rn' rc' rr' (by rw [← hm]; exact q1) (by rw [← hm]; exact q2)
        rw [← hm, hLV] at hq'
        exact hq'
      refine And.intro (vp_in_nI hp (by omega)) (pk_eq (li_W B L (5 - d)).length (ls (5 - d)).length (fun e => ⟨(li_W B L (5 - d)).length + 1, ?_⟩) (fun e => ⟨(li_W B L (5 - d)).length + 1, ?_⟩) rfl (by rw [nI_clamp (by omega)]; exact (hR _ hp).1))
      · exact xm_38 hp w2 rfl (fun x hx => (w3 x hx).1) hw hR hK hy hnn ((li_W B L (5 - d)).length + 1) 0 1 (by omega) (by omega) (by omega) ⟨fun _ => ⟨e, fun j hj => absurd hj (Nat.not_lt_zero j)⟩, fun _ => rfl⟩
      · exact xm_38 hp w2 rfl (fun x hx => (w3 x hx).1) hw hR hK hy hnn ((li_W B L (5 - d)).length + 1) 0 0 (by omega) (by omega) (by omega) ⟨fun z => absurd z (by decide), fun z => absurd z.1 e⟩
end
theorem ma_mig {B L : Nat} {ls : Nat → List Nat} {E : Nat → Option Int64} {N C : Nat → Int32} (h : ma_A B L ls E N C) : ∀ d, d ≤ 6 → ma_A B L (mg_L B L ls d).1 E N C := by
  intro d
  induction d with
  | zero => intro _; exact h
  | succ d ih =>
    intro hd
    by_cases e : li_W B L (5 - d) = ls (5 - d)
    · have e2 : mg_L B L ls (d + 1) = mg_L B L ls d := if_pos e
      rw [e2]
      exact ih (by omega)
    · have e2 : mg_L B L ls (d + 1) = (li_u ls (5 - d) (li_W B L (5 - d)), nI (5 - d)) := if_neg e
      rw [e2]
      obtain ⟨hB, hL, h3, h4⟩ := h
      refine ⟨hB, hL, fun p hp => ?_, h4⟩
      obtain ⟨a1, a2, a3, a4, a5⟩ := h3 p hp
      show (li_u ls (5 - d) (li_W B L (5 - d)) p).Nodup ∧ (li_u ls (5 - d) (li_W B L (5 - d)) p).length ≤ 5 ∧ (∀ x, x ∈ li_u ls (5 - d) (li_W B L (5 - d)) p → x < 5 ∧ L.testBit x = true) ∧ (L ≠ 0 → li_u ls (5 - d) (li_W B L (5 - d)) p ≠ []) ∧ (li_u ls (5 - d) (li_W B L (5 - d)) p = [] → _)
      by_cases ep : p = 5 - d
      · rw [ep] at hp a1 a2 a3 a4 a5 ⊢
        rw [li_us]
        obtain ⟨w1, w2, w3, w4⟩ := li_W_ok B hB L hL (5 - d) hp
        refine ⟨w1, by omega, w3, w4, fun z => a5 ?_⟩
        have hL0 : L = 0 := Classical.byContradiction (fun q => w4 q z)
        cases hl : ls (5 - d) with
        | nil => rfl
        | cons a t =>
          have := (a3 a (by rw [hl]; simp)).2
          rw [hL0, Nat.zero_testBit] at this
          exact absurd this (by decide)
      · rw [li_un ep]
        exact ⟨a1, a2, a3, a4, a5⟩
section
variable {yBK yFA yLO yEX yVH : Int32} {yVV yOC : Int64} {ylv yls ysz yha yrn yrc yop yle ypa ynu yqt yqk yqa yon ywa : Nat → Int32} {yva yrr yar yst ysh : Nat → Int64}
variable {poi : Int32 → SY → Prop} {B L p : Nat} {ls : Nat → List Nat} {W : List Nat} {E : Nat → Option Int64} {N C : Nat → Int32}
theorem ym_79 (hp : p < 6) (hW : W.length ≤ 3) (hW5 : ∀ x, x ∈ W → x < 5) (hw : li_A ywa 0 W) (hK : li_K ls) (hR : li_R yls ysz ls)
    (hq : ∀ li sz : Nat → Int32, li_R li sz (li_u ls p W) → poi (nI p) (yBK, yFA, yLO, yEX, yVH, yVV, yOC, ylv, li, sz, yha, yva, yrn, yrc, yrr, yop, yar, yle, ypa, yst, ynu, yqt, yqk, yqa, yon, ysh, ywa)) :
    ∀ (n i : Nat) (li : Nat → Int32), i ≤ W.length → W.length - i < n → (∀ q, q < 5 * p ∨ 5 * p + 5 ≤ q → li q = yls q) → li_A li (5 * p) (W.take i) →
    wY_migrate_79 poi (nI p) (nI W.length) yBK yFA yLO yEX yVH yVV yOC n (nI i) ylv li ysz yha yva yrn yrc yrr yop yar yle ypa yst ynu yqt yqk yqa yon ysh ywa := by
  intro n
  induction n with
  | zero => intro i li _ h; omega
  | succ n ih =>
    intro i li hi hn hf hA
    refine pk_le W.length i (fun hl => ?_) (fun hl => ?_)
    · have e : i = W.length := by omega
      rw [e, List.take_length] at hA
      refine And.intro (vp_in_nI hp (by omega)) (nm_r (e' := upd ysz p (nI W.length)) (by rw [nI_clamp (by omega), ar_nbb (by omega)]) ?_)
      exact hq li _ (li_R_put hR hK hf (fun q hq => pk_un hq) pk_us hA)
    · have hx := List.getElem?_eq_getElem (l := W) (i := i) (by omega)
      generalize hgx : W[i]'(by omega) = x at hx
      have hx5 := hW5 x (li_mem hx)
      have ew := hw i x hx
      rw [Nat.zero_add] at ew
      refine And.intro (vp_in_nI (by omega) (by omega)) (And.intro (by rw [ar_5i]; exact vp_in_nI (by omega) (by omega)) ?_)
      refine nm_r (e' := upd li (5 * p + i) (nI x)) (by rw [ar_5i, nI_clamp (by omega), nI_clamp (by omega), ew, ar_nb (by omega)]) ?_
      refine nm_r (nI_1 i) (ih (i + 1) _ (by omega) (by omega) (fun q hq => by rw [pk_un (by omega)]; exact hf q hq) ?_)
      have e1 : W.take (i + 1) = W.take i ++ [x] := by rw [List.take_succ_eq_append_getElem (by omega), hgx]
      have e2 : (W.take i).length = i := by rw [List.length_take]; omega
      rw [e1]
      have := li_snoc (x := x) hA
      rw [e2] at this
      exact this
theorem ym_34 {n' : Nat} (hp : p < 6) (hW : W.length ≤ 3) (hW5 : ∀ x, x ∈ W → x < 5) (hw : li_A ywa 0 W) (hR : li_R yls ysz ls) (hK : li_K ls)
    (hy : W = ls p → wY_migrate_2 poi n' (nI (p + 1)) yBK yFA yLO yEX yVH yVV yOC ylv yls ysz yha yva yrn yrc yrr yop yar yle ypa yst ynu yqt yqk yqa yon ysh ywa) (hn : W ≠ ls p → ∀ li sz : Nat → Int32, li_R li sz (li_u ls p W) → poi (nI p) (yBK, yFA, yLO, yEX, yVH, yVV, yOC, ylv, li, sz, yha, yva, yrn, yrc, yrr, yop, yar, yle, ypa, yst, ynu, yqt, yqk, yqa, yon, ysh, ywa)) :
    ∀ (n i b : Nat), i ≤ W.length → W.length - i < n → b ≤ 1 → (b = 1 ↔ (W.length = (ls p).length ∧ ∀ j, j < i → W[j]? = (ls p)[j]?)) →
    wY_migrate_34 poi (wY_migrate_2 poi n') (nI p) (nI W.length) yBK yFA yLO yEX yVH yVV yOC ylv yls ysz yha yva yrn yrc yrr yop yar yle ypa yst ynu yqt yqk yqa yon ysh ywa n (nI b) (nI i) := by
  have hR' := (hR p hp).2
  have hk := hK p hp
  intro n
  induction n with
  | zero => intro i b _ h; omega
  | succ n ih =>
    intro i b hi hn' hb hc
    refine pk_le W.length i (fun hl => ?_) (fun hl => ?_)
    · have e : i = W.length := by omega
      have hc' : b = 1 ↔ W = ls p := by
        rw [hc, e]
        exact ⟨fun z => li_ext z.1 z.2, fun z => ⟨by rw [z], fun j _ => by rw [z]⟩⟩
      refine pk_eq b 0 (fun h0 => ⟨W.length + 1, ?_⟩) (fun h0 => ?_)
      · exact ym_79 hp hW hW5 hw hK hR (hn (fun z => by have := hc'.mpr z; omega)) _ 0 yls (by omega) (by omega) (fun _ _ => rfl) li_nil
      · exact nm_r (nI_1 p) (hy (hc'.mp (by omega)))
    · have hx := List.getElem?_eq_getElem (l := W) (i := i) (by omega)
      generalize hgx : W[i]'(by omega) = x at hx
      have hx5 := hW5 x (li_mem hx)
      have ew := hw i x hx
      rw [Nat.zero_add] at ew
      refine And.intro (by rw [ar_5i]; exact vp_in_nI (by omega) (by omega)) (And.intro (vp_in_nI (by omega) (by omega)) (br_c (fun e => ?_) (fun e => ?_)))
      · rw [ar_5i, nI_clamp (by omega), nI_clamp (by omega), ew] at e
        refine nm_r (nI_1 i) (ih (i + 1) b (by omega) (by omega) hb ⟨fun z => ?_, fun z => hc.mpr ⟨z.1, fun j hj => z.2 j (by omega)⟩⟩)
        obtain ⟨c1, c2⟩ := hc.mp z
        refine ⟨c1, fun j hj => ?_⟩
        by_cases ej : j = i
        · have hy2 := List.getElem?_eq_getElem (l := ls p) (i := i) (by omega)
          generalize hgy : (ls p)[i]'(by omega) = y at hy2
          have hy5 := hk.2 y (li_mem hy2)
          have ey := hR' i y hy2
          rw [ey, nI_eq (by omega) (by omega)] at e
          rw [ej, hx, hy2, e]
        · exact c2 j (by omega)
      · rw [ar_5i, nI_clamp (by omega), nI_clamp (by omega), ew] at e
        refine nm_r (nI_1 i) (ih (i + 1) 0 (by omega) (by omega) (by omega) ⟨fun z => absurd z (by decide), fun z => ?_⟩)
        have h1 := z.2 i (by omega)
        rw [hx] at h1
        have ey := hR' i x h1.symm
        exact absurd ey e
theorem ym_2 (hA : ma_A B L ls E N C) (hBK : yBK = nI B) (hl : ∀ x, x < 5 → ylv x = if L.testBit x = true then 1 else 0) (hR : li_R yls ysz ls)
    (hq : ∀ (li sz wn : Nat → Int32), li_R li sz (mg_L B L ls 6).1 → poi (mg_L B L ls 6).2 (yBK, yFA, yLO, yEX, yVH, yVV, yOC, ylv, li, sz, yha, yva, yrn, yrc, yrr, yop, yar, yle, ypa, yst, ynu, yqt, yqk, yqa, yon, ysh, wn)) :
    ∀ (n d : Nat) (wn : Nat → Int32), d ≤ 6 → d < n → mg_L B L ls d = mg_L B L ls 6 → wY_migrate_2 poi n (nI (6 - d)) yBK yFA yLO yEX yVH yVV yOC ylv yls ysz yha yva yrn yrc yrr yop yar yle ypa yst ynu yqt yqk yqa yon ysh wn := by
  have hB := hA.1
  have hL := hA.2.1
  have hK := ma_K hA
  have hne : ∀ x, x < 5 → ¬ nI x = -1 := by decide +kernel
  have hl' : ∀ x, x < 5 → (L.testBit x = true ↔ (¬ ylv x = 0 ∧ ¬ nI x = -1)) := by
    intro x hx
    rw [hl x hx]
    cases hb : L.testBit x
    · simp
    · simp [hne x hx]
  intro n
  induction n with
  | zero => intro d wn _ h; omega
  | succ n ih =>
    intro d wn hd hn hm
    refine pk_le 6 (6 - d) (fun h6 => ?_) (fun h6 => ?_)
    · have e : d = 0 := by omega
      subst e
      have hq' := hq yls ysz wn (by rw [← hm]; exact hR)
      rw [← hm] at hq'
      exact hq'
    · obtain ⟨d, rfl⟩ : ∃ c, d = c + 1 := ⟨d - 1, by omega⟩
      rw [show 6 - (d + 1) = 5 - d from by omega] at h6 ⊢
      have hp : 5 - d < 6 := by omega
      refine yl_want hB hp hBK hl' (fun wn' hw => ?_)
      obtain ⟨w1, w2, w3, w4⟩ := li_W_ok B hB L hL (5 - d) hp
      obtain ⟨k1, k2⟩ := hK (5 - d) hp
      have hy : li_W B L (5 - d) = ls (5 - d) → wY_migrate_2 poi n (nI (5 - d + 1)) yBK yFA yLO yEX yVH yVV yOC ylv yls ysz yha yva yrn yrc yrr yop yar yle ypa yst ynu yqt yqk yqa yon ysh wn' := by
        intro e
        have e2 : mg_L B L ls (d + 1) = mg_L B L ls d := if_pos e
        rw [e2] at hm
        have K := ih d wn' (by omega) (by omega) hm
        rw [show 6 - d = 5 - d + 1 from by omega] at K
        exact K
      have hnn : li_W B L (5 - d) ≠ ls (5 - d) → ∀ li sz : Nat → Int32, li_R li sz (li_u ls (5 - d) (li_W B L (5 - d))) → poi (nI (5 - d)) (yBK, yFA, yLO, yEX, yVH, yVV, yOC, ylv, li, sz, yha, yva, yrn, yrc, yrr, yop, yar, yle, ypa, yst, ynu, yqt, yqk, yqa, yon, ysh, wn') := by
        intro e li sz hR'
        have e2 : mg_L B L ls (d + 1) = (li_u ls (5 - d) (li_W B L (5 - d)), nI (5 - d)) := if_neg e
        rw [e2] at hm
        have hq' := hq li sz wn' (by rw [← hm]; exact hR')
        rw [← hm] at hq'
        exact hq'
      refine And.intro (vp_in_nI hp (by omega)) (pk_eq (li_W B L (5 - d)).length (ls (5 - d)).length (fun e => ⟨(li_W B L (5 - d)).length + 1, ?_⟩) (fun e => ⟨(li_W B L (5 - d)).length + 1, ?_⟩) rfl (by rw [nI_clamp (by omega)]; exact (hR _ hp).1))
      · exact ym_34 hp w2 (fun x hx => (w3 x hx).1) hw hR hK hy hnn ((li_W B L (5 - d)).length + 1) 0 1 (by omega) (by omega) (by omega) ⟨fun _ => ⟨e, fun j hj => absurd hj (Nat.not_lt_zero j)⟩, fun _ => rfl⟩
      · exact ym_34 hp w2 (fun x hx => (w3 x hx).1) hw hR hK hy hnn ((li_W B L (5 - d)).length + 1) 0 0 (by omega) (by omega) (by omega) ⟨fun z => absurd z (by decide), fun z => absurd z.1 e⟩
end
end
section
/-! tasks: opcodes, effects, steps -/
theorem ar_16 (t i : Nat) : (16 : Int32) * nI t + nI i = nI (16 * t + i) := by
  rw [show (16 : Int32) = nI 16 from rfl, pk_mul, nI_add]
theorem ar_m1 {p : Nat} (h : 1 ≤ p) : nI p - 1 = nI (p - 1) := pk_sub (b := 1) h
theorem ar_m2 {p : Nat} (h : 2 ≤ p) : nI p - 2 = nI (p - 2) := pk_sub (b := 2) h
theorem ar_m20 {p : Nat} (h : 20 ≤ p) : nI p - 20 = nI (p - 20) := pk_sub (b := 20) h
theorem ar_n1 {p : Nat} (h : 1 ≤ p) : nI p + (-1) = nI (p - 1) := sb_m1 h
/-- how many values an instruction takes, and the height behind it -/
def op_t (o : Nat) : Nat := if o < 4 then 0 else if o < 15 then 2 else if o = 16 then 2 else if o = 15 ∨ o = 17 ∨ o = 18 ∨ o = 21 ∨ o = 23 then 1 else 0
def op_h (o h : Nat) : Nat := if o < 4 ∨ o = 15 then h + 1 else if o < 15 ∨ o = 17 ∨ o = 18 ∨ o = 21 then h - 1 else h
def op_c (w : Nat) (x y : Int64) : Int64 :=
  if w = 4 then x + y else if w = 5 then x - y else if w = 6 then x * y else if w = 7 then x / y else if w = 8 then x - x / y * y else if w = 9 then x &&& y
  else if w = 10 then x ^^^ y else if w = 11 then x <<< (y.toInt32.toInt64 &&& 63) else if w = 12 then x >>> (y.toInt32.toInt64 &&& 63)
  else if w = 13 then (x.toUInt64 >>> (y.toInt32.toInt64.toUInt64 &&& Int64.toUInt64 63)).toInt64 else if y ≤ x then 0 else 1
def op_b (w : Nat) (y : Int64) : Prop := (w = 7 ∨ w = 8) ∧ y = 0
def ef_t (v : Nat) (vt : Int32) : Int32 := if v = 18 then 1 else if v = 19 then 0 else vt
def ef_v (v h : Nat) (vv : Int64) (rg : Nat → Int64) : Int64 := if v = 18 then rg (h - 1) else vv
def ef_r (v h : Nat) (c : Int64) (arg vt : Int32) (vv : Int64) (rg : Nat → Int64) : Nat → Int64 :=
  if v = 0 then vp_updL rg h c else if v = 1 then vp_updL rg h (if vt = 0 then 0 else vv) else if v = 2 then vp_updL rg h (if vt = 0 then 0 else 1)
  else if v = 3 then vp_updL rg h arg.toInt64 else if v < 15 then vp_updL rg (h - 2) (op_c v (rg (h - 2)) (rg (h - 1))) else if v = 15 then vp_updL rg h (rg (h - 1))
  else if v = 16 then vp_updL (vp_updL rg (h - 1) (rg (h - 2))) (h - 2) (rg (h - 1)) else rg
theorem ef_r_eq {v h : Nat} {c : Int64} {arg vt yt : Int32} {xv yv : Int64} {rg st : Nat → Int64} (hv : v < 22) (ht : op_t v ≤ h) (hvt : vt = yt) (hvv : vt ≠ 0 → xv = yv) (h1 : ∀ j, j < h → rg j = st j) :
    ∀ j, j < op_h v h → ef_r v h c arg vt xv rg j = ef_r v h c arg yt yv st j := by
  subst hvt
  intro j hj
  have e1 : (if vt = 0 then (0 : Int64) else xv) = (if vt = 0 then 0 else yv) := by
    by_cases e : vt = 0
    · rw [if_pos e, if_pos e]
    · rw [if_neg e, if_neg e]; exact hvv e
  have key : ∀ (i : Nat) (x y : Int64) (f g : Nat → Int64), x = y → (j ≠ i → f j = g j) → vp_updL f i x j = vp_updL g i y j := by
    intro i x y f g exy hfg
    by_cases e : j = i
    · rw [e, pk_uLs, pk_uLs, exy]
    · rw [pk_uLn e, pk_uLn e]; exact hfg e
  unfold ef_r
  unfold op_h at hj
  unfold op_t at ht
  by_cases a0 : v = 0
  · rw [if_pos a0, if_pos a0]
    rw [if_pos (by omega)] at hj
    exact key _ _ _ _ _ rfl (fun e => h1 j (by omega))
  · rw [if_neg a0, if_neg a0]
    by_cases a1 : v = 1
    · rw [if_pos a1, if_pos a1, e1]
      rw [if_pos (by omega)] at hj
      exact key _ _ _ _ _ rfl (fun e => h1 j (by omega))
    · rw [if_neg a1, if_neg a1]
      by_cases a2 : v = 2
      · rw [if_pos a2, if_pos a2]
        rw [if_pos (by omega)] at hj
        exact key _ _ _ _ _ rfl (fun e => h1 j (by omega))
      · rw [if_neg a2, if_neg a2]
        by_cases a3 : v = 3
        · rw [if_pos a3, if_pos a3]
          rw [if_pos (by omega)] at hj
          exact key _ _ _ _ _ rfl (fun e => h1 j (by omega))
        · rw [if_neg a3, if_neg a3]
          by_cases a4 : v < 15
          · rw [if_pos a4, if_pos a4]
            rw [if_neg (by omega), if_pos (by omega)] at hj
            rw [if_neg (by omega), if_pos a4] at ht
            rw [h1 (h - 2) (by omega), h1 (h - 1) (by omega)]
            exact key _ _ _ _ _ rfl (fun e => h1 j (by omega))
          · rw [if_neg a4, if_neg a4]
            by_cases a5 : v = 15
            · rw [if_pos a5, if_pos a5]
              rw [if_pos (by omega)] at hj
              rw [if_neg (by omega), if_neg (by omega), if_neg (by omega), if_pos (by omega)] at ht
              rw [h1 (h - 1) (by omega)]
              exact key _ _ _ _ _ rfl (fun e => h1 j (by omega))
            · rw [if_neg a5, if_neg a5]
              by_cases a6 : v = 16
              · rw [if_pos a6, if_pos a6]
                rw [if_neg (by omega), if_neg (by omega)] at hj
                rw [if_neg (by omega), if_neg (by omega), if_pos (by omega)] at ht
                rw [h1 (h - 1) (by omega), h1 (h - 2) (by omega)]
                exact key _ _ _ _ _ rfl (fun e => key _ _ _ _ _ rfl (fun e => h1 j (by omega)))
              · rw [if_neg a6, if_neg a6]
                refine h1 j ?_
                by_cases b : v < 4 ∨ v = 15
                · omega
                · rw [if_neg b] at hj
                  by_cases b2 : v < 15 ∨ v = 17 ∨ v = 18 ∨ v = 21
                  · rw [if_pos b2] at hj; omega
                  · rw [if_neg b2] at hj; exact hj
theorem op_t_b {w : Nat} (h1 : 4 ≤ w) (h2 : w < 15) : op_t w = 2 := by
  unfold op_t; rw [if_neg (by omega), if_pos h2]
theorem op_h_b {w h : Nat} (h1 : 4 ≤ w) (h2 : w < 15) : op_h w h = h - 1 := by
  unfold op_h; rw [if_neg (by omega), if_pos (by omega)]
theorem ef_r_b {v h : Nat} {c : Int64} {arg vt : Int32} {vv : Int64} {rg : Nat → Int64} (h1 : 4 ≤ v) (h2 : v < 15) : ef_r v h c arg vt vv rg = vp_updL rg (h - 2) (op_c v (rg (h - 2)) (rg (h - 1))) := by
  unfold ef_r
  rw [if_neg (by omega), if_neg (by omega), if_neg (by omega), if_neg (by omega), if_pos h2]
theorem ef_t_n {v : Nat} {vt : Int32} (h1 : v ≠ 18) (h2 : v ≠ 19) : ef_t v vt = vt := by
  unfold ef_t; rw [if_neg h1, if_neg h2]
theorem ef_v_n {v h : Nat} {vv : Int64} {rg : Nat → Int64} (h1 : v ≠ 18) : ef_v v h vv rg = vv := if_neg h1
section
variable {xWC xLV xPF xLO xEX xWS xDR xVT xCH : Int32} {xVV xOC : Int64} {xcp xcc xwi xtg xrn xrc xnu xrt xra xrk xan xdo xhe xfr xta xso xsr xsn xsx xsc xsd xse xdp : Nat → Int32} {xst xrr xrs xdc xsk xrg : Nat → Int64}
variable {poi : Int32 → SX → Prop} {v r w : Nat} {c x y : Int64} {arg : Int32}
theorem xe_combine {q : Nat} (hw : 4 ≤ w) (hw' : w < 15) (hq : q < 5) (h0 : op_b w y → poi 0 (xWC, xLV, xPF, xLO, xEX, xWS, xDR, xVT, xVV, xOC, xCH, xcp, xcc, xwi, xtg, xst, xrn, xrc, xrr, xnu, xrt, xra, xrk, xan, xrs, xdo, xdc, xhe, xfr, xta, xso, xsr, xsn, xsx, xsc, xsd, xse, xsk, xdp, xrg)) (h1 : ¬ op_b w y → poi 1 (xWC, xLV, xPF, xLO, xEX, xWS, xDR, xVT, xVV, xOC, xCH, xcp, xcc, xwi, xtg, xst, xrn, xrc, xrr, xnu, xrt, xra, xrk, xan, xrs, xdo, xdc, xhe, xfr, xta, xso, xsr, xsn, xsx, xsc, xsd, xse, xsk, xdp, vp_updL xrg q (op_c w x y))) : wpX_combine poi (xWC, xLV, xPF, xLO, xEX, xWS, xDR, xVT, xVV, xOC, xCH, xcp, xcc, xwi, xtg, xst, xrn, xrc, xrr, xnu, xrt, xra, xrk, xan, xrs, xdo, xdc, xhe, xfr, xta, xso, xsr, xsn, xsx, xsc, xsd, xse, xsk, xdp, xrg) (nI w) (nI q) x y := by
  have iq : vp_in (nI q) 5 := vp_in_nI hq (by omega)
  have cq : (nI q).toNatClampNeg = q := nI_clamp (by omega)
  have nb : (w ≠ 7 ∧ w ≠ 8) → ¬ op_b w y := fun z u => by have := u.1; omega
  unfold wpX_combine
  refine pk_lt w 4 (fun e => absurd e (by omega)) (fun _ => pk_lt 13 w (fun e => ?_) (fun _ => ?_))
  · have e14 : w = 14 := by omega
    refine br_c (fun hl => And.intro iq (nm_r (e' := vp_updL xrg q (op_c w x y)) ?_ (h1 (nb (by omega))))) (fun hl => And.intro iq (nm_r (e' := vp_updL xrg q (op_c w x y)) ?_ (h1 (nb (by omega)))))
    · rw [cq]; unfold op_c; simp [e14, hl]
    · rw [cq]; unfold op_c; simp [e14, hl]
  · refine pk_eq w 4 (fun e => And.intro iq (nm_r (e' := vp_updL xrg q (op_c w x y)) (by rw [cq]; unfold op_c; simp [e]) (h1 (nb (by omega))))) (fun _ => ?_)
    refine pk_eq w 5 (fun e => And.intro iq (nm_r (e' := vp_updL xrg q (op_c w x y)) (by rw [cq]; unfold op_c; simp [e]) (h1 (nb (by omega))))) (fun _ => ?_)
    refine pk_eq w 6 (fun e => And.intro iq (nm_r (e' := vp_updL xrg q (op_c w x y)) (by rw [cq]; unfold op_c; simp [e]) (h1 (nb (by omega))))) (fun _ => ?_)
    refine pk_eq w 7 (fun e => br_c (fun z => h0 ⟨Or.inl e, z⟩) (fun z => And.intro z (And.intro iq (nm_r (e' := vp_updL xrg q (op_c w x y)) (by rw [cq]; unfold op_c; simp [e]) (h1 (fun u => z u.2)))))) (fun _ => ?_)
    refine pk_eq w 8 (fun e => br_c (fun z => h0 ⟨Or.inr e, z⟩) (fun z => And.intro z (And.intro iq (nm_r (e' := vp_updL xrg q (op_c w x y)) (by rw [cq]; unfold op_c; simp [e]) (h1 (fun u => z u.2)))))) (fun _ => ?_)
    refine pk_eq w 9 (fun e => And.intro iq (nm_r (e' := vp_updL xrg q (op_c w x y)) (by rw [cq]; unfold op_c; simp [e]) (h1 (nb (by omega))))) (fun _ => ?_)
    refine pk_eq w 10 (fun e => And.intro iq (nm_r (e' := vp_updL xrg q (op_c w x y)) (by rw [cq]; unfold op_c; simp [e]) (h1 (nb (by omega))))) (fun _ => ?_)
    refine pk_eq w 11 (fun e => And.intro iq (nm_r (e' := vp_updL xrg q (op_c w x y)) (by rw [cq]; unfold op_c; simp [e]) (h1 (nb (by omega))))) (fun _ => ?_)
    refine pk_eq w 12 (fun e => And.intro iq (nm_r (e' := vp_updL xrg q (op_c w x y)) (by rw [cq]; unfold op_c; simp [e]) (h1 (nb (by omega))))) (fun _ => ?_)
    exact pk_eq w 13 (fun e => And.intro iq (nm_r (e' := vp_updL xrg q (op_c w x y)) (by rw [cq]; unfold op_c; simp [e]) (h1 (nb (by omega))))) (fun _ => trivial)
theorem xe_258 (hw : 4 ≤ w) (hw' : w < 15) (hr : 2 ≤ r) (hr' : r ≤ 5) (h0 : op_b w (xrg (r - 1)) → poi 0 (xWC, xLV, xPF, xLO, xEX, xWS, xDR, xVT, xVV, xOC, xCH, xcp, xcc, xwi, xtg, xst, xrn, xrc, xrr, xnu, xrt, xra, xrk, xan, xrs, xdo, xdc, xhe, xfr, xta, xso, xsr, xsn, xsx, xsc, xsd, xse, xsk, xdp, xrg)) (h1 : ¬ op_b w (xrg (r - 1)) → poi 1 (xWC, xLV, xPF, xLO, xEX, xWS, xDR, xVT, xVV, xOC, xCH, xcp, xcc, xwi, xtg, xst, xrn, xrc, xrr, xnu, xrt, xra, xrk, xan, xrs, xdo, xdc, xhe, xfr, xta, xso, xsr, xsn, xsx, xsc, xsd, xse, xsk, xdp, vp_updL xrg (r - 2) (op_c w (xrg (r - 2)) (xrg (r - 1))))) : wX_act_258 poi (nI w) (nI r) xWC xLV xPF xLO xEX xWS xDR xVT xVV xOC xCH xcp xcc xwi xtg xst xrn xrc xrr xnu xrt xra xrk xan xrs xdo xdc xhe xfr xta xso xsr xsn xsx xsc xsd xse xsk xdp xrg := by
  unfold wX_act_258
  rw [ar_m1 (by omega), ar_m2 (by omega), nI_clamp (by omega), nI_clamp (by omega)]
  refine And.intro (vp_in_nI (by omega) (by omega)) (And.intro (vp_in_nI (by omega) (by omega)) ?_)
  exact xe_combine hw hw' (by omega) (fun z => And.intro narrow_b0 (h0 z)) (fun z => And.intro narrow_b1 (h1 z))
theorem xe_act (hv : v < 22) (hr : op_t v ≤ r) (hr' : op_h v r ≤ 4) (hr4 : r ≤ 4) (h0 : op_b v (xrg (r - 1)) → poi 0 (xWC, xLV, xPF, xLO, xEX, xWS, xDR, xVT, xVV, xOC, xCH, xcp, xcc, xwi, xtg, xst, xrn, xrc, xrr, xnu, xrt, xra, xrk, xan, xrs, xdo, xdc, xhe, xfr, xta, xso, xsr, xsn, xsx, xsc, xsd, xse, xsk, xdp, xrg))
    (h1 : ¬ op_b v (xrg (r - 1)) → poi 1 (xWC, xLV, xPF, xLO, xEX, xWS, xDR, ef_t v xVT, ef_v v r xVV xrg, xOC, xCH, xcp, xcc, xwi, xtg, xst, xrn, xrc, xrr, xnu, xrt, xra, xrk, xan, xrs, xdo, xdc, xhe, xfr, xta, xso, xsr, xsn, xsx, xsc, xsd, xse, xsk, xdp, ef_r v r c arg xVT xVV xrg)) : wpX_act poi (xWC, xLV, xPF, xLO, xEX, xWS, xDR, xVT, xVV, xOC, xCH, xcp, xcc, xwi, xtg, xst, xrn, xrc, xrr, xnu, xrt, xra, xrk, xan, xrs, xdo, xdc, xhe, xfr, xta, xso, xsr, xsn, xsx, xsc, xsd, xse, xsk, xdp, xrg) (nI v) (nI r) c arg := by
  unfold op_t at hr
  unfold op_h at hr'
  have nb : (v ≠ 7 ∧ v ≠ 8) → ¬ op_b v (xrg (r - 1)) := fun z u => by have := u.1; omega
  have h1' : ∀ f : Nat → Int64, v ≠ 18 → v ≠ 19 → (v ≠ 7 ∧ v ≠ 8) → ef_r v r c arg xVT xVV xrg = f → poi 1 (xWC, xLV, xPF, xLO, xEX, xWS, xDR, xVT, xVV, xOC, xCH, xcp, xcc, xwi, xtg, xst, xrn, xrc, xrr, xnu, xrt, xra, xrk, xan, xrs, xdo, xdc, xhe, xfr, xta, xso, xsr, xsn, xsx, xsc, xsd, xse, xsk, xdp, f) := by
    intro f a1 a2 a3 e
    have := h1 (nb a3)
    rw [ef_t_n a1 a2, ef_v_n a1, e] at this
    exact this
  have cr : (nI r).toNatClampNeg = r := nI_clamp (by omega)
  have h258 : 4 ≤ v → v < 15 → wX_act_258 poi (nI v) (nI r) xWC xLV xPF xLO xEX xWS xDR xVT xVV xOC xCH xcp xcc xwi xtg xst xrn xrc xrr xnu xrt xra xrk xan xrs xdo xdc xhe xfr xta xso xsr xsn xsx xsc xsd xse xsk xdp xrg := by
    intro a1 a2
    rw [if_neg (by omega), if_pos a2] at hr
    refine xe_258 a1 a2 hr (by omega) h0 (fun z => ?_)
    have := h1 z
    rw [ef_t_n (by omega) (by omega), ef_v_n (by omega), ef_r_b a1 a2] at this
    exact this
  unfold wpX_act
  refine br_f (nI_pos (by omega)) (pk_lt 21 v (fun e => absurd e (by omega)) (fun _ => ?_))
  refine pk_eq v 0 (fun e => ?_) (fun e0 => ?_)
  · rw [if_pos (by omega)] at hr'
    exact And.intro (vp_in_nI (by omega) (by omega)) (nm_r (e' := vp_updL xrg r c) (by rw [cr]) (h1' _ (by omega) (by omega) (by omega) (by unfold ef_r; rw [if_pos e])))
  refine pk_eq v 1 (fun e => ?_) (fun e1 => ?_)
  · rw [if_pos (by omega)] at hr'
    have ir : vp_in (nI r) 5 := vp_in_nI (by omega) (by omega)
    exact br_c (fun z => And.intro ir (nm_r (e' := vp_updL xrg r 0) (by rw [cr]) (h1' _ (by omega) (by omega) (by omega) (by unfold ef_r; rw [if_neg e0, if_pos e, if_pos z]))))
      (fun z => And.intro ir (nm_r (e' := vp_updL xrg r xVV) (by rw [cr]) (h1' _ (by omega) (by omega) (by omega) (by unfold ef_r; rw [if_neg e0, if_pos e, if_neg z]))))
  refine pk_eq v 2 (fun e => ?_) (fun e2 => ?_)
  · rw [if_pos (by omega)] at hr'
    have ir : vp_in (nI r) 5 := vp_in_nI (by omega) (by omega)
    exact br_c (fun z => And.intro ir (nm_r (e' := vp_updL xrg r 0) (by rw [cr]) (h1' _ (by omega) (by omega) (by omega) (by unfold ef_r; rw [if_neg e0, if_neg e1, if_pos e, if_pos z]))))
      (fun z => And.intro ir (nm_r (e' := vp_updL xrg r 1) (by rw [cr]) (h1' _ (by omega) (by omega) (by omega) (by unfold ef_r; rw [if_neg e0, if_neg e1, if_pos e, if_neg z]))))
  refine pk_eq v 3 (fun e => ?_) (fun e3 => ?_)
  · rw [if_pos (by omega)] at hr'
    exact And.intro (vp_in_nI (by omega) (by omega)) (nm_r (e' := vp_updL xrg r arg.toInt64) (by rw [cr]) (h1' _ (by omega) (by omega) (by omega) (by unfold ef_r; rw [if_neg e0, if_neg e1, if_neg e2, if_pos e])))
  refine pk_eq v 4 (fun e => h258 (by omega) (by omega)) (fun _ => ?_)
  refine pk_eq v 5 (fun e => h258 (by omega) (by omega)) (fun _ => ?_)
  refine pk_eq v 6 (fun e => h258 (by omega) (by omega)) (fun _ => ?_)
  refine pk_eq v 7 (fun e => h258 (by omega) (by omega)) (fun _ => ?_)
  refine pk_eq v 8 (fun e => h258 (by omega) (by omega)) (fun _ => ?_)
  refine pk_eq v 9 (fun e => h258 (by omega) (by omega)) (fun _ => ?_)
  refine pk_eq v 10 (fun e => h258 (by omega) (by omega)) (fun _ => ?_)
  refine pk_eq v 11 (fun e => h258 (by omega) (by omega)) (fun _ => ?_)
  refine pk_eq v 12 (fun e => h258 (by omega) (by omega)) (fun _ => ?_)
  refine pk_eq v 13 (fun e => h258 (by omega) (by omega)) (fun _ => ?_)
  refine pk_eq v 14 (fun e => h258 (by omega) (by omega)) (fun _ => ?_)
  have n15 : ¬ v < 15 := by omega
  refine pk_eq v 15 (fun e => ?_) (fun e15 => ?_)
  · rw [if_pos (by omega)] at hr'
    rw [if_neg (by omega), if_neg (by omega), if_neg (by omega), if_pos (by omega)] at hr
    rw [ar_m1 (by omega)]
    exact And.intro (vp_in_nI (by omega) (by omega)) (And.intro (vp_in_nI (by omega) (by omega)) (nm_r (e' := vp_updL xrg r (xrg (r - 1))) (by rw [cr, nI_clamp (by omega)]) (h1' _ (by omega) (by omega) (by omega) (by unfold ef_r; rw [if_neg e0, if_neg e1, if_neg e2, if_neg e3, if_neg n15, if_pos e]))))
  refine pk_eq v 16 (fun e => ?_) (fun e16 => ?_)
  · rw [if_neg (by omega), if_neg (by omega), if_pos (by omega)] at hr
    rw [ar_m1 (by omega), ar_m2 (by omega)]
    have i1 : vp_in (nI (r - 1)) 5 := vp_in_nI (by omega) (by omega)
    have i2 : vp_in (nI (r - 2)) 5 := vp_in_nI (by omega) (by omega)
    have c1 : (nI (r - 1)).toNatClampNeg = r - 1 := nI_clamp (by omega)
    have c2 : (nI (r - 2)).toNatClampNeg = r - 2 := nI_clamp (by omega)
    refine And.intro i1 (nm_r (e' := xrg (r - 1)) (by rw [c1]) (And.intro i2 (And.intro i1 (nm_r (e' := vp_updL xrg (r - 1) (xrg (r - 2))) (by rw [c1, c2]) (And.intro i2 ?_)))))
    exact nm_r (e' := vp_updL (vp_updL xrg (r - 1) (xrg (r - 2))) (r - 2) (xrg (r - 1))) (by rw [c2]) (h1' _ (by omega) (by omega) (by omega) (by unfold ef_r; rw [if_neg e0, if_neg e1, if_neg e2, if_neg e3, if_neg n15, if_neg e15, if_pos e]))
  have efr : ef_r v r c arg xVT xVV xrg = xrg := by unfold ef_r; rw [if_neg e0, if_neg e1, if_neg e2, if_neg e3, if_neg n15, if_neg e15, if_neg e16]
  refine pk_eq v 17 (fun e => h1' _ (by omega) (by omega) (by omega) efr) (fun e17 => ?_)
  refine pk_eq v 18 (fun e => ?_) (fun e18 => ?_)
  · rw [if_neg (by omega), if_neg (by omega), if_neg (by omega), if_pos (by omega)] at hr
    rw [ar_m1 (by omega)]
    refine And.intro (vp_in_nI (by omega) (by omega)) (nm_r (e' := xrg (r - 1)) (by rw [nI_clamp (by omega)]) ?_)
    have := h1 (nb (by omega))
    rw [efr, show ef_t v xVT = 1 from if_pos e, show ef_v v r xVV xrg = xrg (r - 1) from if_pos e] at this
    exact this
  refine pk_eq v 19 (fun e => ?_) (fun e19 => ?_)
  · have := h1 (nb (by omega))
    rw [efr, show ef_t v xVT = 0 from by unfold ef_t; rw [if_neg e18, if_pos e], ef_v_n e18] at this
    exact this
  refine pk_eq v 20 (fun e => h1' _ (by omega) (by omega) (by omega) efr) (fun e20 => ?_)
  exact pk_eq v 21 (fun e => h1' _ (by omega) (by omega) (by omega) efr) (fun _ => trivial)
end
end
section
/-- k jumps lead from i to j -/
def ex_J (o : Nat → Nat) (a : Nat → Int64) (N : Nat) : Nat → Nat → Nat → Prop
  | 0, i, j => i = j
  | k + 1, i, j => i < N ∧ o i = 20 ∧ ∃ g, g < 16 ∧ a i = lN g ∧ ex_J o a N k g j
section
variable {yBK yFA yLO yEX yVH : Int32} {yVV yOC : Int64} {ylv yls ysz yha yrn yrc yop yle ypa ynu yqt yqk yqa yon ywa : Nat → Int32} {yva yrr yar yst ysh : Nat → Int64}
variable {post : Int64 → Prop} {poj : Int32 → SY → Prop} {t i h sp v w n : Nat} {c x y : Int64} {arg : Int32}
theorem ye_compute (hw : 4 ≤ w) (hw' : w < 15) (hb : ¬ op_b w y) (hp : post (op_c w x y)) : wpY_compute post (yBK, yFA, yLO, yEX, yVH, yVV, yOC, ylv, yls, ysz, yha, yva, yrn, yrc, yrr, yop, yar, yle, ypa, yst, ynu, yqt, yqk, yqa, yon, ysh, ywa) (nI w) x y := by
  have hz : (w = 7 ∨ w = 8) → ¬ y = 0 := fun a b => hb ⟨a, b⟩
  unfold wpY_compute
  refine pk_eq w 4 (fun e => by unfold op_c at hp; simp [e] at hp; exact hp) (fun _ => ?_)
  refine pk_eq w 5 (fun e => by unfold op_c at hp; simp [e] at hp; exact hp) (fun _ => ?_)
  refine pk_eq w 6 (fun e => by unfold op_c at hp; simp [e] at hp; exact hp) (fun _ => ?_)
  refine pk_eq w 7 (fun e => And.intro (hz (Or.inl e)) (by unfold op_c at hp; simp [e] at hp; exact hp)) (fun _ => ?_)
  refine pk_eq w 8 (fun e => And.intro (hz (Or.inr e)) (by unfold op_c at hp; simp [e] at hp; exact hp)) (fun _ => ?_)
  refine pk_eq w 9 (fun e => by unfold op_c at hp; simp [e] at hp; exact hp) (fun _ => ?_)
  refine pk_eq w 10 (fun e => by unfold op_c at hp; simp [e] at hp; exact hp) (fun _ => ?_)
  refine pk_eq w 11 (fun e => by unfold op_c at hp; simp [e] at hp; exact hp) (fun _ => ?_)
  refine pk_eq w 12 (fun e => by unfold op_c at hp; simp [e] at hp; exact hp) (fun _ => ?_)
  refine pk_eq w 13 (fun e => by unfold op_c at hp; simp [e] at hp; exact hp) (fun _ => ?_)
  have e14 : w = 14 := by omega
  refine br_c (fun hl => ?_) (fun hl => ?_)
  · unfold op_c at hp; simp [e14, hl] at hp; exact hp
  · unfold op_c at hp; simp [e14, hl] at hp; exact hp
theorem ye_86 (hv : v < 22) (ht : op_t v ≤ h) (ht' : op_h v h ≤ 4) (hh : h ≤ 4) (hb : ¬ op_b v (yst (h - 1)))
    (hgo : v ≠ 20 → (v = 21 → ¬ yst (h - 1) = 0) → wY_execute_13 poj (nI t) arg yBK yFA yLO yEX yOC n (nI (i + 1)) (nI (op_h v h)) (nI (sp + 1)) (ef_t v yVH) (ef_v v h yVV yst) ylv yls ysz yha yva yrn yrc yrr yop yar yle ypa (ef_r v h c arg yVH yVV yst) ynu yqt yqk yqa yon ysh ywa)
    (hju : (v = 20 ∨ v = 21 ∧ yst (h - 1) = 0) → wY_execute_13 poj (nI t) arg yBK yFA yLO yEX yOC n c.toInt32 (nI (op_h v h)) (nI (sp + 1)) (ef_t v yVH) (ef_v v h yVV yst) ylv yls ysz yha yva yrn yrc yrr yop yar yle ypa (ef_r v h c arg yVH yVV yst) ynu yqt yqk yqa yon ysh ywa) :
    wY_execute_86 poj (wY_execute_13 poj (nI t) arg yBK yFA yLO yEX yOC n) (nI t) arg (nI (i + 1)) (nI h) (nI sp) (nI v) c yBK yFA yLO yEX yVH yVV yOC ylv yls ysz yha yva yrn yrc yrr yop yar yle ypa yst ynu yqt yqk yqa yon ysh ywa := by
  unfold op_t at ht
  have eo : op_h v h = if v < 4 ∨ v = 15 then h + 1 else if v < 15 ∨ v = 17 ∨ v = 18 ∨ v = 21 then h - 1 else h := rfl
  have hgo' : ∀ (h' : Nat) (f : Nat → Int64), v < 18 → op_h v h = h' → ef_r v h c arg yVH yVV yst = f → wY_execute_13 poj (nI t) arg yBK yFA yLO yEX yOC n (nI (i + 1)) (nI h') (nI (sp + 1)) yVH yVV ylv yls ysz yha yva yrn yrc yrr yop yar yle ypa f ynu yqt yqk yqa yon ysh ywa := by
    intro h' f a1 e1 e2
    have := hgo (by omega) (by omega)
    rw [ef_t_n (by omega) (by omega), ef_v_n (by omega), e1, e2] at this
    exact this
  unfold wY_execute_86
  refine pk_eq v 23 (fun e => absurd e (by omega)) (fun _ => pk_le 4 v (fun h4 => pk_le 15 v (fun h15 => ?_) (fun h15 => ?_)) (fun h4 => ?_))
  · refine pk_eq v 15 (fun e => ?_) (fun e15 => ?_)
    · rw [if_neg (by omega), if_neg (by omega), if_neg (by omega), if_pos (by omega)] at ht
      rw [if_pos (by omega)] at eo
      rw [ar_m1 (by omega)]
      refine And.intro (vp_in_nI (by omega) (by omega)) (And.intro (vp_in_nI (by omega) (by omega)) (nm_r (e' := vp_updL yst h (yst (h - 1))) (by rw [nI_clamp (by omega), nI_clamp (by omega)]) (nm_r (nI_1 h) (nm_r (nI_1 sp) ?_))))
      exact hgo' _ _ (by omega) eo (by unfold ef_r; rw [if_neg (by omega), if_neg (by omega), if_neg (by omega), if_neg (by omega), if_neg (by omega), if_pos e])
    refine pk_eq v 16 (fun e => ?_) (fun e16 => ?_)
    · rw [if_neg (by omega), if_neg (by omega), if_pos (by omega)] at ht
      rw [if_neg (by omega), if_neg (by omega)] at eo
      rw [ar_m1 (by omega), ar_m2 (by omega)]
      have i1 : vp_in (nI (h - 1)) 5 := vp_in_nI (by omega) (by omega)
      have i2 : vp_in (nI (h - 2)) 5 := vp_in_nI (by omega) (by omega)
      have c1 : (nI (h - 1)).toNatClampNeg = h - 1 := nI_clamp (by omega)
      have c2 : (nI (h - 2)).toNatClampNeg = h - 2 := nI_clamp (by omega)
      refine And.intro i1 (nm_r (e' := yst (h - 1)) (by rw [c1]) (And.intro i2 (And.intro i1 (nm_r (e' := vp_updL yst (h - 1) (yst (h - 2))) (by rw [c1, c2]) (And.intro i2 ?_)))))
      refine nm_r (e' := vp_updL (vp_updL yst (h - 1) (yst (h - 2))) (h - 2) (yst (h - 1))) (by rw [c2]) (nm_r (nI_1 sp) ?_)
      exact hgo' _ _ (by omega) eo (by unfold ef_r; rw [if_neg (by omega), if_neg (by omega), if_neg (by omega), if_neg (by omega), if_neg (by omega), if_neg (by omega), if_pos e])
    have efr : ef_r v h c arg yVH yVV yst = yst := by unfold ef_r; rw [if_neg (by omega), if_neg (by omega), if_neg (by omega), if_neg (by omega), if_neg (by omega), if_neg (by omega), if_neg (by omega)]
    refine pk_eq v 17 (fun e => ?_) (fun e17 => ?_)
    · rw [if_neg (by omega), if_neg (by omega), if_neg (by omega), if_pos (by omega)] at ht
      rw [if_neg (by omega), if_pos (by omega)] at eo
      exact nm_r (ar_n1 (by omega)) (nm_r (nI_1 sp) (hgo' _ _ (by omega) eo efr))
    refine pk_eq v 18 (fun e => ?_) (fun e18 => ?_)
    · rw [if_neg (by omega), if_neg (by omega), if_neg (by omega), if_pos (by omega)] at ht
      rw [if_neg (by omega), if_pos (by omega)] at eo
      refine nm_r (ar_n1 (by omega)) (And.intro (vp_in_nI (by omega) (by omega)) (nm_r (e' := yst (h - 1)) (by rw [nI_clamp (by omega)]) (nm_r (nI_1 sp) ?_)))
      have := hgo (by omega) (by omega)
      rw [eo, efr, show ef_t v yVH = 1 from if_pos e, show ef_v v h yVV yst = yst (h - 1) from if_pos e] at this
      exact this
    refine pk_eq v 19 (fun e => ?_) (fun e19 => ?_)
    · rw [if_neg (by omega), if_neg (by omega)] at eo
      have := hgo (by omega) (by omega)
      rw [eo, efr, show ef_t v yVH = 0 from by unfold ef_t; rw [if_neg e18, if_pos e], ef_v_n e18] at this
      exact nm_r (nI_1 sp) this
    have eft : ef_t v yVH = yVH := ef_t_n e18 e19
    have efv : ef_v v h yVV yst = yVV := ef_v_n e18
    refine pk_eq v 20 (fun e => ?_) (fun e20 => ?_)
    · rw [if_neg (by omega), if_neg (by omega)] at eo
      have := hju (Or.inl e)
      rw [eo, efr, eft, efv] at this
      exact nm_r (nI_1 sp) this
    · have e21 : v = 21 := by omega
      rw [if_neg (by omega), if_neg (by omega), if_neg (by omega), if_pos (by omega)] at ht
      rw [if_neg (by omega), if_pos (by omega)] at eo
      refine nm_r (ar_n1 (by omega)) (And.intro (vp_in_nI (by omega) (by omega)) (br_c (fun z => ?_) (fun z => ?_)))
      · rw [nI_clamp (by omega)] at z
        have := hju (Or.inr ⟨e21, z⟩)
        rw [eo, efr, eft, efv] at this
        exact nm_r (nI_1 sp) this
      · rw [nI_clamp (by omega)] at z
        have := hgo e20 (fun _ => z)
        rw [eo, efr, eft, efv] at this
        exact nm_r (nI_1 sp) this
  · rw [if_neg (by omega), if_pos h15] at ht
    rw [if_neg (by omega), if_pos (by omega)] at eo
    refine nm_r (ar_n1 (by omega)) ?_
    rw [ar_m1 (by omega), show h - 1 - 1 = h - 2 from by omega, nI_clamp (by omega), nI_clamp (by omega)]
    have i2 : vp_in (nI (h - 2)) 5 := vp_in_nI (by omega) (by omega)
    refine And.intro i2 (And.intro (vp_in_nI (by omega) (by omega)) (ye_compute h4 h15 hb (And.intro i2 (nm_e (nm_r (nI_1 sp) ?_)))))
    exact hgo' _ _ (by omega) eo (ef_r_b h4 h15)
  · rw [if_pos (by omega)] at eo
    have ih : vp_in (nI h) 5 := vp_in_nI (by omega) (by omega)
    have ch : (nI h).toNatClampNeg = h := nI_clamp (by omega)
    refine nm_r (nI_1 h) (pk_eq v 0 (fun e => ?_) (fun e0 => pk_eq v 1 (fun e => ?_) (fun e1 => pk_eq v 2 (fun e => ?_) (fun e2 => ?_))))
    · exact And.intro ih (nm_r (e' := vp_updL yst h c) (by rw [ch]) (nm_r (nI_1 sp) (hgo' _ _ (by omega) eo (by unfold ef_r; rw [if_pos e]))))
    · refine br_c (fun z => ?_) (fun z => ?_)
      · exact And.intro ih (nm_r (e' := vp_updL yst h 0) (by rw [ch]) (nm_r (nI_1 sp) (hgo' _ _ (by omega) eo (by unfold ef_r; rw [if_neg e0, if_pos e, if_pos z]))))
      · exact And.intro ih (nm_r (e' := vp_updL yst h yVV) (by rw [ch]) (nm_r (nI_1 sp) (hgo' _ _ (by omega) eo (by unfold ef_r; rw [if_neg e0, if_pos e, if_neg z]))))
    · refine br_c (fun z => ?_) (fun z => ?_)
      · exact And.intro ih (nm_r (e' := vp_updL yst h 0) (by rw [ch]; rfl) (nm_r (nI_1 sp) (hgo' _ _ (by omega) eo (by unfold ef_r; rw [if_neg e0, if_neg e1, if_pos e, if_pos z]))))
      · exact And.intro ih (nm_r (e' := vp_updL yst h 1) (by rw [ch]; rfl) (nm_r (nI_1 sp) (hgo' _ _ (by omega) eo (by unfold ef_r; rw [if_neg e0, if_neg e1, if_pos e, if_neg z]))))
    · exact And.intro ih (nm_r (e' := vp_updL yst h arg.toInt64) (by rw [ch]) (nm_r (nI_1 sp) (hgo' _ _ (by omega) eo (by unfold ef_r; rw [if_neg e0, if_neg e1, if_neg e2, if_pos (by omega)]))))
theorem ye_80 (hp : poj 2 (yBK, yFA, yLO, yEX, yVH, yVV, yOC, ylv, yls, ysz, yha, yva, yrn, yrc, yrr, yop, yar, yle, ypa, yst, ynu, yqt, yqk, yqa, yon, ysh, ywa)) : wY_execute_13 poj (nI t) arg yBK yFA yLO yEX yOC (n + 1) (nI i) (nI h) (nI 80) yVH yVV ylv yls ysz yha yva yrn yrc yrr yop yar yle ypa yst ynu yqt yqk yqa yon ysh ywa := br_t (by decide) hp
theorem ye_step (hsp : sp < 80) (h4 : t < 4) (hi : i < 16) (hv : v < 24) (ho : yop (16 * t + i) = nI v) (hc : yar (16 * t + i) = c) (ht : op_t v ≤ h) (ht' : op_h v h ≤ 4) (hh : h ≤ 4)
    (h22 : v = 22 → poj 1 (yBK, yFA, yLO, yEX, yVH, yVV, yOC, ylv, yls, ysz, yha, yva, yrn, yrc, yrr, yop, yar, yle, ypa, yst, ynu, yqt, yqk, yqa, yon, ysh, ywa)) (hb : op_b v (yst (h - 1)) → poj 1 (yBK, yFA, yLO, yEX, yVH, yVV, yOC, ylv, yls, ysz, yha, yva, yrn, yrc, yrr, yop, yar, yle, ypa, yst, ynu, yqt, yqk, yqa, yon, ysh, ywa)) (h23 : v = 23 → poj 0 (yBK, yFA, yLO, yEX, yVH, yVV, yst (h - 1), ylv, yls, ysz, yha, yva, yrn, yrc, yrr, yop, yar, yle, ypa, yst, ynu, yqt, yqk, yqa, yon, ysh, ywa))
    (hgo : v < 22 → ¬ op_b v (yst (h - 1)) → v ≠ 20 → (v = 21 → ¬ yst (h - 1) = 0) → wY_execute_13 poj (nI t) arg yBK yFA yLO yEX yOC n (nI (i + 1)) (nI (op_h v h)) (nI (sp + 1)) (ef_t v yVH) (ef_v v h yVV yst) ylv yls ysz yha yva yrn yrc yrr yop yar yle ypa (ef_r v h c arg yVH yVV yst) ynu yqt yqk yqa yon ysh ywa)
    (hju : (v = 20 ∨ v = 21 ∧ yst (h - 1) = 0) → wY_execute_13 poj (nI t) arg yBK yFA yLO yEX yOC n c.toInt32 (nI (op_h v h)) (nI (sp + 1)) (ef_t v yVH) (ef_v v h yVV yst) ylv yls ysz yha yva yrn yrc yrr yop yar yle ypa (ef_r v h c arg yVH yVV yst) ynu yqt yqk yqa yon ysh ywa) :
    wY_execute_13 poj (nI t) arg yBK yFA yLO yEX yOC (n + 1) (nI i) (nI h) (nI sp) yVH yVV ylv yls ysz yha yva yrn yrc yrr yop yar yle ypa yst ynu yqt yqk yqa yon ysh ywa := by
  have ic : vp_in (16 * nI t + nI i) 80 := by rw [ar_16]; exact vp_in_nI (by omega) (by omega)
  have cc : (16 * nI t + nI i).toNatClampNeg = 16 * t + i := by rw [ar_16, nI_clamp (by omega)]
  have t1 : v = 23 → 1 ≤ h := by intro e; rw [e] at ht; exact ht
  have t2 : (v = 7 ∨ v = 8) → 2 ≤ h := by intro e; rw [op_t_b (by omega) (by omega)] at ht; exact ht
  have h86 : ¬ v = 22 → ¬ op_b v (yst (h - 1)) → wY_execute_86 poj (wY_execute_13 poj (nI t) arg yBK yFA yLO yEX yOC n) (nI t) arg (nI (i + 1)) (nI h) (nI sp) (nI v) c yBK yFA yLO yEX yVH yVV yOC ylv yls ysz yha yva yrn yrc yrr yop yar yle ypa yst ynu yqt yqk yqa yon ysh ywa := by
    intro n22 nb
    by_cases e : v = 23
    · unfold wY_execute_86
      rw [ar_m1 (t1 e)]
      refine br_t (by rw [e]; rfl) (And.intro (vp_in_nI (by omega) (by omega)) (nm_r (e' := yst (h - 1)) (by rw [nI_clamp (by omega)]) (h23 e)))
    · exact ye_86 (by omega) ht ht' hh nb (fun a b => hgo (by omega) nb a b) hju
  have h70 : (v = 7 ∨ v = 8) → wY_execute_70 poj (wY_execute_13 poj (nI t) arg yBK yFA yLO yEX yOC n) (nI t) arg (nI (i + 1)) (nI h) (nI sp) (nI v) c yBK yFA yLO yEX yVH yVV yOC ylv yls ysz yha yva yrn yrc yrr yop yar yle ypa yst ynu yqt yqk yqa yon ysh ywa := by
    intro e
    have := t2 e
    unfold wY_execute_70
    rw [ar_m1 (by omega), nI_clamp (by omega)]
    exact And.intro (vp_in_nI (by omega) (by omega)) (br_c (fun z => hb ⟨e, z⟩) (fun z => h86 (by omega) (fun u => z u.2)))
  refine br_f (nI_ge (b := 80) hsp (by decide)) (And.intro ic (nm_r (e' := nI v) (by rw [cc]; exact ho) (And.intro ic (nm_r (e' := c) (by rw [cc]; exact hc) (nm_r (nI_1 i) ?_)))))
  exact pk_eq v 22 h22 (fun n22 => pk_eq v 7 (fun e => h70 (Or.inl e)) (fun n7 => pk_eq v 8 (fun e => h70 (Or.inr e)) (fun n8 => h86 n22 (fun u => by have := u.1; omega))))
theorem ye_jump {o : Nat → Nat} {a : Nat → Int64} {j N : Nat} (hN : N ≤ 16) (h4 : t < 4) (ho : ∀ i, i < N → yop (16 * t + i) = nI (o i)) (ha : ∀ i, i < N → yar (16 * t + i) = a i) (hh : h ≤ 4) :
    ∀ (k i sp : Nat), ex_J o a N k i j → sp + k ≤ 80 →
      (∀ n, 80 - (sp + k) < n → wY_execute_13 poj (nI t) arg yBK yFA yLO yEX yOC n (nI j) (nI h) (nI (sp + k)) yVH yVV ylv yls ysz yha yva yrn yrc yrr yop yar yle ypa yst ynu yqt yqk yqa yon ysh ywa) →
      ∀ n, 80 - sp < n → wY_execute_13 poj (nI t) arg yBK yFA yLO yEX yOC n (nI i) (nI h) (nI sp) yVH yVV ylv yls ysz yha yva yrn yrc yrr yop yar yle ypa yst ynu yqt yqk yqa yon ysh ywa := by
  intro k
  induction k with
  | zero =>
    intro i sp hJ _ H n hn
    have e : i = j := hJ
    rw [e]
    exact H n hn
  | succ k ih =>
    intro i sp hJ hs H n hn
    obtain ⟨hi, hoi, g, hg, hag, hJ'⟩ := hJ
    obtain ⟨n, rfl⟩ : ∃ q, n = q + 1 := ⟨n - 1, by omega⟩
    have e20 : op_h 20 h = h := rfl
    refine ye_step (v := 20) (c := lN g) (by omega) h4 (by omega) (by decide) (by rw [ho i hi, hoi]) (by rw [ha i hi, hag]) (Nat.zero_le _) hh hh (fun e => absurd e (by decide)) (fun e => absurd e.1 (by decide)) (fun e => absurd e (by decide)) (fun _ _ e => absurd rfl e) (fun _ => ?_)
    rw [lN_i]
    exact ih g (sp + 1) hJ' (by omega) (by rw [show sp + 1 + k = sp + (k + 1) from by omega]; exact H) n (by omega)
theorem ye_jumpF {o : Nat → Nat} {a : Nat → Int64} {j N : Nat} (hN : N ≤ 16) (h4 : t < 4) (ho : ∀ i, i < N → yop (16 * t + i) = nI (o i)) (ha : ∀ i, i < N → yar (16 * t + i) = a i) (hh : h ≤ 4) (hp : poj 2 (yBK, yFA, yLO, yEX, yVH, yVV, yOC, ylv, yls, ysz, yha, yva, yrn, yrc, yrr, yop, yar, yle, ypa, yst, ynu, yqt, yqk, yqa, yon, ysh, ywa)) :
    ∀ (k i sp : Nat), ex_J o a N k i j → sp ≤ 80 → 80 ≤ sp + k → ∀ n, 80 - sp < n → wY_execute_13 poj (nI t) arg yBK yFA yLO yEX yOC n (nI i) (nI h) (nI sp) yVH yVV ylv yls ysz yha yva yrn yrc yrr yop yar yle ypa yst ynu yqt yqk yqa yon ysh ywa := by
  intro k
  induction k with
  | zero =>
    intro i sp hJ h1 h2 n hn
    obtain ⟨n, rfl⟩ : ∃ q, n = q + 1 := ⟨n - 1, by omega⟩
    have e : sp = 80 := by omega
    rw [e]
    exact ye_80 hp
  | succ k ih =>
    intro i sp hJ h1 h2 n hn
    obtain ⟨n, rfl⟩ : ∃ q, n = q + 1 := ⟨n - 1, by omega⟩
    by_cases e : sp = 80
    · rw [e]; exact ye_80 hp
    · obtain ⟨hi, hoi, g, hg, hag, hJ'⟩ := hJ
      refine ye_step (v := 20) (c := lN g) (by omega) h4 (by omega) (by decide) (by rw [ho i hi, hoi]) (by rw [ha i hi, hag]) (Nat.zero_le _) hh hh (fun e => absurd e (by decide)) (fun e => absurd e.1 (by decide)) (fun e => absurd e (by decide)) (fun _ _ e => absurd rfl e) (fun _ => ?_)
      rw [lN_i]
      exact ih g (sp + 1) hJ' (by omega) (by omega) n (by omega)
end
section
variable {xWC xLV xPF xLO xEX xWS xDR xVT xCH : Int32} {xVV xOC : Int64} {xcp xcc xwi xtg xrn xrc xnu xrt xra xrk xan xdo xhe xfr xta xso xsr xsn xsx xsc xsd xse xdp : Nat → Int32} {xst xrr xrs xdc xsk xrg : Nat → Int64}
variable {poi : Int32 → SX → Prop} {t i h sp v w n cost k j : Nat} {c : Int64} {arg : Int32}
theorem xe_exit {x3 x4 : Int32} {cd : Nat} (hcd : cd < 10) (hp : poi (nI cd) (xWC, xLV, xPF, xLO, xEX, xWS, xDR, xVT, xVV, xOC, xCH, xcp, xcc, xwi, xtg, xst, xrn, xrc, xrr, xnu, xrt, xra, xrk, xan, xrs, xdo, xdc, xhe, xfr, xta, xso, xsr, xsn, xsx, xsc, xsd, xse, xsk, xdp, xrg)) : wX_execute_13 poi (nI t) arg (n + 1) x3 x4 (nI cd) xWC xLV xPF xLO xEX xWS xDR xVT xVV xOC xCH xcp xcc xwi xtg xst xrn xrc xrr xnu xrt xra xrk xan xrs xdo xdc xhe xfr xta xso xsr xsn xsx xsc xsd xse xsk xdp xrg := br_t (nI_pos' (by omega)) hp
theorem xe_217 (h4 : t < 4) (hi : i < 16) (hn : xsn (16 * t + i) = nI j) (hd : xsd (16 * t + i) = nI k) {x5 : Int32} (hp : wX_execute_13 poi (nI t) arg n (nI j) (nI (sp + k)) x5 xWC xLV xPF xLO xEX xWS xDR xVT xVV xOC xCH xcp xcc xwi xtg xst xrn xrc xrr xnu xrt xra xrk xan xrs xdo xdc xhe xfr xta xso xsr xsn xsx xsc xsd xse xsk xdp xrg) :
    wX_execute_217 poi (wX_execute_13 poi (nI t) arg n) (nI t) arg (nI sp) x5 (nI (16 * t + i)) xWC xLV xPF xLO xEX xWS xDR xVT xVV xOC xCH xcp xcc xwi xtg xst xrn xrc xrr xnu xrt xra xrk xan xrs xdo xdc xhe xfr xta xso xsr xsn xsx xsc xsd xse xsk xdp xrg := by
  have ic : vp_in (nI (16 * t + i)) 64 := vp_in_nI (by omega) (by omega)
  have cc : (nI (16 * t + i)).toNatClampNeg = 16 * t + i := nI_clamp (by omega)
  unfold wX_execute_217
  refine And.intro ic (nm_r (e' := nI j) (by rw [cc]; exact hn) (And.intro ic (nm_r (e' := nI (sp + k)) (by rw [cc, hd, nI_add]) hp)))
/-- a step: c its constant, cost what it takes -/
theorem xe_enter (h4 : t < 4) (hi : i < 16) (ho : xso (16 * t + i) = nI v) (hr : xsr (16 * t + i) = nI h) (hc : xsc (16 * t + i) = nI cost) (hv : v < 50) (hco : cost < 10) (hsp : sp < 1000) (hh : h ≤ 4)
    (hF : 80 < sp + cost → wX_execute_13 poi (nI t) arg n (nI i) (nI (sp + cost)) 2 xWC xLV xPF xLO xEX xWS xDR xVT xVV xOC xCH xcp xcc xwi xtg xst xrn xrc xrr xnu xrt xra xrk xan xrs xdo xdc xhe xfr xta xso xsr xsn xsx xsc xsd xse xsk xdp xrg)
    (h23 : sp + cost ≤ 80 → v = 23 → 1 ≤ h ∧ wX_execute_13 poi (nI t) arg n (nI i) (nI (sp + cost)) 0 xWC xLV xPF xLO xEX xWS xDR xVT xVV (xrg (h - 1)) xCH xcp xcc xwi xtg xst xrn xrc xrr xnu xrt xra xrk xan xrs xdo xdc xhe xfr xta xso xsr xsn xsx xsc xsd xse xsk xdp xrg)
    (h22 : sp + cost ≤ 80 → v = 22 → wX_execute_13 poi (nI t) arg n (nI i) (nI (sp + cost)) 1 xWC xLV xPF xLO xEX xWS xDR xVT xVV xOC xCH xcp xcc xwi xtg xst xrn xrc xrr xnu xrt xra xrk xan xrs xdo xdc xhe xfr xta xso xsr xsn xsx xsc xsd xse xsk xdp xrg)
    (h21 : v = 21 → 1 ≤ h)
    (h21z : sp + cost ≤ 80 → v = 21 → xrg (h - 1) = 0 → ∃ j k, xsx (16 * t + i) = nI j ∧ xse (16 * t + i) = nI k ∧ wX_execute_13 poi (nI t) arg n (nI j) (nI (sp + cost + k)) (-1) xWC xLV xPF xLO xEX xWS xDR xVT xVV xOC xCH xcp xcc xwi xtg xst xrn xrc xrr xnu xrt xra xrk xan xrs xdo xdc xhe xfr xta xso xsr xsn xsx xsc xsd xse xsk xdp xrg)
    (h152 : sp + cost ≤ 80 → v ≠ 23 → v ≠ 22 → (v = 21 → ¬ xrg (h - 1) = 0) → wX_execute_152 poi (wX_execute_13 poi (nI t) arg n) (nI t) arg (nI (sp + cost)) (-1) (nI (16 * t + i)) (nI v) (nI h) xWC xLV xPF xLO xEX xWS xDR xVT xVV xOC xCH xcp xcc xwi xtg xst xrn xrc xrr xnu xrt xra xrk xan xrs xdo xdc xhe xfr xta xso xsr xsn xsx xsc xsd xse xsk xdp xrg) :
    wX_execute_13 poi (nI t) arg (n + 1) (nI i) (nI sp) (-1) xWC xLV xPF xLO xEX xWS xDR xVT xVV xOC xCH xcp xcc xwi xtg xst xrn xrc xrr xnu xrt xra xrk xan xrs xdo xdc xhe xfr xta xso xsr xsn xsx xsc xsd xse xsk xdp xrg := by
  have ic : vp_in (nI (16 * t + i)) 64 := vp_in_nI (by omega) (by omega)
  have cc : (nI (16 * t + i)).toNatClampNeg = 16 * t + i := nI_clamp (by omega)
  refine br_f (by decide) (nm_r (ar_16 t i) (And.intro ic (nm_r (e' := nI v) (by rw [cc]; exact ho) (And.intro ic (nm_r (e' := nI h) (by rw [cc]; exact hr) (And.intro ic (nm_r (e' := nI (sp + cost)) (by rw [cc, hc, nI_add]) ?_)))))))
  refine pk_le (sp + cost) 80 (fun hs => ?_) (fun hs => hF hs)
  refine pk_eq v 23 (fun e => ?_) (fun n23 => pk_eq v 22 (fun e => h22 hs e) (fun n22 => pk_eq v 21 (fun e => ?_) (fun n21 => h152 hs n23 n22 (fun e => absurd e n21))))
  · obtain ⟨a1, a2⟩ := h23 hs e
    rw [ar_m1 a1]
    exact And.intro (vp_in_nI (by omega) (by omega)) (nm_r (e' := xrg (h - 1)) (by rw [nI_clamp (by omega)]) a2)
  · have a1 := h21 e
    rw [ar_m1 a1, nI_clamp (by omega)]
    refine And.intro (vp_in_nI (by omega) (by omega)) (br_c (fun z => ?_) (fun z => h152 hs n23 n22 (fun _ => z)))
    obtain ⟨j, k, ej, ek, hp⟩ := h21z hs e z
    exact And.intro ic (nm_r (e' := nI j) (by rw [cc]; exact ej) (And.intro ic (nm_r (e' := nI (sp + cost + k)) (by rw [cc, ek, nI_add]) hp)))
theorem xe_152p (h4 : t < 4) (hi : i < 16) (hv : v < 22) (hr : op_t v ≤ h) (hr' : op_h v h ≤ 4) (hh : h ≤ 4) (hk : xsk (16 * t + i) = c) (hn : xsn (16 * t + i) = nI j) (hd : xsd (16 * t + i) = nI k)
    (h0 : op_b v (xrg (h - 1)) → wX_execute_13 poi (nI t) arg n (nI j) (nI (sp + k)) 1 xWC xLV xPF xLO xEX xWS xDR xVT xVV xOC xCH xcp xcc xwi xtg xst xrn xrc xrr xnu xrt xra xrk xan xrs xdo xdc xhe xfr xta xso xsr xsn xsx xsc xsd xse xsk xdp xrg)
    (h1 : ¬ op_b v (xrg (h - 1)) → wX_execute_13 poi (nI t) arg n (nI j) (nI (sp + k)) (-1) xWC xLV xPF xLO xEX xWS xDR (ef_t v xVT) (ef_v v h xVV xrg) xOC xCH xcp xcc xwi xtg xst xrn xrc xrr xnu xrt xra xrk xan xrs xdo xdc xhe xfr xta xso xsr xsn xsx xsc xsd xse xsk xdp (ef_r v h c arg xVT xVV xrg)) :
    wX_execute_152 poi (wX_execute_13 poi (nI t) arg n) (nI t) arg (nI sp) (-1) (nI (16 * t + i)) (nI v) (nI h) xWC xLV xPF xLO xEX xWS xDR xVT xVV xOC xCH xcp xcc xwi xtg xst xrn xrc xrr xnu xrt xra xrk xan xrs xdo xdc xhe xfr xta xso xsr xsn xsx xsc xsd xse xsk xdp xrg := by
  have ic : vp_in (nI (16 * t + i)) 64 := vp_in_nI (by omega) (by omega)
  have cc : (nI (16 * t + i)).toNatClampNeg = 16 * t + i := nI_clamp (by omega)
  unfold wX_execute_152
  refine pk_le v 23 (fun _ => And.intro ic ?_) (fun e => absurd e (by omega))
  rw [cc, hk]
  refine xe_act hv hr hr' hh (fun z => br_t rfl (xe_217 h4 hi hn hd (h0 z))) (fun z => br_f (by decide) (xe_217 h4 hi hn hd (h1 z)))
theorem xe_152j (h4 : t < 4) (hi : i < 16) (hw : 4 ≤ w) (hw' : w < 15) (hh1 : 1 ≤ h) (hh : h ≤ 4) (hk : xsk (16 * t + i) = c) (hn : xsn (16 * t + i) = nI j) (hd : xsd (16 * t + i) = nI k)
    (h0 : op_b w c → wX_execute_13 poi (nI t) arg n (nI j) (nI (sp + k)) 1 xWC xLV xPF xLO xEX xWS xDR xVT xVV xOC xCH xcp xcc xwi xtg xst xrn xrc xrr xnu xrt xra xrk xan xrs xdo xdc xhe xfr xta xso xsr xsn xsx xsc xsd xse xsk xdp xrg)
    (h1 : ¬ op_b w c → wX_execute_13 poi (nI t) arg n (nI j) (nI (sp + k)) (-1) xWC xLV xPF xLO xEX xWS xDR xVT xVV xOC xCH xcp xcc xwi xtg xst xrn xrc xrr xnu xrt xra xrk xan xrs xdo xdc xhe xfr xta xso xsr xsn xsx xsc xsd xse xsk xdp (vp_updL xrg (h - 1) (op_c w (xrg (h - 1)) c))) :
    wX_execute_152 poi (wX_execute_13 poi (nI t) arg n) (nI t) arg (nI sp) (-1) (nI (16 * t + i)) (nI (w + 20)) (nI h) xWC xLV xPF xLO xEX xWS xDR xVT xVV xOC xCH xcp xcc xwi xtg xst xrn xrc xrr xnu xrt xra xrk xan xrs xdo xdc xhe xfr xta xso xsr xsn xsx xsc xsd xse xsk xdp xrg := by
  have ic : vp_in (nI (16 * t + i)) 64 := vp_in_nI (by omega) (by omega)
  have cc : (nI (16 * t + i)).toNatClampNeg = 16 * t + i := nI_clamp (by omega)
  unfold wX_execute_152
  refine pk_le (w + 20) 23 (fun e => absurd e (by omega)) (fun _ => ?_)
  rw [ar_m1 hh1, ar_m20 (by omega), show w + 20 - 20 = w from by omega, cc, hk, nI_clamp (by omega)]
  refine And.intro (vp_in_nI (by omega) (by omega)) (And.intro ic ?_)
  refine xe_combine hw hw' (by omega) (fun z => br_t rfl (xe_217 h4 hi hn hd (h0 z))) (fun z => br_f (by decide) (xe_217 h4 hi hn hd (h1 z)))
end
end
section
/-! a checked task: S i h: instruction i is met with height h; the component's steps against the reference's program (o, a) -/
def ex_q1 (a : Nat → Int64) (S : Nat → Nat → Prop) (n i h : Nat) : Prop := ∃ j, j < n ∧ a i = lN j ∧ S j h
def ex_q2 (o : Nat → Nat) (a : Nat → Int64) (n i : Nat) (sd sn : Int32) : Prop := ∃ g k j, (o i = 20 → a i = lN g ∧ g < 16) ∧ (o i ≠ 20 → g = i + 1) ∧ k ≤ 100 ∧ sd = nI k ∧ sn = nI j ∧ ex_J o a n k g j
def ex_q3 (o : Nat → Nat) (a : Nat → Int64) (n i : Nat) (se sx : Int32) : Prop := ∃ g k j, a i = lN g ∧ g < 16 ∧ k ≤ 100 ∧ se = nI k ∧ sx = nI j ∧ ex_J o a n k g j
def ex_T (o : Nat → Nat) (a : Nat → Int64) (S : Nat → Nat → Prop) (n t : Nat) (so sr sn sx sc sd se : Nat → Int32) (sk : Nat → Int64) : Prop :=
  n ≤ 16 ∧ S 0 0 ∧ ∀ i h, S i h → i < n ∧ h ≤ 4 ∧ o i < 24 ∧ op_t (o i) ≤ h ∧ op_h (o i) h ≤ 4 ∧
    ((o i = 20 ∨ o i = 21) → ex_q1 a S n i (op_h (o i) h)) ∧ (o i ≠ 20 → o i < 22 → S (i + 1) (op_h (o i) h)) ∧
    sr (16 * t + i) = nI h ∧ sk (16 * t + i) = a i ∧
    ((so (16 * t + i) = nI (o i) ∧ sc (16 * t + i) = nI 1 ∧ (o i < 22 → ex_q2 o a n i (sd (16 * t + i)) (sn (16 * t + i)))) ∨
      (o i = 0 ∧ 4 ≤ o (i + 1) ∧ o (i + 1) < 15 ∧ so (16 * t + i) = nI (o (i + 1) + 20) ∧ sc (16 * t + i) = nI 2 ∧ ∃ k j, k ≤ 100 ∧ sd (16 * t + i) = nI k ∧ sn (16 * t + i) = nI j ∧ ex_J o a n k (i + 2) j)) ∧
    (o i = 21 → ex_q3 o a n i (se (16 * t + i)) (sx (16 * t + i)))
theorem lN_inj16 {a b : Nat} (ha : a < 16) (hb : b < 16) (h : lN a = lN b) : a = b := (lN_eq (by omega) (by omega)).mp h
theorem ex_JS {o : Nat → Nat} {a : Nat → Int64} {S : Nat → Nat → Prop} {n t : Nat} {so sr sn sx sc sd se : Nat → Int32} {sk : Nat → Int64} (hT : ex_T o a S n t so sr sn sx sc sd se sk) {h j : Nat} :
    ∀ k g, ex_J o a n k g j → S g h → S j h := by
  intro k
  induction k with
  | zero => intro g hJ hS; have e : g = j := hJ; rw [← e]; exact hS
  | succ k ih =>
    intro g hJ hS
    obtain ⟨hg, ho, g', hg', ha', hJ'⟩ := hJ
    obtain ⟨hn, _, hall⟩ := hT
    obtain ⟨_, _, _, _, _, hj, _⟩ := hall g h hS
    obtain ⟨j', hj', ea, hS'⟩ := hj (Or.inl ho)
    have e : g' = j' := lN_inj16 hg' (by omega) (ha'.symm.trans ea)
    rw [ho] at hS'
    rw [← e] at hS'
    exact ih g' hJ' hS'
/-- one end for both: code, view, outcome -/
def ex_F (cd : Nat) (xt : Int32) (xv : Int64) (yt : Int32) (yv oc : Int64) : Prop := cd ≤ 2 ∧ (cd ≠ 0 → oc = 0) ∧ (cd = 0 → xt = yt ∧ (xt = 0 ∨ xt = 1) ∧ (xt ≠ 0 → xv = yv))
/-- the component at step ix having spent cx, the reference at instruction iy in run cy: one end for both -/
def ex_M (xWC : Int32) (xLV : Int32) (xPF : Int32) (xLO : Int32) (xEX : Int32) (xWS : Int32) (xDR : Int32) (xVT : Int32) (xVV : Int64) (xOC : Int64) (xCH : Int32) (xcp : Nat → Int32) (xcc : Nat → Int32) (xwi : Nat → Int32) (xtg : Nat → Int32) (xst : Nat → Int64) (xrn : Nat → Int32) (xrc : Nat → Int32) (xrr : Nat → Int64) (xnu : Nat → Int32) (xrt : Nat → Int32) (xra : Nat → Int32) (xrk : Nat → Int32) (xan : Nat → Int32) (xrs : Nat → Int64) (xdo : Nat → Int32) (xdc : Nat → Int64) (xhe : Nat → Int32) (xfr : Nat → Int32) (xta : Nat → Int32) (xso : Nat → Int32) (xsr : Nat → Int32) (xsn : Nat → Int32) (xsx : Nat → Int32) (xsc : Nat → Int32) (xsd : Nat → Int32) (xse : Nat → Int32) (xsk : Nat → Int64) (xdp : Nat → Int32) (xrg : Nat → Int64) (yBK : Int32) (yFA : Int32) (yLO : Int32) (yEX : Int32) (yVH : Int32) (yVV : Int64) (yOC : Int64) (ylv : Nat → Int32) (yls : Nat → Int32) (ysz : Nat → Int32) (yha : Nat → Int32) (yva : Nat → Int64) (yrn : Nat → Int32) (yrc : Nat → Int32) (yrr : Nat → Int64) (yop : Nat → Int32) (yar : Nat → Int64) (yle : Nat → Int32) (ypa : Nat → Int32) (yst : Nat → Int64) (ynu : Nat → Int32) (yqt : Nat → Int32) (yqk : Nat → Int32) (yqa : Nat → Int32) (yon : Nat → Int32) (ysh : Nat → Int64) (ywa : Nat → Int32) (t ix cx iy cy h : Nat) (arg vt : Int32) (xv yv : Int64) (rg st : Nat → Int64) : Prop :=
  ∃ (cd : Nat) (xt : Int32) (xv' : Int64) (yt : Int32) (yv' oc : Int64) (rg' st' : Nat → Int64), ex_F cd xt xv' yt yv' oc ∧
    (∀ poi : Int32 → SX → Prop, poi (nI cd) (xWC, xLV, xPF, xLO, xEX, xWS, xDR, xt, xv', oc, xCH, xcp, xcc, xwi, xtg, xst, xrn, xrc, xrr, xnu, xrt, xra, xrk, xan, xrs, xdo, xdc, xhe, xfr, xta, xso, xsr, xsn, xsx, xsc, xsd, xse, xsk, xdp, rg') → ∀ n, 80 - cx + 3 < n → wX_execute_13 poi (nI t) arg n (nI ix) (nI cx) (-1) xWC xLV xPF xLO xEX xWS xDR vt xv 0 xCH xcp xcc xwi xtg xst xrn xrc xrr xnu xrt xra xrk xan xrs xdo xdc xhe xfr xta xso xsr xsn xsx xsc xsd xse xsk xdp rg) ∧
    (∀ poj : Int32 → SY → Prop, poj (nI cd) (yBK, yFA, yLO, yEX, yt, yv', oc, ylv, yls, ysz, yha, yva, yrn, yrc, yrr, yop, yar, yle, ypa, st', ynu, yqt, yqk, yqa, yon, ysh, ywa) → ∀ n, 80 - cy < n → wY_execute_13 poj (nI t) arg yBK yFA yLO yEX 0 n (nI iy) (nI h) (nI cy) vt yv ylv yls ysz yha yva yrn yrc yrr yop yar yle ypa st ynu yqt yqk yqa yon ysh ywa)
section
variable {xWC xLV xPF xLO xEX xWS xDR xVT xCH : Int32} {xVV xOC : Int64} {xcp xcc xwi xtg xrn xrc xnu xrt xra xrk xan xdo xhe xfr xta xso xsr xsn xsx xsc xsd xse xdp : Nat → Int32} {xst xrr xrs xdc xsk xrg : Nat → Int64}
variable {yBK yFA yLO yEX yVH : Int32} {yVV yOC : Int64} {ylv yls ysz yha yrn yrc yop yle ypa ynu yqt yqk yqa yon ywa : Nat → Int32} {yva yrr yar yst ysh : Nat → Int64}
variable {t : Nat} {arg : Int32} {o : Nat → Nat} {a : Nat → Int64} {S : Nat → Nat → Prop} {n : Nat}
/-- the component's cost of a step is one or two, and the step stands in range -/
theorem ex_cost (hT : ex_T o a S n t xso xsr xsn xsx xsc xsd xse xsk) {i h : Nat} (hS : S i h) : i < 16 ∧ h ≤ 4 ∧ ∃ v cost, xso (16 * t + i) = nI v ∧ v < 50 ∧ xsr (16 * t + i) = nI h ∧ xsc (16 * t + i) = nI cost ∧ 1 ≤ cost ∧ cost ≤ 2 := by
  obtain ⟨hn, _, hall⟩ := hT
  obtain ⟨a1, a2, a3, _, _, _, _, a8, _, a10, _⟩ := hall i h hS
  refine ⟨by omega, a2, ?_⟩
  rcases a10 with ⟨b1, b2, _⟩ | ⟨_, _, b0, b1, b2, _⟩
  · exact ⟨o i, 1, b1, by omega, a8, b2, by omega, by omega⟩
  · exact ⟨o (i + 1) + 20, 2, b1, by omega, a8, b2, by omega, by omega⟩
theorem ex_forced (hT : ex_T o a S n t xso xsr xsn xsx xsc xsd xse xsk) (h4 : t < 4) {i h cx : Nat} (hS : S i h) (hx : 80 < cx ∨ (80 ≤ cx ∨ (cx = 79 ∧ xsc (16 * t + i) = nI 2))) (hx' : cx < 1000) {poi : Int32 → SX → Prop} (hp : poi 2 (xWC, xLV, xPF, xLO, xEX, xWS, xDR, xVT, xVV, xOC, xCH, xcp, xcc, xwi, xtg, xst, xrn, xrc, xrr, xnu, xrt, xra, xrk, xan, xrs, xdo, xdc, xhe, xfr, xta, xso, xsr, xsn, xsx, xsc, xsd, xse, xsk, xdp, xrg)) :
    ∀ n, 3 < n → wX_execute_13 poi (nI t) arg n (nI i) (nI cx) (-1) xWC xLV xPF xLO xEX xWS xDR xVT xVV xOC xCH xcp xcc xwi xtg xst xrn xrc xrr xnu xrt xra xrk xan xrs xdo xdc xhe xfr xta xso xsr xsn xsx xsc xsd xse xsk xdp xrg := by
  intro n hn
  obtain ⟨n, rfl⟩ : ∃ q, n = q + 1 + 1 := ⟨n - 2, by omega⟩
  obtain ⟨hi, hh, v, cost, e1, e2, e3, e4, e5, e6⟩ := ex_cost hT hS
  have hbig : 80 < cx + cost := by
    rcases hx with z | z | ⟨z1, z2⟩
    · omega
    · omega
    · rw [e4, nI_eq (by omega) (by omega)] at z2; omega
  refine xe_enter h4 hi e1 e3 e4 e2 (by omega) hx' hh (fun _ => ?_) (fun z => absurd z (by omega)) (fun z => absurd z (by omega)) (fun z => ?_) (fun z => absurd z (by omega)) (fun z => absurd z (by omega))
  · exact xe_exit (cd := 2) (by decide) hp
  · obtain ⟨_, _, hall⟩ := hT
    obtain ⟨_, _, _, a4, _, _, _, _, _, a10, _⟩ := hall i h hS
    rcases a10 with ⟨b1, _⟩ | ⟨_, b3, b4, b1, _⟩
    · rw [b1, nI_eq (by omega) (by omega)] at e1
      rw [e1, z] at a4
      exact a4
    · rw [b1, nI_eq (by omega) (by omega)] at e1
      omega
theorem ex_main (hT : ex_T o a S n t xso xsr xsn xsx xsc xsd xse xsk) (h4 : t < 4) (ho : ∀ i, i < n → yop (16 * t + i) = nI (o i)) (ha : ∀ i, i < n → yar (16 * t + i) = a i) :
    ∀ (d sp i h : Nat) (vt : Int32) (xv yv : Int64) (rg st : Nat → Int64), sp + d = 80 → S i h → (vt = 0 ∨ vt = 1) → (vt ≠ 0 → xv = yv) → (∀ j, j < h → rg j = st j) →
    ex_M xWC xLV xPF xLO xEX xWS xDR xVT xVV xOC xCH xcp xcc xwi xtg xst xrn xrc xrr xnu xrt xra xrk xan xrs xdo xdc xhe xfr xta xso xsr xsn xsx xsc xsd xse xsk xdp xrg yBK yFA yLO yEX yVH yVV yOC ylv yls ysz yha yva yrn yrc yrr yop yar yle ypa yst ynu yqt yqk yqa yon ysh ywa t i sp i sp h arg vt xv yv rg st := by
  intro d
  induction d using Nat.strongRecOn with
  | _ d IH =>
    intro sp i h vt xv yv rg st hsp hS hvt hvv hrg
    have hcont : ∀ (cy g k j h' : Nat) (vt' : Int32) (xv' yv' : Int64) (rg' st' : Nat → Int64), sp < cy → cy ≤ 80 → k ≤ 100 → ex_J o a n k g j → S g h' → (vt' = 0 ∨ vt' = 1) → (vt' ≠ 0 → xv' = yv') → (∀ q, q < h' → rg' q = st' q) →
        ex_M xWC xLV xPF xLO xEX xWS xDR xVT xVV xOC xCH xcp xcc xwi xtg xst xrn xrc xrr xnu xrt xra xrk xan xrs xdo xdc xhe xfr xta xso xsr xsn xsx xsc xsd xse xsk xdp xrg yBK yFA yLO yEX yVH yVV yOC ylv yls ysz yha yva yrn yrc yrr yop yar yle ypa yst ynu yqt yqk yqa yon ysh ywa t j (cy + k) g cy h' arg vt' xv' yv' rg' st' := by
      intro cy g k j h' vt' xv' yv' rg' st' c1 c2 c3 hJ hS' q1 q2 q3
      have hSj := ex_JS hT k g hJ hS'
      have hh' : h' ≤ 4 := (hT.2.2 g h' hS').2.1
      by_cases hb : cy + k ≤ 80
      · obtain ⟨cd, xt, xv2, yt, yv2, oc, rg2, st2, hF, hX, hY⟩ := IH (80 - (cy + k)) (by omega) (cy + k) j h' vt' xv' yv' rg' st' (by omega) hSj q1 q2 q3
        exact Exists.intro cd ⟨xt, xv2, yt, yv2, oc, rg2, st2, hF, hX, fun poj hp n hn => ye_jump hT.1 h4 ho ha hh' k g cy hJ hb (fun n hn => hY poj hp n hn) n hn⟩
      · refine Exists.intro 2 ⟨vt', xv', vt', yv', 0, rg', st', ⟨by omega, fun _ => rfl, fun z => absurd z (by decide)⟩, fun poi hp n hn => ?_, fun poj hp n hn => ?_⟩
        · exact ex_forced hT h4 hSj (Or.inl (by omega)) (by omega) hp n (by omega)
        · exact ye_jumpF hT.1 h4 ho ha hh' hp k g cy hJ c2 (by omega) n hn
    obtain ⟨b1, b2, b3, b4, b5, b6, b7, b8, b9, b10, b11⟩ := hT.2.2 i h hS
    have hi : i < 16 := by have := hT.1; omega
    by_cases hd0 : d = 0
    · -- nothing is left
      refine Exists.intro 2 ⟨vt, xv, vt, yv, 0, rg, st, ⟨by omega, fun _ => rfl, fun z => absurd z (by decide)⟩, fun poi hp n hn => ?_, fun poj hp n hn => ?_⟩
      · exact ex_forced hT h4 hS (Or.inr (Or.inl (by omega))) (by omega) hp n (by omega)
      · obtain ⟨n, rfl⟩ : ∃ q, n = q + 1 := ⟨n - 1, by omega⟩
        have e : sp = 80 := by omega
        rw [e]
        exact ye_80 hp
    rcases b10 with ⟨e1, e2, e3⟩ | ⟨f1, f2, f3, e1, e2, k, j, e3, e4, e5, e6⟩
    · -- a plain step
      by_cases h22 : o i = 22
      · refine Exists.intro 1 ⟨vt, xv, vt, yv, 0, rg, st, ⟨by omega, fun _ => rfl, fun z => absurd z (by decide)⟩, fun poi hp n hn => ?_, fun poj hp n hn => ?_⟩
        · obtain ⟨n, rfl⟩ : ∃ q, n = q + 1 + 1 := ⟨n - 2, by omega⟩
          exact xe_enter h4 hi e1 b8 e2 (by omega) (by omega) (by omega) b2 (fun z => absurd z (by omega)) (fun _ z => absurd z (by omega)) (fun _ _ => xe_exit (cd := 1) (by decide) hp) (fun z => absurd z (by omega)) (fun _ z => absurd z (by omega)) (fun _ _ z => absurd h22 z)
        · obtain ⟨n, rfl⟩ : ∃ q, n = q + 1 := ⟨n - 1, by omega⟩
          exact ye_step (v := o i) (c := a i) (by omega) h4 hi b3 (ho i b1) (ha i b1) b4 b5 b2 (fun _ => hp) (fun _ => hp) (fun z => absurd z (by omega)) (fun z => absurd z (by omega)) (fun z => absurd z (by omega))
      by_cases h23 : o i = 23
      · have h1 : 1 ≤ h := by rw [h23] at b4; exact b4
        refine Exists.intro 0 ⟨vt, xv, vt, yv, rg (h - 1), rg, st, ⟨by omega, fun z => absurd rfl z, fun _ => ⟨rfl, hvt, hvv⟩⟩, fun poi hp n hn => ?_, fun poj hp n hn => ?_⟩
        · obtain ⟨n, rfl⟩ : ∃ q, n = q + 1 + 1 := ⟨n - 2, by omega⟩
          exact xe_enter h4 hi e1 b8 e2 (by omega) (by omega) (by omega) b2 (fun z => absurd z (by omega)) (fun _ _ => ⟨h1, xe_exit (cd := 0) (by decide) hp⟩) (fun _ z => absurd z h22) (fun z => absurd z (by omega)) (fun _ z => absurd z (by omega)) (fun _ z => absurd h23 z)
        · obtain ⟨n, rfl⟩ : ∃ q, n = q + 1 := ⟨n - 1, by omega⟩
          rw [hrg (h - 1) (by omega)] at hp
          exact ye_step (v := o i) (c := a i) (by omega) h4 hi b3 (ho i b1) (ha i b1) b4 b5 b2 (fun z => absurd z h22) (fun z => absurd z.1 (by omega)) (fun _ => hp) (fun z => absurd z (by omega)) (fun z => absurd z (by omega))
      have hlt : o i < 22 := by omega
      obtain ⟨g, k, j, g1, g2, g3, g4, g5, g6⟩ := e3 hlt
      have et : h ≥ 1 → rg (h - 1) = st (h - 1) := fun z => hrg _ (by omega)
      by_cases hz : o i = 21 ∧ rg (h - 1) = 0
      · -- the branch is taken
        have h1 : 1 ≤ h := by rw [hz.1] at b4; exact b4
        obtain ⟨g', k', j', r1, r2, r3, r4, r5, r6⟩ := b11 hz.1
        obtain ⟨q, q1, q2, q3⟩ := b6 (Or.inr hz.1)
        have eq : g' = q := lN_inj16 r2 (by have := hT.1; omega) (r1.symm.trans q2)
        have er : ef_r (o i) h (a i) arg vt yv st = st := by
          unfold ef_r; rw [if_neg (by omega), if_neg (by omega), if_neg (by omega), if_neg (by omega), if_neg (by omega), if_neg (by omega), if_neg (by omega)]
        have eh : op_h (o i) h = h - 1 := by rw [hz.1]; rfl
        obtain ⟨cd, xt, xv2, yt, yv2, oc, rg2, st2, hF, hX, hY⟩ := hcont (sp + 1) g' k' j' (h - 1) vt xv yv rg st (by omega) (by omega) r3 r6 (by rw [eq, ← eh]; exact q3) hvt hvv (fun q hq => hrg q (by omega))
        refine Exists.intro cd ⟨xt, xv2, yt, yv2, oc, rg2, st2, hF, fun poi hp n hn => ?_, fun poj hp n hn => ?_⟩
        · obtain ⟨n, rfl⟩ : ∃ q, n = q + 1 := ⟨n - 1, by omega⟩
          exact xe_enter h4 hi e1 b8 e2 (by omega) (by omega) (by omega) b2 (fun z => absurd z (by omega)) (fun _ z => absurd z h23) (fun _ z => absurd z h22) (fun _ => h1) (fun _ _ _ => ⟨j', k', r5, r4, hX poi hp n (by omega)⟩) (fun _ _ _ z => absurd hz.2 (z hz.1))
        · obtain ⟨n, rfl⟩ : ∃ q, n = q + 1 := ⟨n - 1, by omega⟩
          refine ye_step (v := o i) (c := a i) (by omega) h4 hi b3 (ho i b1) (ha i b1) b4 b5 b2 (fun z => absurd z h22) (fun z => absurd z.1 (by omega)) (fun z => absurd z h23) (fun _ _ _ z => ?_) (fun _ => ?_)
          · exact absurd (by rw [← et h1]; exact hz.2) (z hz.1)
          · rw [ef_t_n (by omega) (by omega), ef_v_n (by omega), er, eh, r1, lN_i]
            exact hY poj hp n (by omega)
      -- a value is worked on, or the jump is made
      by_cases hb : op_b (o i) (rg (h - 1))
      · have h2 : 2 ≤ h := by have := hb.1; rw [op_t_b (by omega) (by omega)] at b4; exact b4
        refine Exists.intro 1 ⟨vt, xv, vt, yv, 0, rg, st, ⟨by omega, fun _ => rfl, fun z => absurd z (by decide)⟩, fun poi hp n hn => ?_, fun poj hp n hn => ?_⟩
        · obtain ⟨n, rfl⟩ : ∃ q, n = q + 1 + 1 := ⟨n - 2, by omega⟩
          refine xe_enter h4 hi e1 b8 e2 (by omega) (by omega) (by omega) b2 (fun z => absurd z (by omega)) (fun _ z => absurd z h23) (fun _ z => absurd z h22) (fun _ => by omega) (fun _ z1 z2 => absurd ⟨z1, z2⟩ hz) (fun _ _ _ _ => ?_)
          exact xe_152p h4 hi hlt b4 b5 b2 b9 g5 g4 (fun _ => xe_exit (cd := 1) (by decide) hp) (fun z => absurd hb z)
        · obtain ⟨n, rfl⟩ : ∃ q, n = q + 1 := ⟨n - 1, by omega⟩
          have hb' : op_b (o i) (st (h - 1)) := by rw [← et (by omega)]; exact hb
          have := hb.1
          exact ye_step (v := o i) (c := a i) (by omega) h4 hi b3 (ho i b1) (ha i b1) b4 b5 b2 (fun z => absurd z h22) (fun _ => hp) (fun z => absurd z h23) (fun _ z => absurd hb' z) (fun z => absurd z (by omega))
      · have hb' : ¬ op_b (o i) (st (h - 1)) := by
          intro z
          have := z.1
          have h2 : 2 ≤ h := by rw [op_t_b (by omega) (by omega)] at b4; exact b4
          rw [← et (by omega)] at z
          exact hb z
        have hS' : S g (op_h (o i) h) := by
          by_cases h20 : o i = 20
          · obtain ⟨q, q1, q2, q3⟩ := b6 (Or.inl h20)
            obtain ⟨r1, r2⟩ := g1 h20
            have eq : g = q := lN_inj16 r2 (by have := hT.1; omega) (r1.symm.trans q2)
            rw [eq]
            exact q3
          · rw [g2 h20]; exact b7 h20 hlt
        have hvt' : ef_t (o i) vt = 0 ∨ ef_t (o i) vt = 1 := by
          unfold ef_t
          by_cases z : o i = 18
          · rw [if_pos z]; exact Or.inr rfl
          · rw [if_neg z]
            by_cases z2 : o i = 19
            · rw [if_pos z2]; exact Or.inl rfl
            · rw [if_neg z2]; exact hvt
        have hvv' : ef_t (o i) vt ≠ 0 → ef_v (o i) h xv rg = ef_v (o i) h yv st := by
          intro hne
          unfold ef_v
          by_cases z : o i = 18
          · have h1 : 1 ≤ h := by rw [z] at b4; exact b4
            rw [if_pos z, if_pos z]; exact et h1
          · rw [if_neg z, if_neg z]
            apply hvv
            intro hv0
            apply hne
            unfold ef_t
            rw [if_neg z]
            by_cases z2 : o i = 19
            · rw [if_pos z2]
            · rw [if_neg z2]; exact hv0
        obtain ⟨cd, xt, xv2, yt, yv2, oc, rg2, st2, hF, hX, hY⟩ := hcont (sp + 1) g k j (op_h (o i) h) (ef_t (o i) vt) (ef_v (o i) h xv rg) (ef_v (o i) h yv st) (ef_r (o i) h (a i) arg vt xv rg) (ef_r (o i) h (a i) arg vt yv st) (by omega) (by omega) g3 g6 hS' hvt' hvv' (ef_r_eq hlt b4 rfl hvv hrg)
        refine Exists.intro cd ⟨xt, xv2, yt, yv2, oc, rg2, st2, hF, fun poi hp n hn => ?_, fun poj hp n hn => ?_⟩
        · obtain ⟨n, rfl⟩ : ∃ q, n = q + 1 := ⟨n - 1, by omega⟩
          refine xe_enter h4 hi e1 b8 e2 (by omega) (by omega) (by omega) b2 (fun z => absurd z (by omega)) (fun _ z => absurd z h23) (fun _ z => absurd z h22) (fun z => by rw [z] at b4; exact b4) (fun _ z1 z2 => absurd ⟨z1, z2⟩ hz) (fun _ _ _ _ => ?_)
          exact xe_152p h4 hi hlt b4 b5 b2 b9 g5 g4 (fun z => absurd z hb) (fun _ => hX poi hp n (by omega))
        · obtain ⟨n, rfl⟩ : ∃ q, n = q + 1 := ⟨n - 1, by omega⟩
          refine ye_step (v := o i) (c := a i) (by omega) h4 hi b3 (ho i b1) (ha i b1) b4 b5 b2 (fun z => absurd z h22) (fun z => absurd z hb') (fun z => absurd z h23) (fun _ _ h20 _ => ?_) (fun z => ?_)
          · have hY' := hY poj hp n (by omega)
            rw [g2 h20] at hY'
            exact hY'
          · have h20 : o i = 20 := by
              rcases z with z | z
              · exact z
              · exact absurd ⟨z.1, by have h1 : 1 ≤ h := by rw [z.1] at b4; exact b4
                                      rw [et h1]; exact z.2⟩ hz
            have hY' := hY poj hp n (by omega)
            have ea : (a i).toInt32 = nI g := by rw [(g1 h20).1, lN_i]
            rw [ea]
            exact hY'
    · -- a constant and the work on it in one step
      have hS1 := b7 (by omega) (by omega)
      have eh1 : op_h (o i) h = h + 1 := by rw [f1]; rfl
      rw [eh1] at hS1 b5
      obtain ⟨c1, c2, c3, c4, c5, c6, c7, _⟩ := hT.2.2 (i + 1) (h + 1) hS1
      have hi1 : i + 1 < 16 := by have := hT.1; omega
      rw [op_t_b f2 f3] at c4
      have eh2 : op_h (o (i + 1)) (h + 1) = h := by rw [op_h_b f2 f3]; omega
      have hS2 := c7 (by omega) (by omega)
      rw [eh2] at hS2
      have est : vp_updL st h (a i) h = a i := pk_uLs
      have est' : vp_updL st h (a i) (h - 1) = st (h - 1) := pk_uLn (by omega)
      have er0 : ef_r (o i) h (a i) arg vt yv st = vp_updL st h (a i) := by rw [f1]; rfl
      have ehh : h + 1 - 1 = h := by omega
      have ehh2 : h + 1 - 2 = h - 1 := by omega
      by_cases hd1 : d = 1
      · -- cut in the middle
        refine Exists.intro 2 ⟨vt, xv, vt, yv, 0, rg, vp_updL st h (a i), ⟨by omega, fun _ => rfl, fun z => absurd z (by decide)⟩, fun poi hp n hn => ?_, fun poj hp n hn => ?_⟩
        · exact ex_forced hT h4 hS (Or.inr (Or.inr ⟨by omega, e2⟩)) (by omega) hp n (by omega)
        · obtain ⟨n, rfl⟩ : ∃ q, n = q + 1 + 1 := ⟨n - 2, by omega⟩
          refine ye_step (v := o i) (c := a i) (by omega) h4 hi b3 (ho i b1) (ha i b1) b4 (by rw [eh1]; exact b5) b2 (fun z => absurd z (by omega)) (fun z => absurd z.1 (by omega)) (fun z => absurd z (by omega)) (fun _ _ _ _ => ?_) (fun z => absurd z (by omega))
          rw [ef_t_n (by omega) (by omega), ef_v_n (by omega), er0, show sp + 1 = 80 from by omega]
          exact ye_80 hp
      have hjX : ∀ (poi : Int32 → SX → Prop) (n : Nat), (op_b (o (i + 1)) (a i) → wX_execute_13 poi (nI t) arg n (nI j) (nI (sp + 2 + k)) 1 xWC xLV xPF xLO xEX xWS xDR vt xv 0 xCH xcp xcc xwi xtg xst xrn xrc xrr xnu xrt xra xrk xan xrs xdo xdc xhe xfr xta xso xsr xsn xsx xsc xsd xse xsk xdp rg) →
          (¬ op_b (o (i + 1)) (a i) → wX_execute_13 poi (nI t) arg n (nI j) (nI (sp + 2 + k)) (-1) xWC xLV xPF xLO xEX xWS xDR vt xv 0 xCH xcp xcc xwi xtg xst xrn xrc xrr xnu xrt xra xrk xan xrs xdo xdc xhe xfr xta xso xsr xsn xsx xsc xsd xse xsk xdp (vp_updL rg (h - 1) (op_c (o (i + 1)) (rg (h - 1)) (a i)))) →
          wX_execute_13 poi (nI t) arg (n + 1) (nI i) (nI sp) (-1) xWC xLV xPF xLO xEX xWS xDR vt xv 0 xCH xcp xcc xwi xtg xst xrn xrc xrr xnu xrt xra xrk xan xrs xdo xdc xhe xfr xta xso xsr xsn xsx xsc xsd xse xsk xdp rg := by
        intro poi n k0 k1
        refine xe_enter h4 hi e1 b8 e2 (by omega) (by omega) (by omega) b2 (fun z => absurd z (by omega)) (fun _ z => absurd z (by omega)) (fun _ z => absurd z (by omega)) (fun z => absurd z (by omega)) (fun _ z => absurd z (by omega)) (fun _ _ _ _ => ?_)
        exact xe_152j h4 hi f2 f3 (by omega) b2 b9 e5 e4 k0 k1
      have hjY : ∀ (poj : Int32 → SY → Prop) (n : Nat), (op_b (o (i + 1)) (a i) → poj 1 (yBK, yFA, yLO, yEX, vt, yv, 0, ylv, yls, ysz, yha, yva, yrn, yrc, yrr, yop, yar, yle, ypa, vp_updL st h (a i), ynu, yqt, yqk, yqa, yon, ysh, ywa)) →
          (¬ op_b (o (i + 1)) (a i) → wY_execute_13 poj (nI t) arg yBK yFA yLO yEX 0 n (nI (i + 2)) (nI h) (nI (sp + 2)) vt yv ylv yls ysz yha yva yrn yrc yrr yop yar yle ypa (vp_updL (vp_updL st h (a i)) (h - 1) (op_c (o (i + 1)) (st (h - 1)) (a i))) ynu yqt yqk yqa yon ysh ywa) →
          wY_execute_13 poj (nI t) arg yBK yFA yLO yEX 0 (n + 1 + 1) (nI i) (nI h) (nI sp) vt yv ylv yls ysz yha yva yrn yrc yrr yop yar yle ypa st ynu yqt yqk yqa yon ysh ywa := by
        intro poj n k0 k1
        refine ye_step (v := o i) (c := a i) (by omega) h4 hi b3 (ho i b1) (ha i b1) b4 (by rw [eh1]; exact b5) b2 (fun z => absurd z (by omega)) (fun z => absurd z.1 (by omega)) (fun z => absurd z (by omega)) (fun _ _ _ _ => ?_) (fun z => absurd z (by omega))
        rw [ef_t_n (by omega) (by omega), ef_v_n (by omega), er0, eh1]
        refine ye_step (v := o (i + 1)) (c := a (i + 1)) (by omega) h4 hi1 c3 (ho _ c1) (ha _ c1) (by rw [op_t_b f2 f3]; exact c4) c5 (by omega) (fun z => absurd z (by omega)) (fun z => ?_) (fun z => absurd z (by omega)) (fun _ z _ _ => ?_) (fun z => absurd z (by omega))
        · rw [ehh, est] at z; exact k0 z
        · rw [ehh, est] at z
          rw [ef_t_n (by omega) (by omega), ef_v_n (by omega), ef_r_b f2 f3, ehh, ehh2, est, est', eh2]
          exact k1 z
      by_cases hb : op_b (o (i + 1)) (a i)
      · refine Exists.intro 1 ⟨vt, xv, vt, yv, 0, rg, vp_updL st h (a i), ⟨by omega, fun _ => rfl, fun z => absurd z (by decide)⟩, fun poi hp n hn => ?_, fun poj hp n hn => ?_⟩
        · obtain ⟨n, rfl⟩ : ∃ q, n = q + 1 + 1 := ⟨n - 2, by omega⟩
          exact hjX poi _ (fun _ => xe_exit (cd := 1) (by decide) hp) (fun z => absurd hb z)
        · obtain ⟨n, rfl⟩ : ∃ q, n = q + 1 + 1 := ⟨n - 2, by omega⟩
          exact hjY poj _ (fun _ => hp) (fun z => absurd hb z)
      · obtain ⟨cd, xt, xv2, yt, yv2, oc, rg2, st2, hF, hX, hY⟩ := hcont (sp + 2) (i + 2) k j h vt xv yv (vp_updL rg (h - 1) (op_c (o (i + 1)) (rg (h - 1)) (a i))) (vp_updL (vp_updL st h (a i)) (h - 1) (op_c (o (i + 1)) (st (h - 1)) (a i))) (by omega) (by omega) e3 e6 hS2 hvt hvv (by
          intro q hq
          by_cases e : q = h - 1
          · rw [e, pk_uLs, pk_uLs, hrg (h - 1) (by omega)]
          · rw [pk_uLn e, pk_uLn e, pk_uLn (by omega)]; exact hrg q hq)
        refine Exists.intro cd ⟨xt, xv2, yt, yv2, oc, rg2, st2, hF, fun poi hp n hn => ?_, fun poj hp n hn => ?_⟩
        · obtain ⟨n, rfl⟩ : ∃ q, n = q + 1 := ⟨n - 1, by omega⟩
          exact hjX poi n (fun z => absurd z hb) (fun _ => hX poi hp n (by omega))
        · obtain ⟨n, rfl⟩ : ∃ q, n = q + 1 + 1 := ⟨n - 2, by omega⟩
          exact hjY poj n (fun z => absurd z hb) (fun _ => hY poj hp n (by omega))
end
end
section
/-! which heights an instruction of the draft is met with: the least set -/
def rc_S (o : Nat → Nat) (a : Nat → Int64) (n i d j e : Nat) : Prop :=
  i < n ∧ d ≤ 4 ∧ op_t (o i) ≤ d ∧ e = op_h (o i) d ∧ e ≤ 4 ∧ o i < 22 ∧ j < n ∧ (((o i = 20 ∨ o i = 21) ∧ a i = lN j) ∨ (o i ≠ 20 ∧ j = i + 1))
def rc_R (o : Nat → Nat) (a : Nat → Int64) (n i d : Nat) : Prop := ∀ P : Nat → Nat → Prop, P 0 0 → (∀ i d j e, P i d → rc_S o a n i d j e → P j e) → P i d
theorem rc_0 {o : Nat → Nat} {a : Nat → Int64} {n : Nat} : rc_R o a n 0 0 := fun _ h _ => h
theorem rc_s {o : Nat → Nat} {a : Nat → Int64} {n i d j e : Nat} (h : rc_R o a n i d) (hs : rc_S o a n i d j e) : rc_R o a n j e := fun P h0 hc => hc i d j e (h P h0 hc) hs
theorem rc_lt {o : Nat → Nat} {a : Nat → Int64} {n i d : Nat} (hn : 0 < n) (h : rc_R o a n i d) : i < n ∧ d ≤ 4 :=
  h (fun i d => i < n ∧ d ≤ 4) ⟨hn, by omega⟩ (fun _ _ _ _ _ hs => by obtain ⟨_, _, _, _, h5, _, h7, _⟩ := hs; exact ⟨h7, h5⟩)
def sp_m (o s : Nat) : Nat :=
  if o < 4 ∨ o = 15 then ((s &&& 31 * 2 ^ op_t o) * 2) % 32 else if o < 15 ∨ o = 17 ∨ o = 18 ∨ o = 21 then (s &&& 31 * 2 ^ op_t o) / 2 else s &&& 31 * 2 ^ op_t o
theorem sp_lt : ∀ o, o < 22 → ∀ s, s < 32 → sp_m o s < 32 := by decide +kernel
def sp_x (o s e : Nat) : Bool := (List.range 5).any (fun d => s.testBit d && decide (op_t o ≤ d) && decide (op_h o d = e))
theorem sp_bx : ∀ o, o < 22 → ∀ s, s < 32 → ∀ e, e < 5 → (sp_m o s).testBit e = sp_x o s e := by decide +kernel
theorem tb_big {x d : Nat} (hx : x < 32) (hd : 5 ≤ d) : x.testBit d = false := Nat.testBit_lt_two_pow (Nat.lt_of_lt_of_le hx (by
  have : 2 ^ 5 ≤ 2 ^ d := Nat.pow_le_pow_right (by decide) hd
  exact this))
theorem sp_bit {o s e : Nat} (ho : o < 22) (hs : s < 32) : (sp_m o s).testBit e = true ↔ e ≤ 4 ∧ ∃ d, d ≤ 4 ∧ s.testBit d = true ∧ op_t o ≤ d ∧ op_h o d = e := by
  by_cases he : e < 5
  · rw [sp_bx o ho s hs e he]
    unfold sp_x
    rw [List.any_eq_true]
    constructor
    · rintro ⟨d, hd, h⟩
      rw [List.mem_range] at hd
      rw [Bool.and_eq_true, Bool.and_eq_true, decide_eq_true_iff, decide_eq_true_iff] at h
      exact ⟨by omega, d, by omega, h.1.1, h.1.2, h.2⟩
    · rintro ⟨_, d, hd, h1, h2, h3⟩
      refine ⟨d, List.mem_range.mpr (by omega), ?_⟩
      rw [h1, decide_eq_true h2, decide_eq_true h3]
      rfl
  · rw [tb_big (sp_lt o ho s hs) (by omega)]
    constructor
    · intro h; exact absurd h (by decide)
    · intro h; omega
/-! sums, for measures -/
def sm_ (f : Nat → Nat) : Nat → Nat
  | 0 => 0
  | k + 1 => sm_ f k + f k
theorem sm_le {f g : Nat → Nat} : ∀ {N : Nat}, (∀ i, i < N → f i ≤ g i) → sm_ f N ≤ sm_ g N
  | 0, _ => Nat.le_refl _
  | N + 1, h => by
    have a := sm_le (f := f) (g := g) (N := N) (fun k hk => h k (by omega))
    have b := h N (by omega)
    simp only [sm_]; omega
theorem sm_lt {f g : Nat → Nat} {c : Nat} (hc : f c < g c) : ∀ {N : Nat}, (∀ i, i < N → f i ≤ g i) → c < N → sm_ f N < sm_ g N
  | 0, _, h => absurd h (Nat.not_lt_zero c)
  | N + 1, h, ha => by
    simp only [sm_]
    rcases Nat.lt_or_ge c N with z | z
    · have x := sm_lt hc (N := N) (fun k hk => h k (by omega)) z
      have b := h N (by omega)
      omega
    · have e : c = N := by omega
      subst e
      have x := sm_le (f := f) (g := g) (N := c) (fun k hk => h k (by omega))
      omega
theorem sm_b {f : Nat → Nat} {b : Nat} (h : ∀ i, f i ≤ b) : ∀ N, sm_ f N ≤ b * N
  | 0 => Nat.le_refl _
  | N + 1 => by
    have := sm_b h N
    have := h N
    simp only [sm_, Nat.mul_add, Nat.mul_one]; omega
def me_b (h f : Bool) : Nat := if h = true then (if f = true then 1 else 0) else 2
theorem me_b2 : ∀ h f, me_b h f ≤ 2 := by decide
theorem me_ba : ∀ h f s : Bool, me_b (h || (s && !h)) (f || (s && !h)) ≤ me_b h f := by decide
theorem me_bc : ∀ h f : Bool, me_b h false ≤ me_b h f := by decide
def me_w (h f : Nat) : Nat := sm_ (fun d => me_b (h.testBit d) (f.testBit d)) 5
def me_W (H F : Nat → Nat) : Nat := sm_ (fun i => me_w (H i) (F i)) 16
theorem me_W_le (H F : Nat → Nat) : me_W H F ≤ 160 := by
  have h1 : ∀ i, me_w (H i) (F i) ≤ 10 := fun i => sm_b (b := 2) (fun d => me_b2 _ _) 5
  exact sm_b h1 16
def me_o (s h : Nat) : Nat := s &&& (31 ^^^ h)
theorem me_ob {s h d : Nat} (hs : s < 32) : (me_o s h).testBit d = (s.testBit d && !(h.testBit d)) := by
  unfold me_o
  rw [Nat.testBit_and, Nat.testBit_xor]
  by_cases hd : d < 5
  · have : ∀ d, d < 5 → (31 : Nat).testBit d = true := by decide
    rw [this d hd]
    cases s.testBit d <;> cases h.testBit d <;> rfl
  · rw [tb_big hs (by omega)]; rfl
theorem me_olt {s h : Nat} (hs : s < 32) : me_o s h < 32 := Nat.lt_of_le_of_lt Nat.and_le_left hs
theorem me_wa {h f s : Nat} (hs : s < 32) : me_w (h ||| me_o s h) (f ||| me_o s h) ≤ me_w h f := by
  refine sm_le (fun d _ => ?_)
  show me_b ((h ||| me_o s h).testBit d) ((f ||| me_o s h).testBit d) ≤ me_b (h.testBit d) (f.testBit d)
  rw [Nat.testBit_or, Nat.testBit_or, me_ob hs]
  exact me_ba _ _ _
theorem me_wc {h f : Nat} (hf : f < 32) (h0 : f ≠ 0) (hfh : ∀ d, f.testBit d = true → h.testBit d = true) : me_w h 0 < me_w h f := by
  obtain ⟨c, hc, hb⟩ := li_0 f hf h0
  refine sm_lt (c := c) ?_ (fun d _ => ?_) hc
  · show me_b (h.testBit c) ((0 : Nat).testBit c) < me_b (h.testBit c) (f.testBit c)
    rw [hb, hfh c hb, Nat.zero_testBit]
    decide
  · show me_b (h.testBit d) ((0 : Nat).testBit d) ≤ me_b (h.testBit d) (f.testBit d)
    rw [Nat.zero_testBit]
    exact me_bc _ _
/-- the component's heights and fresh heights, as bits -/
def me_R (he fr : Nat → Int32) (H F : Nat → Nat) : Prop := ∀ i, i < 16 → he i = nI (H i) ∧ fr i = nI (F i) ∧ H i < 32 ∧ F i < 32
/-- all that is met is reached; all but the fresh ones (and those of s at c) are followed -/
def me_I (o : Nat → Nat) (a : Nat → Int64) (n : Nat) (H F : Nat → Nat) (c s : Nat) : Prop :=
  (∀ i d, i < 16 → (F i).testBit d = true → (H i).testBit d = true) ∧ (∀ i d, i < 16 → (H i).testBit d = true → rc_R o a n i d) ∧ (H 0).testBit 0 = true ∧
  (∀ i d, i < n → (H i).testBit d = true → (F i).testBit d = false → ¬ (i = c ∧ s.testBit d = true) → ∀ j e, rc_S o a n i d j e → (H j).testBit e = true)
def me_A (H : Nat → Nat) (j s : Nat) : Nat → Nat := tb_up H j (H j ||| me_o s (H j))
def me_B (H F : Nat → Nat) (j s : Nat) : Nat → Nat := tb_up F j (F j ||| me_o s (H j))
theorem me_Ab {H : Nat → Nat} {j s i d : Nat} (hs : s < 32) : (me_A H j s i).testBit d = ((H i).testBit d || (decide (i = j) && s.testBit d)) := by
  unfold me_A
  by_cases e : i = j
  · rw [e, tb_us, Nat.testBit_or, me_ob hs, decide_eq_true rfl]
    cases (H j).testBit d <;> cases s.testBit d <;> rfl
  · rw [tb_un e, decide_eq_false e]
    simp
theorem me_Bb {H F : Nat → Nat} {j s i d : Nat} (hs : s < 32) : (me_B H F j s i).testBit d = ((F i).testBit d || (decide (i = j) && s.testBit d && !(H i).testBit d)) := by
  unfold me_B
  by_cases e : i = j
  · rw [e, tb_us, Nat.testBit_or, me_ob hs, decide_eq_true rfl]
    simp
  · rw [tb_un e, decide_eq_false e]
    simp
theorem me_arr {o : Nat → Nat} {a : Nat → Int64} {n c s j x : Nat} {H F : Nat → Nat} (h : me_I o a n H F c s) (hx : x < 32) (hr : ∀ d, x.testBit d = true → rc_R o a n j d) : me_I o a n (me_A H j x) (me_B H F j x) c s := by
  obtain ⟨h1, h2, h3, h4⟩ := h
  refine ⟨fun i d hi hf => ?_, fun i d hi hh => ?_, by rw [me_Ab hx, h3]; rfl, fun i d hi hh hf hn j' e hs => ?_⟩
  · rw [me_Bb hx, Bool.or_eq_true] at hf
    rw [me_Ab hx]
    rcases hf with hf | hf
    · rw [h1 i d hi hf]; rfl
    · rw [Bool.and_eq_true, Bool.and_eq_true] at hf
      rw [hf.1.1, hf.1.2]
      simp
  · rw [me_Ab hx, Bool.or_eq_true] at hh
    rcases hh with hh | hh
    · exact h2 i d hi hh
    · rw [Bool.and_eq_true, decide_eq_true_iff] at hh
      rw [hh.1]
      exact hr d hh.2
  · rw [me_Bb hx, Bool.or_eq_false_iff] at hf
    have hh' : (H i).testBit d = true := by
      rw [me_Ab hx] at hh
      cases hb : (H i).testBit d
      · rw [hb] at hh
        have h5 := hf.2
        rw [hb] at h5
        rw [Bool.false_or] at hh
        rw [hh] at h5
        exact absurd h5 (by decide)
      · rfl
    rw [me_Ab hx, h4 i d hi hh' hf.1 hn j' e hs]
    rfl
theorem me_arW {H F : Nat → Nat} {j x : Nat} (hx : x < 32) : me_W (me_A H j x) (me_B H F j x) ≤ me_W H F := by
  refine sm_le (fun i _ => ?_)
  show me_w (me_A H j x i) (me_B H F j x i) ≤ me_w (H i) (F i)
  by_cases e : i = j
  · rw [e]
    unfold me_A me_B
    rw [tb_us, tb_us]
    exact me_wa hx
  · unfold me_A me_B
    rw [tb_un e, tb_un e]
    exact Nat.le_refl _
theorem ar_ot : ∀ s, s < 32 → ∀ h, h < 32 → nI s &&& (nI h ^^^ (-1)) = nI (me_o s h) := by decide +kernel
theorem ar_orb : ∀ s, s < 32 → ∀ h, h < 32 → (nI s ||| nI h).toInt8.toInt32 = nI (s ||| h) := by decide +kernel
theorem ar_orl : ∀ s, s < 32 → ∀ h, h < 32 → s ||| h < 32 := by decide +kernel
theorem ar_sp0 : ∀ s, s < 32 → ∀ t, t < 3 → nI s &&& ((31 : Int32) <<< (nI t &&& 31)) = nI (s &&& 31 * 2 ^ t) := by decide +kernel
theorem ar_sp0l : ∀ s, s < 32 → ∀ t, t < 3 → (s &&& 31 * 2 ^ t) < 32 := by decide +kernel
theorem ar_sp1 : ∀ s, s < 32 → (nI s <<< ((1 : Int32) &&& 31)) &&& 31 = nI ((s * 2) % 32) := by decide +kernel
theorem ar_sp2 : ∀ s, s < 32 → nI s >>> ((1 : Int32) &&& 31) = nI (s / 2) := by decide +kernel
theorem op_t3 : ∀ o, o < 24 → op_t o < 3 := by decide +kernel
def op_g (o : Nat) : Int32 := if o < 4 ∨ o = 15 then 1 else if o < 15 ∨ o = 17 ∨ o = 18 ∨ o = 21 ∨ o = 23 then -1 else 0
theorem ek_p {post : Int32 → Prop} {x y : Int32} (h : post x) (e : x = y) : post y := e ▸ h
theorem xk_takes {post : Int32 → Prop} {o : Nat} (ho : o < 24) (hp : post (nI (op_t o))) : wpX_takes post (nI o) := by
  unfold wpX_takes
  refine br_f (nI_pos (by omega)) (pk_lt 23 o (fun e => absurd e (by omega)) (fun _ => ?_))
  refine pk_eq o 0 (fun e => by subst e; exact hp) (fun n0 => ?_)
  refine pk_eq o 1 (fun e => by subst e; exact hp) (fun n1 => ?_)
  refine pk_eq o 2 (fun e => by subst e; exact hp) (fun n2 => ?_)
  refine pk_eq o 3 (fun e => by subst e; exact hp) (fun n3 => ?_)
  refine pk_eq o 4 (fun e => by subst e; exact hp) (fun n4 => ?_)
  refine pk_eq o 5 (fun e => by subst e; exact hp) (fun n5 => ?_)
  refine pk_eq o 6 (fun e => by subst e; exact hp) (fun n6 => ?_)
  refine pk_eq o 7 (fun e => by subst e; exact hp) (fun n7 => ?_)
  refine pk_eq o 8 (fun e => by subst e; exact hp) (fun n8 => ?_)
  refine pk_eq o 9 (fun e => by subst e; exact hp) (fun n9 => ?_)
  refine pk_eq o 10 (fun e => by subst e; exact hp) (fun n10 => ?_)
  refine pk_eq o 11 (fun e => by subst e; exact hp) (fun n11 => ?_)
  refine pk_eq o 12 (fun e => by subst e; exact hp) (fun n12 => ?_)
  refine pk_eq o 13 (fun e => by subst e; exact hp) (fun n13 => ?_)
  refine pk_eq o 14 (fun e => by subst e; exact hp) (fun n14 => ?_)
  refine pk_eq o 15 (fun e => by subst e; exact hp) (fun n15 => ?_)
  refine pk_eq o 16 (fun e => by subst e; exact hp) (fun n16 => ?_)
  refine pk_eq o 17 (fun e => by subst e; exact hp) (fun n17 => ?_)
  refine pk_eq o 18 (fun e => by subst e; exact hp) (fun n18 => ?_)
  refine pk_eq o 19 (fun e => by subst e; exact hp) (fun n19 => ?_)
  refine pk_eq o 20 (fun e => by subst e; exact hp) (fun n20 => ?_)
  refine pk_eq o 21 (fun e => by subst e; exact hp) (fun n21 => ?_)
  refine pk_eq o 22 (fun e => by subst e; exact hp) (fun n22 => ?_)
  refine pk_eq o 23 (fun e => by subst e; exact hp) (fun n23 => ?_)
  exact trivial
theorem xk_growth {post : Int32 → Prop} {o : Nat} (ho : o < 24) (hp : post (op_g o)) : wpX_growth post (nI o) := by
  unfold wpX_growth
  refine pk_lt o 4 (fun e => ek_p hp (if_pos (by omega))) (fun e4 => pk_eq o 15 (fun e => ek_p hp (if_pos (by omega))) (fun e15 => ?_))
  have e1 : op_g o = if o < 15 ∨ o = 17 ∨ o = 18 ∨ o = 21 ∨ o = 23 then -1 else 0 := if_neg (by omega)
  rw [e1] at hp
  refine pk_lt o 15 (fun e => ek_p hp (if_pos (by omega))) (fun f15 => ?_)
  refine pk_eq o 17 (fun e => ek_p hp (if_pos (by omega))) (fun f17 => ?_)
  refine pk_eq o 18 (fun e => ek_p hp (if_pos (by omega))) (fun f18 => ?_)
  refine pk_eq o 21 (fun e => ek_p hp (if_pos (by omega))) (fun f21 => ?_)
  exact pk_eq o 23 (fun e => ek_p hp (if_pos (by omega))) (fun f23 => ek_p hp (if_neg (by omega)))
end
section
section
variable {xWC xLV xPF xLO xEX xWS xDR xVT xCH : Int32} {xVV xOC : Int64} {xcp xcc xwi xtg xrn xrc xnu xrt xra xrk xan xdo xhe xfr xta xso xsr xsn xsx xsc xsd xse xdp : Nat → Int32} {xst xrr xrs xdc xsk xrg : Nat → Int64}
variable {post : Int32 → Prop} {pos : SX → Prop} {o : Nat → Nat} {H F : Nat → Nat} {n i j s : Nat}
theorem xk_arrive (hj : j < 16) (hs : s < 32) (h : me_R xhe xfr H F) (hp : ∀ he' fr' : Nat → Int32, me_R he' fr' (me_A H j s) (me_B H F j s) → pos (xWC, xLV, xPF, xLO, xEX, xWS, xDR, xVT, xVV, xOC, xCH, xcp, xcc, xwi, xtg, xst, xrn, xrc, xrr, xnu, xrt, xra, xrk, xan, xrs, xdo, xdc, he', fr', xta, xso, xsr, xsn, xsx, xsc, xsd, xse, xsk, xdp, xrg)) : wpX_arrive pos (xWC, xLV, xPF, xLO, xEX, xWS, xDR, xVT, xVV, xOC, xCH, xcp, xcc, xwi, xtg, xst, xrn, xrc, xrr, xnu, xrt, xra, xrk, xan, xrs, xdo, xdc, xhe, xfr, xta, xso, xsr, xsn, xsx, xsc, xsd, xse, xsk, xdp, xrg) (nI j) (nI s) := by
  have ij : vp_in (nI j) 16 := vp_in_nI hj (by omega)
  have cj : (nI j).toNatClampNeg = j := nI_clamp (by omega)
  obtain ⟨e1, e2, e3, e4⟩ := h j hj
  have ox : me_o s (H j) < 32 := me_olt hs
  have o1 := ar_orl (H j) e3 _ ox
  have o2 := ar_orl (F j) e4 _ ox
  unfold wpX_arrive
  dsimp only
  rw [cj, e1, e2]
  refine And.intro ij (nm_r (ar_ot s hs (H j) e3) (And.intro ij (And.intro ij (nm_r (e' := upd xhe j (nI (H j ||| me_o s (H j)))) (by rw [ar_orb _ e3 _ ox, ar_nb (by omega)]) (And.intro ij (And.intro ij ?_))))))
  refine nm_r (e' := upd xfr j (nI (F j ||| me_o s (H j)))) (by rw [ar_orb _ e4 _ ox, ar_nb (by omega)]) (hp _ _ (fun i hi => ?_))
  unfold me_A me_B
  by_cases e : i = j
  · rw [e, pk_us, pk_us, tb_us, tb_us]; exact ⟨rfl, rfl, o1, o2⟩
  · rw [pk_un e, pk_un e, tb_un e, tb_un e]; exact h i hi
/-- inside, for a jump: the target is an instruction of the draft or not -/
theorem xk_inside {v : Nat} {c : Int64} (hn : n < 100) (hv : v = 20 ∨ v = 21) (h1 : ∀ j, j < n → c = lN j → post 1) (h0 : (¬ ∃ j, j < n ∧ c = lN j) → post 0) : wpX_inside post (xWC, xLV, xPF, xLO, xEX, xWS, xDR, xVT, xVV, xOC, xCH, xcp, xcc, xwi, xtg, xst, xrn, xrc, xrr, xnu, xrt, xra, xrk, xan, xrs, xdo, xdc, xhe, xfr, xta, xso, xsr, xsn, xsx, xsc, xsd, xse, xsk, xdp, xrg) (nI v) c (nI n) := by
  have h12 : wX_inside_12 post c (nI n) xWC xLV xPF xLO xEX xWS xDR xVT xVV xOC xCH xcp xcc xwi xtg xst xrn xrc xrr xnu xrt xra xrk xan xrs xdo xdc xhe xfr xta xso xsr xsn xsx xsc xsd xse xsk xdp xrg := by
    unfold wX_inside_12
    rw [nI_l (by omega)]
    refine br_c (fun hc => h0 ?_) (fun hc => ?_)
    · rintro ⟨j, hj, e⟩
      rw [e, show (0 : Int64) = lN 0 from rfl, lN_lt (by omega) (by omega)] at hc
      omega
    · obtain ⟨k, hk, rfl⟩ := pk_lOf hc
      refine br_c (fun hl => h0 ?_) (fun hl => ?_)
      · rw [pk_lLE (by omega) hk] at hl
        rintro ⟨j, hj, e⟩
        rw [pk_lEQ hk (by omega)] at e
        omega
      · rw [pk_lLE (by omega) hk] at hl
        exact h1 k (by omega) rfl
  unfold wpX_inside
  rcases hv with e | e
  · exact br_t (by rw [e]; rfl) h12
  · exact br_f (by rw [e]; decide) (br_t (by rw [e]; rfl) h12)
theorem xk_insideN {v : Nat} {c : Int64} {x : Int32} (hv : v < 24) (h20 : v ≠ 20) (h21 : v ≠ 21) (h1 : post 1) : wpX_inside post (xWC, xLV, xPF, xLO, xEX, xWS, xDR, xVT, xVV, xOC, xCH, xcp, xcc, xwi, xtg, xst, xrn, xrc, xrr, xnu, xrt, xra, xrk, xan, xrs, xdo, xdc, xhe, xfr, xta, xso, xsr, xsn, xsx, xsc, xsd, xse, xsk, xdp, xrg) (nI v) c x := by
  unfold wpX_inside
  exact pk_eq v 20 (fun e => absurd e h20) (fun _ => pk_eq v 21 (fun e => absurd e h21) (fun _ => h1))
theorem xk_103 (ho : ∀ i, i < 16 → xdo i = nI (o i) ∧ o i < 24) (hn : n ≤ 16) (hi : i < n) (hv : o i = 20 ∨ o i = 21) (hs : s < 32) (h : me_R xhe xfr H F)
    (h0 : (¬ ∃ j, j < n ∧ xdc i = lN j) → pos (xWC, xLV, xPF, xLO, xEX, xWS, xDR, xVT, xVV, xOC, xCH, xcp, xcc, xwi, xtg, xst, xrn, xrc, xrr, xnu, xrt, xra, xrk, xan, xrs, xdo, xdc, xhe, xfr, xta, xso, xsr, xsn, xsx, xsc, xsd, xse, xsk, xdp, xrg))
    (h1 : ∀ (j : Nat) (he fr ta : Nat → Int32), j < n → xdc i = lN j → me_R he fr (me_A H j s) (me_B H F j s) → pos (xWC, xLV, xPF, xLO, xEX, xWS, xDR, xVT, xVV, xOC, xCH, xcp, xcc, xwi, xtg, xst, xrn, xrc, xrr, xnu, xrt, xra, xrk, xan, xrs, xdo, xdc, he, fr, ta, xso, xsr, xsn, xsx, xsc, xsd, xse, xsk, xdp, xrg)) : wX_spread_103 pos (nI i) (nI n) (nI (o i)) (nI s) xWC xLV xPF xLO xEX xWS xDR xVT xVV xOC xCH xcp xcc xwi xtg xst xrn xrc xrr xnu xrt xra xrk xan xrs xdo xdc xhe xfr xta xso xsr xsn xsx xsc xsd xse xsk xdp xrg := by
  have ii : vp_in (nI i) 16 := vp_in_nI (by omega) (by omega)
  have ci : (nI i).toNatClampNeg = i := nI_clamp (by omega)
  unfold wX_spread_103
  rw [ci]
  refine And.intro ii (xk_inside (by omega) hv (fun j hj e => br_f (by decide) (And.intro ii ?_)) (fun z => br_t rfl (h0 z)))
  rw [e, lN_i]
  refine xk_arrive (by omega) hs h (fun he' fr' h' => And.intro ii (And.intro ?_ ?_))
  · rw [e, lN_i]; exact vp_in_nI (by omega) (by omega)
  · exact nm_e (h1 j he' fr' _ hj e h')
theorem xk_64 {a : Nat → Int64} {m : Nat} (ho : ∀ i, i < 16 → xdo i = nI (o i) ∧ o i < 24) (ha : ∀ i, i < 16 → xdc i = a i) (hn : n ≤ 16) (hi : i < n) (hm : m < 32) (hv : o i < 22) (h : me_R xhe xfr H F) (hI : me_I o a n H F i s)
    (hb : ∀ e, m.testBit e = true ↔ e ≤ 4 ∧ ∃ d, d ≤ 4 ∧ s.testBit d = true ∧ op_t (o i) ≤ d ∧ op_h (o i) d = e) (hsr : ∀ d, s.testBit d = true → rc_R o a n i d)
    (hp : ∀ (H' F' : Nat → Nat) (he fr ta : Nat → Int32), me_R he fr H' F' → me_I o a n H' F' 0 0 → me_W H' F' ≤ me_W H F → pos (xWC, xLV, xPF, xLO, xEX, xWS, xDR, xVT, xVV, xOC, xCH, xcp, xcc, xwi, xtg, xst, xrn, xrc, xrr, xnu, xrt, xra, xrk, xan, xrs, xdo, xdc, he, fr, ta, xso, xsr, xsn, xsx, xsc, xsd, xse, xsk, xdp, xrg)) :
    wX_spread_64 pos (nI i) (nI n) (nI (o i)) (nI m) xWC xLV xPF xLO xEX xWS xDR xVT xVV xOC xCH xcp xcc xwi xtg xst xrn xrc xrr xnu xrt xra xrk xan xrs xdo xdc xhe xfr xta xso xsr xsn xsx xsc xsd xse xsk xdp xrg := by
  have hS : ∀ j e, j < n → (((o i = 20 ∨ o i = 21) ∧ a i = lN j) ∨ (o i ≠ 20 ∧ j = i + 1)) → m.testBit e = true → rc_R o a n j e := by
    intro j e hj hed hme
    obtain ⟨he4, d, hd, h1, h2, h3⟩ := (hb e).mp hme
    exact rc_s (hsr d h1) ⟨hi, hd, h2, h3.symm, he4, hv, hj, hed⟩
  -- behind both arrivals
  have hend : ∀ (H' F' : Nat → Nat), me_I o a n H' F' i s → (∀ j e, j < n → (((o i = 20 ∨ o i = 21) ∧ a i = lN j) ∨ (o i ≠ 20 ∧ j = i + 1)) → m.testBit e = true → (H' j).testBit e = true) → me_I o a n H' F' 0 0 := by
    intro H' F' hI' hall
    obtain ⟨g1, g2, g3, g4⟩ := hI'
    refine ⟨g1, g2, g3, fun k d hk hh hf _ j e hs => ?_⟩
    by_cases hc : k = i ∧ s.testBit d = true
    · rw [hc.1] at hs
      obtain ⟨_, q2, q3, q4, q5, q6, q7, q8⟩ := hs
      exact hall j e q7 q8 ((hb e).mpr ⟨q5, d, q2, hc.2, q3, q4.symm⟩)
    · exact g4 k d hk hh hf hc j e hs
  have h89 : ∀ (H' F' : Nat → Nat) (he fr : Nat → Int32), me_R he fr H' F' → me_I o a n H' F' i s → me_W H' F' ≤ me_W H F → (o i ≠ 20 → i + 1 < n → ∀ e, m.testBit e = true → (H' (i + 1)).testBit e = true) →
      wX_spread_89 pos (nI i) (nI n) (nI (o i)) (nI m) xWC xLV xPF xLO xEX xWS xDR xVT xVV xOC xCH xcp xcc xwi xtg xst xrn xrc xrr xnu xrt xra xrk xan xrs xdo xdc he fr xta xso xsr xsn xsx xsc xsd xse xsk xdp xrg := by
    intro H' F' he fr hR' hI' hW' hft
    have h103 : (o i = 20 ∨ o i = 21) → wX_spread_103 pos (nI i) (nI n) (nI (o i)) (nI m) xWC xLV xPF xLO xEX xWS xDR xVT xVV xOC xCH xcp xcc xwi xtg xst xrn xrc xrr xnu xrt xra xrk xan xrs xdo xdc he fr xta xso xsr xsn xsx xsc xsd xse xsk xdp xrg := by
      intro hv2
      refine xk_103 ho hn hi hv2 hm hR' (fun hno => ?_) (fun j he2 fr2 ta2 hj ej hR2 => ?_)
      · refine hp H' F' he fr xta hR' (hend H' F' hI' (fun j e hj hed hme => ?_)) hW'
        rcases hed with ⟨_, q⟩ | ⟨q1, q2⟩
        · exact absurd ⟨j, hj, by rw [ha i (by omega)]; exact q⟩ hno
        · rw [q2] at hj ⊢; exact hft q1 hj e hme
      · rw [ha i (by omega)] at ej
        refine hp _ _ he2 fr2 ta2 hR2 (hend _ _ (me_arr hI' hm (fun d hd => hS j d hj (Or.inl ⟨hv2, ej⟩) hd)) (fun j' e hj' hed hme => ?_)) (Nat.le_trans (me_arW hm) hW')
        rw [me_Ab hm]
        rcases hed with ⟨_, q⟩ | ⟨q1, q2⟩
        · have ejj : j' = j := (lN_eq (by omega) (by omega)).mp (q.symm.trans ej)
          rw [ejj, hme]
          simp
        · rw [q2] at hj' ⊢
          rw [hft q1 hj' e hme]
          rfl
    unfold wX_spread_89
    refine pk_eq (o i) 20 (fun e => h103 (Or.inl e)) (fun e20 => pk_eq (o i) 21 (fun e => h103 (Or.inr e)) (fun e21 => ?_))
    refine hp H' F' he fr xta hR' (hend H' F' hI' (fun j e hj hed hme => ?_)) hW'
    rcases hed with ⟨q, _⟩ | ⟨q1, q2⟩
    · exact absurd q (by omega)
    · rw [q2] at hj ⊢; exact hft q1 hj e hme
  unfold wX_spread_64
  rw [nI_1]
  refine pk_eq (o i) 20 (fun e => h89 H F xhe xfr h hI (Nat.le_refl _) (fun z => absurd e z)) (fun e20 => pk_le n (i + 1) (fun hl => h89 H F xhe xfr h hI (Nat.le_refl _) (fun _ z => absurd z (by omega))) (fun hl => ?_))
  refine xk_arrive (by omega) hm h (fun he' fr' h' => h89 _ _ he' fr' h' (me_arr hI hm (fun d hd => hS (i + 1) d hl (Or.inr ⟨e20, rfl⟩) hd)) (me_arW hm) (fun _ _ e hme => ?_))
  rw [me_Ab hm, hme]
  simp
theorem xk_spread {a : Nat → Int64} (ho : ∀ i, i < 16 → xdo i = nI (o i) ∧ o i < 24) (ha : ∀ i, i < 16 → xdc i = a i) (hn : n ≤ 16) (hi : i < n) (hs : s < 32) (h : me_R xhe xfr H F) (hI : me_I o a n H F i s)
    (hsr : ∀ d, s.testBit d = true → rc_R o a n i d)
    (hp : ∀ (H' F' : Nat → Nat) (he fr ta : Nat → Int32), me_R he fr H' F' → me_I o a n H' F' 0 0 → me_W H' F' ≤ me_W H F → pos (xWC, xLV, xPF, xLO, xEX, xWS, xDR, xVT, xVV, xOC, xCH, xcp, xcc, xwi, xtg, xst, xrn, xrc, xrr, xnu, xrt, xra, xrk, xan, xrs, xdo, xdc, he, fr, ta, xso, xsr, xsn, xsx, xsc, xsd, xse, xsk, xdp, xrg)) :
    wpX_spread pos (xWC, xLV, xPF, xLO, xEX, xWS, xDR, xVT, xVV, xOC, xCH, xcp, xcc, xwi, xtg, xst, xrn, xrc, xrr, xnu, xrt, xra, xrk, xan, xrs, xdo, xdc, xhe, xfr, xta, xso, xsr, xsn, xsx, xsc, xsd, xse, xsk, xdp, xrg) (nI i) (nI s) (nI n) := by
  obtain ⟨eo, ov⟩ := ho i (by omega)
  have t3 := op_t3 (o i) ov
  have l0 := ar_sp0l s hs (op_t (o i)) t3
  unfold wpX_spread
  refine And.intro (vp_in_nI (by omega) (by omega)) (nm_r (e' := nI (o i)) (by rw [nI_clamp (by omega)]; exact eo) ?_)
  refine xk_takes ov (nm_r (ar_sp0 s hs _ t3) (xk_growth ov (pk_le (o i) 21 (fun hv => ?_) (fun hv => ?_))))
  · have key : ∀ m, m = sp_m (o i) s → wX_spread_64 pos (nI i) (nI n) (nI (o i)) (nI m) xWC xLV xPF xLO xEX xWS xDR xVT xVV xOC xCH xcp xcc xwi xtg xst xrn xrc xrr xnu xrt xra xrk xan xrs xdo xdc xhe xfr xta xso xsr xsn xsx xsc xsd xse xsk xdp xrg := by
      intro m em
      rw [em]
      exact xk_64 ho ha hn hi (sp_lt _ (by omega) s hs) (by omega) h hI (fun e => sp_bit (by omega) hs) hsr hp
    by_cases g1 : o i < 4 ∨ o i = 15
    · rw [show op_g (o i) = 1 from if_pos g1]
      refine br_f (by decide) ?_
      rw [ar_sp1 _ l0]
      exact key _ (by unfold sp_m; rw [if_pos g1])
    · by_cases g2 : o i < 15 ∨ o i = 17 ∨ o i = 18 ∨ o i = 21
      · rw [show op_g (o i) = -1 from by unfold op_g; rw [if_neg g1, if_pos (by omega)]]
        refine br_t (by decide) (br_f (by decide) ?_)
        rw [ar_sp2 _ l0]
        exact key _ (by unfold sp_m; rw [if_neg g1, if_pos g2])
      · rw [show op_g (o i) = 0 from by unfold op_g; rw [if_neg g1, if_neg (by omega)]]
        refine br_t (by decide) (br_t (by decide) ?_)
        exact key _ (by unfold sp_m; rw [if_neg g1, if_neg g2])
  · -- an end: nothing follows
    obtain ⟨g1, g2, g3, g4⟩ := hI
    refine hp H F xhe xfr xta h ⟨g1, g2, g3, fun k d hk hh hf _ j e hs => ?_⟩ (Nat.le_refl _)
    by_cases hc : k = i ∧ s.testBit d = true
    · rw [hc.1] at hs
      obtain ⟨_, _, _, _, _, q6, _⟩ := hs
      exact absurd q6 (by omega)
    · exact g4 k d hk hh hf hc j e hs
theorem ar_fl : ∀ b, b < 2 → nI b ||| 0 = nI b ∧ nI b ||| 1 = nI 1 := by decide +kernel
theorem xk_59 {a : Nat → Int64} {W0 n51 : Nat} (ho : ∀ i, i < 16 → xdo i = nI (o i) ∧ o i < 24) (ha : ∀ i, i < 16 → xdc i = a i) (hn : n ≤ 16)
    (hq : ∀ (b : Nat) (H F : Nat → Nat) (he fr ta : Nat → Int32), me_R he fr H F → me_I o a n H F 0 0 → b < 2 → (b = 1 → me_W H F < W0) → (b = 0 → ∀ k, k < n → F k = 0) → wX_meet_51 pos (nI n) n51 (nI b) xWC xLV xPF xLO xEX xWS xDR xVT xVV xOC xCH xcp xcc xwi xtg xst xrn xrc xrr xnu xrt xra xrk xan xrs xdo xdc he fr ta xso xsr xsn xsx xsc xsd xse xsk xdp xrg) :
    ∀ (nf i b : Nat) (H F : Nat → Nat) (he fr ta : Nat → Int32), i ≤ n → n - i < nf → me_R he fr H F → me_I o a n H F 0 0 → b < 2 → me_W H F ≤ W0 → (b = 1 → me_W H F < W0) → (b = 0 → ∀ k, k < i → F k = 0) →
    wX_meet_59 pos (wX_meet_51 pos (nI n) n51) (nI n) nf (nI b) (nI i) xWC xLV xPF xLO xEX xWS xDR xVT xVV xOC xCH xcp xcc xwi xtg xst xrn xrc xrr xnu xrt xra xrk xan xrs xdo xdc he fr ta xso xsr xsn xsx xsc xsd xse xsk xdp xrg := by
  intro nf
  induction nf with
  | zero => intro i b H F he fr ta _ h; omega
  | succ nf ih =>
    intro i b H F he fr ta hi hnf hR hI hb hW hW1 hF0
    refine pk_le n i (fun hl => ?_) (fun hl => ?_)
    · exact hq b H F he fr ta hR hI hb hW1 (fun z k hk => hF0 z k (by omega))
    · have ii : vp_in (nI i) 16 := vp_in_nI (by omega) (by omega)
      have ci : (nI i).toNatClampNeg = i := nI_clamp (by omega)
      obtain ⟨r1, r2, r3, r4⟩ := hR i (by omega)
      obtain ⟨fl0, fl1⟩ := ar_fl b hb
      have hR1 : me_R he (upd fr i (nI 0)) H (tb_up F i 0) := by
        intro k hk
        by_cases e : k = i
        · rw [e, pk_us, tb_us]; exact ⟨r1, rfl, r3, by omega⟩
        · rw [pk_un e, tb_un e]; exact hR k hk
      refine And.intro ii (nm_r (e' := nI (F i)) (by rw [ci]; exact r2) (And.intro ii (nm_r (e' := upd fr i (nI 0)) (by rw [ci]; exact congrArg _ (ar_nb (t := 0) (by decide))) ?_)))
      by_cases h0 : F i = 0
      · refine br_t (by rw [h0]; rfl) (nm_r fl0 (br_t (by rw [h0]; rfl) (nm_r (nI_1 i) ?_)))
        have eF : tb_up F i 0 = F := by
          funext k
          by_cases e : k = i
          · rw [e, tb_us, h0]
          · exact tb_un e
        rw [eF] at hR1
        refine ih (i + 1) b H F he _ ta (by omega) (by omega) hR1 hI hb hW hW1 (fun z k hk => ?_)
        by_cases e : k = i
        · rw [e]; exact h0
        · exact hF0 z k (by omega)
      · have hz : ¬ nI (F i) = 0 := fun z => h0 ((ar_z (by omega)).mp z)
        refine br_f hz (nm_r fl1 (br_f hz ?_))
        obtain ⟨g1, g2, g3, g4⟩ := hI
        have hfh : ∀ d, (F i).testBit d = true → (H i).testBit d = true := fun d => g1 i d (by omega)
        have hWs : me_W H (tb_up F i 0) < me_W H F := by
          refine sm_lt (c := i) ?_ (fun k _ => ?_) (by omega)
          · show me_w (H i) (tb_up F i 0 i) < me_w (H i) (F i)
            rw [tb_us]
            exact me_wc r4 h0 hfh
          · show me_w (H k) (tb_up F i 0 k) ≤ me_w (H k) (F k)
            by_cases e : k = i
            · rw [e, tb_us]; exact Nat.le_of_lt (me_wc r4 h0 hfh)
            · rw [tb_un e]; exact Nat.le_refl _
        have hI1 : me_I o a n H (tb_up F i 0) i (F i) := by
          refine ⟨fun k d hk hf => ?_, g2, g3, fun k d hk hh hf hc j e hs => ?_⟩
          · by_cases e : k = i
            · rw [e, tb_us, Nat.zero_testBit] at hf; exact absurd hf (by decide)
            · rw [tb_un e] at hf; exact g1 k d hk hf
          · refine g4 k d hk hh ?_ (fun z => by have := z.2; rw [Nat.zero_testBit] at this; exact absurd this (by decide)) j e hs
            by_cases e : k = i
            · cases hb2 : (F k).testBit d
              · rfl
              · rw [e] at hb2; exact absurd ⟨e, hb2⟩ hc
            · rw [tb_un e] at hf; exact hf
        refine xk_spread ho ha hn (by omega) r4 hR1 hI1 (fun d hd => g2 i d (by omega) (hfh d hd)) (fun H' F' he' fr' ta' hR' hI' hW' => ?_)
        exact nm_r (nI_1 i) (ih (i + 1) 1 H' F' he' fr' ta' (by omega) (by omega) hR' hI' (by omega) (by omega) (fun _ => by omega) (fun z => absurd z (by decide)))
theorem xk_51 {a : Nat → Int64} (ho : ∀ i, i < 16 → xdo i = nI (o i) ∧ o i < 24) (ha : ∀ i, i < 16 → xdc i = a i) (hn : n ≤ 16)
    (hq : ∀ (H F : Nat → Nat) (he fr ta : Nat → Int32), me_R he fr H F → me_I o a n H F 0 0 → (∀ k, k < n → F k = 0) → pos (xWC, xLV, xPF, xLO, xEX, xWS, xDR, xVT, xVV, xOC, xCH, xcp, xcc, xwi, xtg, xst, xrn, xrc, xrr, xnu, xrt, xra, xrk, xan, xrs, xdo, xdc, he, fr, ta, xso, xsr, xsn, xsx, xsc, xsd, xse, xsk, xdp, xrg)) :
    ∀ (nf b : Nat) (H F : Nat → Nat) (he fr ta : Nat → Int32), me_R he fr H F → me_I o a n H F 0 0 → b < 2 → 0 < nf → (b = 1 → me_W H F + 1 < nf) → (b = 0 → ∀ k, k < n → F k = 0) →
    wX_meet_51 pos (nI n) nf (nI b) xWC xLV xPF xLO xEX xWS xDR xVT xVV xOC xCH xcp xcc xwi xtg xst xrn xrc xrr xnu xrt xra xrk xan xrs xdo xdc he fr ta xso xsr xsn xsx xsc xsd xse xsk xdp xrg := by
  intro nf
  induction nf with
  | zero => intro b H F he fr ta _ _ _ h; omega
  | succ nf ih =>
    intro b H F he fr ta hR hI hb hnf h1 h0
    refine pk_eq b 0 (fun e => hq H F he fr ta hR hI (h0 e)) (fun e => ⟨n + 1, ?_⟩)
    have hb1 := h1 (by omega)
    exact xk_59 (W0 := me_W H F) ho ha hn (fun b' H' F' he' fr' ta' hR' hI' hb' hW' hF' => ih b' H' F' he' fr' ta' hR' hI' hb' (by omega) (fun z => by have := hW' z; omega) hF') (n + 1) 0 0 H F he fr ta (by omega) (by omega) hR hI (by omega) (Nat.le_refl _) (fun z => absurd z (by decide)) (fun _ k hk => absurd hk (Nat.not_lt_zero k))
theorem xk_2 {a : Nat → Int64} (ho : ∀ i, i < 16 → xdo i = nI (o i) ∧ o i < 24) (ha : ∀ i, i < 16 → xdc i = a i) (hn : n ≤ 16) (hn0 : 0 < n)
    (hq : ∀ (H : Nat → Nat) (he fr ta : Nat → Int32), (∀ i, i < 16 → he i = nI (H i) ∧ H i < 32 ∧ ∀ d, (H i).testBit d = true ↔ rc_R o a n i d) → pos (xWC, xLV, xPF, xLO, xEX, xWS, xDR, xVT, xVV, xOC, xCH, xcp, xcc, xwi, xtg, xst, xrn, xrc, xrr, xnu, xrt, xra, xrk, xan, xrs, xdo, xdc, he, fr, ta, xso, xsr, xsn, xsx, xsc, xsd, xse, xsk, xdp, xrg)) :
    ∀ (nf i : Nat) (he fr ta : Nat → Int32), i ≤ 16 → 16 - i < nf → (∀ k, k < i → he k = 0 ∧ fr k = 0) → wX_meet_2 pos (nI n) xWC xLV xPF xLO xEX xWS xDR xVT xVV xOC xCH nf (nI i) xcp xcc xwi xtg xst xrn xrc xrr xnu xrt xra xrk xan xrs xdo xdc he fr ta xso xsr xsn xsx xsc xsd xse xsk xdp xrg := by
  intro nf
  induction nf with
  | zero => intro i he fr ta _ h; omega
  | succ nf ih =>
    intro i he fr ta hi hnf hz
    refine pk_le 16 i (fun hl => ?_) (fun hl => ?_)
    · refine nm_r (e' := upd he 0 (nI 1)) (congrArg _ (ar_nb (t := 1) (by decide))) (nm_r (e' := upd fr 0 (nI 1)) (congrArg _ (ar_nb (t := 1) (by decide))) ⟨170, ?_⟩)
      have hR : me_R (upd he 0 (nI 1)) (upd fr 0 (nI 1)) (tb_up (fun _ => 0) 0 1) (tb_up (fun _ => 0) 0 1) := by
        intro k hk
        by_cases e : k = 0
        · rw [e, pk_us, pk_us, tb_us]; exact ⟨rfl, rfl, by decide, by decide⟩
        · obtain ⟨z1, z2⟩ := hz k (by omega)
          rw [pk_un e, pk_un e, tb_un e, z1, z2]; exact ⟨rfl, rfl, by decide, by decide⟩
      have b1 : ∀ k d, ((tb_up (fun _ => 0) 0 1) k).testBit d = true → k = 0 ∧ d = 0 := by
        intro k d hb
        by_cases e : k = 0
        · rw [e, tb_us] at hb
          rw [show (1 : Nat) = 2 ^ 0 from rfl, Nat.testBit_two_pow, decide_eq_true_iff] at hb
          exact ⟨e, hb.symm⟩
        · rw [tb_un e, Nat.zero_testBit] at hb; exact absurd hb (by decide)
      have hI : me_I o a n (tb_up (fun _ => 0) 0 1) (tb_up (fun _ => 0) 0 1) 0 0 := by
        refine ⟨fun _ _ _ h => h, fun k d _ hb => ?_, by rw [tb_us]; decide, fun k d _ hh hf _ => ?_⟩
        · obtain ⟨e1, e2⟩ := b1 k d hb
          rw [e1, e2]
          exact rc_0
        · rw [hf] at hh; exact absurd hh (by decide)
      have hWb := me_W_le (tb_up (fun _ => 0) 0 1) (tb_up (fun _ => 0) 0 1)
      refine xk_51 ho ha hn (fun H F he' fr' ta' hR' hI' hF => hq H he' fr' ta' (fun k hk => ?_)) 170 1 _ _ _ _ ta hR hI (by omega) (by omega) (fun _ => by omega) (fun z => absurd z (by decide))
      obtain ⟨q1, q2, q3, q4⟩ := hR' k hk
      obtain ⟨g1, g2, g3, g4⟩ := hI'
      refine ⟨q1, q3, fun d => ⟨fun hb => g2 k d hk hb, fun hr => ?_⟩⟩
      refine (hr (fun k d => k < n ∧ (H k).testBit d = true) ⟨hn0, g3⟩ (fun k d j e hk hs => ?_)).2
      obtain ⟨_, _, _, _, _, _, s7, _⟩ := id hs
      refine ⟨s7, g4 k d hk.1 hk.2 ?_ (fun z => by have := z.2; rw [Nat.zero_testBit] at this; exact absurd this (by decide)) j e hs⟩
      rw [hF k hk.1, Nat.zero_testBit]
    · have ii : vp_in (nI i) 16 := vp_in_nI hl (by omega)
      have ci : (nI i).toNatClampNeg = i := nI_clamp (by omega)
      refine And.intro ii (nm_r (e' := upd he i (nI 0)) (by rw [ci]; exact congrArg _ (ar_nb (t := 0) (by decide))) (And.intro ii (nm_r (e' := upd fr i (nI 0)) (by rw [ci]; exact congrArg _ (ar_nb (t := 0) (by decide))) (And.intro ii (nm_e (nm_r (nI_1 i) ?_))))))
      refine ih (i + 1) _ _ _ (by omega) (by omega) (fun k hk => ?_)
      by_cases e : k = i
      · rw [e, pk_us, pk_us]; exact ⟨rfl, rfl⟩
      · rw [pk_un e, pk_un e]; exact hz k (by omega)
theorem xk_meet {a : Nat → Int64} (ho : ∀ i, i < 16 → xdo i = nI (o i) ∧ o i < 24) (ha : ∀ i, i < 16 → xdc i = a i) (hn : n ≤ 16) (hn0 : 0 < n)
    (hq : ∀ (H : Nat → Nat) (he fr ta : Nat → Int32), (∀ i, i < 16 → he i = nI (H i) ∧ H i < 32 ∧ ∀ d, (H i).testBit d = true ↔ rc_R o a n i d) → pos (xWC, xLV, xPF, xLO, xEX, xWS, xDR, xVT, xVV, xOC, xCH, xcp, xcc, xwi, xtg, xst, xrn, xrc, xrr, xnu, xrt, xra, xrk, xan, xrs, xdo, xdc, he, fr, ta, xso, xsr, xsn, xsx, xsc, xsd, xse, xsk, xdp, xrg)) :
    wpX_meet pos (xWC, xLV, xPF, xLO, xEX, xWS, xDR, xVT, xVV, xOC, xCH, xcp, xcc, xwi, xtg, xst, xrn, xrc, xrr, xnu, xrt, xra, xrk, xan, xrs, xdo, xdc, xhe, xfr, xta, xso, xsr, xsn, xsx, xsc, xsd, xse, xsk, xdp, xrg) (nI n) := by
  unfold wpX_meet
  exact ⟨17, xk_2 ho ha hn hn0 hq 17 0 xhe xfr xta (by omega) (by omega) (fun k hk => absurd hk (Nat.not_lt_zero k))⟩
end
end
section
theorem ar_64 (i : Nat) : (64 : Int32) + nI i = nI (64 + i) := by
  rw [show (64 : Int32) = nI 64 from rfl, nI_add]
theorem ar_d5 {k : Nat} (h : k < 1000) : nI k / 5 = nI (k / 5) := pk_div (d := 5) (by omega) (by decide) (by decide)
theorem ar_r5 {k : Nat} (h : k < 1000) : nI k - nI k / 5 * 5 = nI (k % 5) := pk_rem (d := 5) (by omega) (by decide) (by decide)
def op_y (o : Nat) : Int32 := if o < 4 ∨ o = 15 then 1 else if o < 15 ∨ o = 17 ∨ o = 18 ∨ o = 21 then -1 else 0
def ok_y (o d : Nat) : Bool := !(decide (op_t o ≤ d)) || decide (nI d + op_y o = nI (op_h o d))
theorem ok_ya : ∀ o, o < 24 → ∀ d, d < 5 → ok_y o d = true := by decide +kernel
theorem op_yh {o d : Nat} (ho : o < 24) (hd : d < 5) (ht : op_t o ≤ d) : nI d + op_y o = nI (op_h o d) := by
  have := ok_ya o ho d hd
  unfold ok_y at this
  rw [decide_eq_true ht] at this
  exact of_decide_eq_true this
theorem op_h6 {o d : Nat} (hd : d < 5) : op_h o d ≤ 5 := by
  unfold op_h
  split
  · omega
  · split <;> omega
def yp_R (pa : Nat → Int32) (P : Nat → Bool) : Prop := ∀ k, k < 80 → pa k = if P k = true then 1 else 0
def yp_e (o : Nat → Nat) (a : Nat → Int64) (i j : Nat) : Prop := o i < 22 ∧ (((o i = 20 ∨ o i = 21) ∧ a i = lN j) ∨ (o i ≠ 20 ∧ j = i + 1))
def yp_c (P : Nat → Bool) : Nat := sm_ (fun k => if P k = true then 1 else 0) 80
theorem yp_c80 (P : Nat → Bool) : yp_c P ≤ 80 := by
  have h : ∀ k, (if P k = true then 1 else 0) ≤ 1 := fun k => by split <;> omega
  have := sm_b (b := 1) h 80
  unfold yp_c
  omega
/-- a round: all that follows from P0 among the first k pairs stands in P -/
def yp_I (o : Nat → Nat) (a : Nat → Int64) (n k : Nat) (P0 P : Nat → Bool) : Prop :=
  (∀ q, P0 q = true → P q = true) ∧ (∀ q, P q = true → q < 80 ∧ rc_R o a n (q / 5) (q % 5)) ∧
  ∀ q, q < k → P0 q = true → ∀ j e, rc_S o a n (q / 5) (q % 5) j e → P (5 * j + e) = true
section
variable {yBK yFA yLO yEX yVH : Int32} {yVV yOC : Int64} {ylv yls ysz yha yrn yrc yop yle ypa ynu yqt yqk yqa yon ywa : Nat → Int32} {yva yrr yar yst ysh : Nat → Int64}
variable {post : Int32 → Prop} {pos : SY → Prop} {o : Nat → Nat} {a : Nat → Int64} {n i j : Nat}
theorem yk_takes {v : Nat} (hv : v < 24) (hp : post (nI (op_t v))) : wpY_takes post (yBK, yFA, yLO, yEX, yVH, yVV, yOC, ylv, yls, ysz, yha, yva, yrn, yrc, yrr, yop, yar, yle, ypa, yst, ynu, yqt, yqk, yqa, yon, ysh, ywa) (nI v) := by
  have h11 : (v < 4 ∨ 15 ≤ v) → wY_takes_11 post (nI v) yBK yFA yLO yEX yVH yVV yOC ylv yls ysz yha yva yrn yrc yrr yop yar yle ypa yst ynu yqt yqk yqa yon ysh ywa := by
    intro hr
    unfold wY_takes_11
    refine pk_eq v 16 (fun e => by subst e; exact hp) (fun n16 => ?_)
    refine pk_eq v 15 (fun e => by subst e; exact hp) (fun n15 => ?_)
    refine pk_eq v 17 (fun e => by subst e; exact hp) (fun n17 => ?_)
    refine pk_eq v 18 (fun e => by subst e; exact hp) (fun n18 => ?_)
    refine pk_eq v 21 (fun e => by subst e; exact hp) (fun n21 => ?_)
    refine pk_eq v 23 (fun e => by subst e; exact hp) (fun n23 => ?_)
    have : op_t v = 0 := by
      unfold op_t
      by_cases h4 : v < 4
      · rw [if_pos h4]
      · rw [if_neg h4, if_neg (by omega), if_neg n16, if_neg (by omega)]
    rw [this] at hp
    exact hp
  unfold wpY_takes
  refine pk_lt v 4 (fun e => h11 (Or.inl e)) (fun e4 => pk_le v 14 (fun e => ?_) (fun e => h11 (Or.inr e)))
  rw [op_t_b e4 (by omega)] at hp
  exact hp
theorem yk_change {v : Nat} (hv : v < 24) (hp : post (op_y v)) : wpY_change post (yBK, yFA, yLO, yEX, yVH, yVV, yOC, ylv, yls, ysz, yha, yva, yrn, yrc, yrr, yop, yar, yle, ypa, yst, ynu, yqt, yqk, yqa, yon, ysh, ywa) (nI v) := by
  unfold wpY_change
  refine pk_lt v 4 (fun e => ek_p hp (if_pos (by omega))) (fun e4 => pk_eq v 15 (fun e => ek_p hp (if_pos (by omega))) (fun e15 => ?_))
  have e1 : op_y v = if v < 15 ∨ v = 17 ∨ v = 18 ∨ v = 21 then -1 else 0 := if_neg (by omega)
  rw [e1] at hp
  refine pk_le v 14 (fun e => ek_p hp (if_pos (by omega))) (fun f15 => ?_)
  refine pk_eq v 17 (fun e => ek_p hp (if_pos (by omega))) (fun f17 => ?_)
  refine pk_eq v 18 (fun e => ek_p hp (if_pos (by omega))) (fun f18 => ?_)
  exact pk_eq v 21 (fun e => ek_p hp (if_pos (by omega))) (fun f21 => ek_p hp (if_neg (by omega)))
theorem yk_next (hi : i < 16) (hj : j < 16) (ho : yop (64 + i) = nI (o i)) (hv : o i < 24) (ha : yar (64 + i) = a i) (h1 : yp_e o a i j → post 1) (h0 : ¬ yp_e o a i j → post 0) : wpY_next post (yBK, yFA, yLO, yEX, yVH, yVV, yOC, ylv, yls, ysz, yha, yva, yrn, yrc, yrr, yop, yar, yle, ypa, yst, ynu, yqt, yqk, yqa, yon, ysh, ywa) (nI i) (nI j).toInt64 := by
  have ii : vp_in (64 + nI i) 80 := by rw [ar_64]; exact vp_in_nI (by omega) (by omega)
  have ci : (64 + nI i).toNatClampNeg = 64 + i := by rw [ar_64, nI_clamp (by omega)]
  have ej : (nI j).toInt64 = lN j := nI_l (by omega)
  have h46 : ¬ ((o i = 20 ∨ o i = 21) ∧ a i = lN j) → wY_next_46 post (nI i) (nI j).toInt64 (nI (o i)) yBK yFA yLO yEX yVH yVV yOC ylv yls ysz yha yva yrn yrc yrr yop yar yle ypa yst ynu yqt yqk yqa yon ysh ywa := by
    intro hno
    unfold wY_next_46
    refine pk_eq (o i) 20 (fun e => h0 (fun z => z.2.elim hno (fun w => w.1 e))) (fun e20 => pk_le 22 (o i) (fun e => h0 (fun z => by have := z.1; omega)) (fun e22 => br_c (fun e => h1 ⟨e22, Or.inr ⟨e20, ?_⟩⟩) (fun e => h0 (fun z => z.2.elim hno (fun w => e ?_)))))
    · rw [ej, nI_1, nI_l (by omega), lN_eq (by omega) (by omega)] at e
      exact e
    · rw [ej, nI_1, nI_l (by omega), w.2]
  have h32 : (o i = 20 ∨ o i = 21) → wY_next_32 post (nI i) (nI j).toInt64 (nI (o i)) yBK yFA yLO yEX yVH yVV yOC ylv yls ysz yha yva yrn yrc yrr yop yar yle ypa yst ynu yqt yqk yqa yon ysh ywa := by
    intro hv2
    unfold wY_next_32
    rw [ci, ha, ej]
    refine And.intro ii (br_c (fun e => h1 ⟨by omega, Or.inl ⟨hv2, e.symm⟩⟩) (fun e => ?_))
    rw [← ej]
    exact h46 (fun z => e z.2.symm)
  unfold wpY_next
  refine And.intro ii (nm_r (e' := nI (o i)) (by rw [ci]; exact ho) (pk_le 22 (o i) (fun e => h46 (fun z => by have := z.1; omega)) (fun e22 => pk_eq (o i) 20 (fun e => h32 (Or.inl e)) (fun e20 => pk_eq (o i) 21 (fun e => h32 (Or.inr e)) (fun e21 => h46 (fun z => by have := z.1; omega))))))
theorem yk_106 {n31 n39 k e : Nat} {r : Int32} (hn : n ≤ 16) (hlen : yle 4 = nI n) (hk : k < 5 * n) (he : e ≤ 4) (ho : ∀ i, i < 16 → yop (64 + i) = nI (o i) ∧ o i < 24) (ha : ∀ i, i < 16 → yar (64 + i) = a i) {P0 : Nat → Bool}
    (hq : ∀ (P : Nat → Bool) (pa : Nat → Int32), yp_R pa P → (∀ q, P q = true ↔ (P0 q = true ∨ ∃ j, j < n ∧ q = 5 * j + e ∧ yp_e o a (k / 5) j)) →
      wY_spread_39 pos (wY_spread_31 pos yBK yFA yLO yEX yVH yVV yOC n31) r yBK yFA yLO yEX yVH yVV yOC n39 (nI (k + 1)) ylv yls ysz yha yva yrn yrc yrr yop yar yle pa yst ynu yqt yqk yqa yon ysh ywa) :
    ∀ (nf x : Nat) (P : Nat → Bool) (pa : Nat → Int32), x ≤ n → n - x < nf → yp_R pa P → (∀ q, P q = true ↔ (P0 q = true ∨ ∃ j, j < x ∧ q = 5 * j + e ∧ yp_e o a (k / 5) j)) →
    wY_spread_106 pos (wY_spread_31 pos yBK yFA yLO yEX yVH yVV yOC n31) (wY_spread_39 pos (wY_spread_31 pos yBK yFA yLO yEX yVH yVV yOC n31) r yBK yFA yLO yEX yVH yVV yOC n39) r (nI k) (nI e) yBK yFA yLO yEX yVH yVV yOC nf (nI x) ylv yls ysz yha yva yrn yrc yrr yop yar yle pa yst ynu yqt yqk yqa yon ysh ywa := by
  intro nf
  induction nf with
  | zero => intro x P pa _ h; omega
  | succ nf ih =>
    intro x P pa hx hnf hR hP
    refine pk_le n x (fun hl => ?_) (fun hl => And.intro (by decide) ?_) hlen
    · have e : x = n := by omega
      rw [e] at hP
      exact nm_r (nI_1 k) (hq P pa hR hP)
    · rw [ar_d5 (by omega)]
      obtain ⟨eo, ov⟩ := ho (k / 5) (by omega)
      refine yk_next (by omega) (by omega) eo ov (ha _ (by omega)) (fun hed => br_f (by decide) ?_) (fun hed => br_t rfl ?_)
      · rw [ar_5i]
        refine And.intro (vp_in_nI (by omega) (by omega)) (nm_r (e' := upd pa (5 * x + e) 1) (by rw [nI_clamp (by omega), bo_1]) (nm_r (nI_1 x) (ih (x + 1) (fun q => P q || decide (q = 5 * x + e)) _ (by omega) (by omega) (fun q hq => ?_) (fun q => ?_))))
        · by_cases eq : q = 5 * x + e
          · rw [eq, pk_us]; simp
          · rw [pk_un eq, hR q hq]; simp [eq]
        · rw [Bool.or_eq_true, decide_eq_true_iff, hP q]
          constructor
          · rintro ((h | ⟨j, h1, h2, h3⟩) | h)
            · exact Or.inl h
            · exact Or.inr ⟨j, by omega, h2, h3⟩
            · exact Or.inr ⟨x, by omega, h, hed⟩
          · rintro (h | ⟨j, h1, h2, h3⟩)
            · exact Or.inl (Or.inl h)
            · by_cases ej : j = x
              · rw [ej] at h2; exact Or.inr h2
              · exact Or.inl (Or.inr ⟨j, by omega, h2, h3⟩)
      · refine nm_r (nI_1 x) (ih (x + 1) P pa (by omega) (by omega) hR (fun q => ?_))
        rw [hP q]
        constructor
        · rintro (h | ⟨j, h1, h2, h3⟩)
          · exact Or.inl h
          · exact Or.inr ⟨j, by omega, h2, h3⟩
        · rintro (h | ⟨j, h1, h2, h3⟩)
          · exact Or.inl h
          · by_cases ej : j = x
            · rw [ej] at h3; exact absurd h3 hed
            · exact Or.inr ⟨j, by omega, h2, h3⟩
theorem yk_39 {n31 r : Nat} (hn : n ≤ 16) (hlen : yle 4 = nI n) (ho : ∀ i, i < 16 → yop (64 + i) = nI (o i) ∧ o i < 24) (ha : ∀ i, i < 16 → yar (64 + i) = a i) {P0 : Nat → Bool}
    (hq : ∀ (P : Nat → Bool) (pa : Nat → Int32), yp_R pa P → yp_I o a n (5 * n) P0 P → wY_spread_31 pos yBK yFA yLO yEX yVH yVV yOC n31 (nI (r + 1)) ylv yls ysz yha yva yrn yrc yrr yop yar yle pa yst ynu yqt yqk yqa yon ysh ywa) :
    ∀ (nf k : Nat) (P : Nat → Bool) (pa : Nat → Int32), k ≤ 5 * n → 5 * n - k < nf → yp_R pa P → yp_I o a n k P0 P →
    wY_spread_39 pos (wY_spread_31 pos yBK yFA yLO yEX yVH yVV yOC n31) (nI r) yBK yFA yLO yEX yVH yVV yOC nf (nI k) ylv yls ysz yha yva yrn yrc yrr yop yar yle pa yst ynu yqt yqk yqa yon ysh ywa := by
  intro nf
  induction nf with
  | zero => intro k P pa _ h; omega
  | succ nf ih =>
    intro k P pa hk hnf hR hI
    refine pk_le (5 * n) k (fun hl => ?_) (fun hl => And.intro (by decide) ?_) (by rw [hlen, ar_5])
    · have e : k = 5 * n := by omega
      rw [e] at hI
      exact nm_r (nI_1 r) (hq P pa hR hI)
    · obtain ⟨eo, ov⟩ := ho (k / 5) (by omega)
      have hd5 : k % 5 < 5 := Nat.mod_lt _ (by decide)
      obtain ⟨i1, i2, i3⟩ := id hI
      -- nothing follows from this pair, or all that follows stands in the new set
      have hgo : ∀ (P' : Nat → Bool) (pa' : Nat → Int32), yp_R pa' P' → (∀ q, P q = true → P' q = true) → (∀ q, P' q = true → q < 80 ∧ rc_R o a n (q / 5) (q % 5)) →
          (P k = true → ∀ j e, rc_S o a n (k / 5) (k % 5) j e → P' (5 * j + e) = true) →
          wY_spread_39 pos (wY_spread_31 pos yBK yFA yLO yEX yVH yVV yOC n31) (nI r) yBK yFA yLO yEX yVH yVV yOC nf (nI (k + 1)) ylv yls ysz yha yva yrn yrc yrr yop yar yle pa' yst ynu yqt yqk yqa yon ysh ywa := by
        intro P' pa' hR' h1 h2 h3
        refine ih (k + 1) P' pa' (by omega) (by omega) hR' ⟨fun q z => h1 q (i1 q z), h2, fun q hq hq0 j e hs => ?_⟩
        by_cases eq : q = k
        · rw [eq] at hq0 hs
          exact h3 (i1 k hq0) j e hs
        · exact h1 _ (i3 q (by omega) hq0 j e hs)
      have hstay : (P k = true → ∀ j e, rc_S o a n (k / 5) (k % 5) j e → False) → wY_spread_39 pos (wY_spread_31 pos yBK yFA yLO yEX yVH yVV yOC n31) (nI r) yBK yFA yLO yEX yVH yVV yOC nf (nI (k + 1)) ylv yls ysz yha yva yrn yrc yrr yop yar yle pa yst ynu yqt yqk yqa yon ysh ywa :=
        fun h => hgo P pa hR (fun _ z => z) i2 (fun z j e hs => (h z j e hs).elim)
      rw [ar_d5 (by omega), ar_64, nI_clamp (by omega)]
      refine And.intro (vp_in_nI (by omega) (by omega)) (nm_r (e' := nI (o (k / 5))) eo (And.intro (by decide) (yk_change ov ?_)))
      have hr5 : nI k - nI (k / 5) * 5 = nI (k % 5) := by rw [← ar_d5 (by omega)]; exact ar_r5 (by omega)
      rw [hr5]
      refine nm_e (And.intro (vp_in_nI (by omega) (by omega)) ?_)
      rw [nI_clamp (by omega), hR k (by omega)]
      cases hPk : P k
      · exact br_t rfl (nm_r (nI_1 k) (hstay (fun z => by rw [hPk] at z; exact absurd z (by decide))))
      · refine br_f (by decide) (And.intro (by decide) (yk_takes ov ?_))
        have t3 := op_t3 _ ov
        refine pk_lt (k % 5) (op_t (o (k / 5))) (fun ht => ?_) (fun ht => ?_)
        · refine nm_r (nI_1 k) (hstay (fun _ j e hs => ?_))
          obtain ⟨_, _, s3, _⟩ := hs
          omega
        · rw [op_yh ov hd5 ht]
          have h6 := op_h6 (o := o (k / 5)) hd5
          refine pk_le (op_h (o (k / 5)) (k % 5)) 4 (fun h4 => ⟨n + 1, ?_⟩) (fun h4 => ?_)
          · refine yk_106 (k := k) (e := op_h (o (k / 5)) (k % 5)) hn hlen hl h4 ho ha (P0 := P) (fun P' pa' hR' hP' => hgo P' pa' hR' (fun q z => (hP' q).mpr (Or.inl z)) (fun q z => ?_) (fun _ j e hs => ?_)) (n + 1) 0 P pa (by omega) (by omega) hR (fun q => ⟨Or.inl, fun z => z.elim id (fun ⟨j, hj, _⟩ => absurd hj (Nat.not_lt_zero j))⟩)
            · rcases (hP' q).mp z with z | ⟨j, hj, eq, hed⟩
              · exact i2 q z
              · have ej : q / 5 = j := by omega
                have ed : q % 5 = op_h (o (k / 5)) (k % 5) := by omega
                refine ⟨by omega, ?_⟩
                rw [ej, ed]
                exact rc_s (i2 k hPk).2 ⟨by omega, by omega, ht, rfl, h4, hed.1, hj, hed.2⟩
            · obtain ⟨_, _, _, s4, _, s6, s7, s8⟩ := hs
              exact (hP' _).mpr (Or.inr ⟨j, s7, by rw [s4], s6, s8⟩)
          · refine nm_r (nI_1 k) (hstay (fun _ j e hs => ?_))
            obtain ⟨_, _, _, s4, s5, _⟩ := hs
            omega
theorem yk_31 (hn : n ≤ 16) (hn0 : 0 < n) (hlen : yle 4 = nI n) (ho : ∀ i, i < 16 → yop (64 + i) = nI (o i) ∧ o i < 24) (ha : ∀ i, i < 16 → yar (64 + i) = a i)
    (hq : ∀ (P : Nat → Bool) (pa : Nat → Int32), yp_R pa P → (∀ i d, i < 16 → d < 5 → (P (5 * i + d) = true ↔ rc_R o a n i d)) → pos (yBK, yFA, yLO, yEX, yVH, yVV, yOC, ylv, yls, ysz, yha, yva, yrn, yrc, yrr, yop, yar, yle, pa, yst, ynu, yqt, yqk, yqa, yon, ysh, ywa)) :
    ∀ (nf r : Nat) (P : Nat → Bool) (pa : Nat → Int32), r ≤ 80 → 80 - r < nf → yp_R pa P → P 0 = true → (∀ q, P q = true → q < 80 ∧ rc_R o a n (q / 5) (q % 5)) → ((∀ i d, rc_R o a n i d → P (5 * i + d) = true) ∨ r + 1 ≤ yp_c P) →
    wY_spread_31 pos yBK yFA yLO yEX yVH yVV yOC nf (nI r) ylv yls ysz yha yva yrn yrc yrr yop yar yle pa yst ynu yqt yqk yqa yon ysh ywa := by
  intro nf
  induction nf with
  | zero => intro r P pa _ h; omega
  | succ nf ih =>
    intro r P pa hr hnf hR h0 hP hc
    refine pk_le 80 r (fun hl => ?_) (fun hl => ⟨5 * n + 1, ?_⟩)
    · refine hq P pa hR (fun i d hi hd => ⟨fun z => ?_, fun z => ?_⟩)
      · have := (hP _ z).2
        rw [show (5 * i + d) / 5 = i from by omega, show (5 * i + d) % 5 = d from by omega] at this
        exact this
      · have h80 := yp_c80 P
        exact hc.elim (fun w => w i d z) (fun w => by omega)
    · refine yk_39 (P0 := P) hn hlen ho ha (fun P' pa' hR' hI' => ?_) (5 * n + 1) 0 P pa (by omega) (by omega) hR ⟨fun _ z => z, hP, fun q hq => absurd hq (Nat.not_lt_zero q)⟩
      obtain ⟨i1, i2, i3⟩ := hI'
      refine ih (r + 1) P' pa' (by omega) (by omega) hR' (i1 0 h0) i2 ?_
      by_cases hcl : ∀ q, q < 5 * n → P q = true → ∀ j e, rc_S o a n (q / 5) (q % 5) j e → P (5 * j + e) = true
      · refine Or.inl (fun i d z => i1 _ ?_)
        refine (z (fun i d => i < n ∧ d ≤ 4 ∧ P (5 * i + d) = true) ⟨hn0, by omega, h0⟩ (fun i d j e hp hs => ?_)).2.2
        obtain ⟨_, _, _, _, s5, _, s7, _⟩ := id hs
        refine ⟨s7, s5, hcl (5 * i + d) (by omega) hp.2.2 j e ?_⟩
        rw [show (5 * i + d) / 5 = i from by omega, show (5 * i + d) % 5 = d from by omega]
        exact hs
      · right
        rcases hc with w | w
        · exfalso
          apply hcl
          intro q hq hpq j e hs
          exact w j e (rc_s (hP q hpq).2 hs)
        · have hex : ∃ q, q < 5 * n ∧ P q = true ∧ ∃ j e, rc_S o a n (q / 5) (q % 5) j e ∧ ¬ P (5 * j + e) = true := by
            apply Classical.byContradiction
            intro hno
            apply hcl
            intro q hq hpq j e hs
            apply Classical.byContradiction
            intro hne
            exact hno ⟨q, hq, hpq, j, e, hs, hne⟩
          obtain ⟨q, hq, hpq, j, e, hs, hne⟩ := hex
          have hnew := i3 q hq hpq j e hs
          have hlt : yp_c P < yp_c P' := by
            refine sm_lt (c := 5 * j + e) ?_ (fun k _ => ?_) ((i2 _ hnew).1)
            · show (if P (5 * j + e) = true then 1 else 0) < (if P' (5 * j + e) = true then 1 else 0)
              rw [if_neg hne, if_pos hnew]
              omega
            · show (if P k = true then 1 else 0) ≤ (if P' k = true then 1 else 0)
              by_cases z : P k = true
              · rw [if_pos z, if_pos (i1 k z)]; omega
              · rw [if_neg z]; omega
          omega
theorem yk_2 (hn : n ≤ 16) (hn0 : 0 < n) (hlen : yle 4 = nI n) (ho : ∀ i, i < 16 → yop (64 + i) = nI (o i) ∧ o i < 24) (ha : ∀ i, i < 16 → yar (64 + i) = a i)
    (hq : ∀ (P : Nat → Bool) (pa : Nat → Int32), yp_R pa P → (∀ i d, i < 16 → d < 5 → (P (5 * i + d) = true ↔ rc_R o a n i d)) → pos (yBK, yFA, yLO, yEX, yVH, yVV, yOC, ylv, yls, ysz, yha, yva, yrn, yrc, yrr, yop, yar, yle, pa, yst, ynu, yqt, yqk, yqa, yon, ysh, ywa)) :
    ∀ (nf k : Nat) (pa : Nat → Int32), k ≤ 80 → 80 - k < nf → (∀ q, q < k → pa q = if q = 0 then 1 else 0) → wY_spread_2 pos yBK yFA yLO yEX yVH yVV yOC nf (nI k) ylv yls ysz yha yva yrn yrc yrr yop yar yle pa yst ynu yqt yqk yqa yon ysh ywa := by
  intro nf
  induction nf with
  | zero => intro k pa _ h; omega
  | succ nf ih =>
    intro k pa hk hnf hz
    refine pk_le 80 k (fun hl => ⟨81, ?_⟩) (fun hl => ?_)
    · refine yk_31 hn hn0 hlen ho ha hq 81 0 (fun q => decide (q = 0)) pa (by omega) (by omega) (fun q hq => ?_) rfl (fun q z => ?_) (Or.inr ?_)
      · rw [hz q (by omega)]
        by_cases e : q = 0
        · simp [e]
        · simp [e]
      · have e := of_decide_eq_true z
        rw [e]
        exact ⟨by omega, rc_0⟩
      · decide
    · have ik : vp_in (nI k) 80 := vp_in_nI hl (by omega)
      have ck : (nI k).toNatClampNeg = k := nI_clamp (by omega)
      refine pk_eq k 0 (fun e => And.intro ik (nm_r (e' := upd pa k 1) (by rw [ck, bo_1]) (nm_r (nI_1 k) (ih (k + 1) _ (by omega) (by omega) (fun q hq => ?_))))) (fun e => And.intro ik (nm_r (e' := upd pa k 0) (by rw [ck, bo_0]) (nm_r (nI_1 k) (ih (k + 1) _ (by omega) (by omega) (fun q hq => ?_)))))
      · by_cases eq : q = k
        · rw [eq, pk_us, if_pos e]
        · rw [pk_un eq]; exact hz q (by omega)
      · by_cases eq : q = k
        · rw [eq, pk_us, if_neg e]
        · rw [pk_un eq]; exact hz q (by omega)
theorem yk_spread (hn : n ≤ 16) (hn0 : 0 < n) (hlen : yle 4 = nI n) (ho : ∀ i, i < 16 → yop (64 + i) = nI (o i) ∧ o i < 24) (ha : ∀ i, i < 16 → yar (64 + i) = a i)
    (hq : ∀ (P : Nat → Bool) (pa : Nat → Int32), yp_R pa P → (∀ i d, i < 16 → d < 5 → (P (5 * i + d) = true ↔ rc_R o a n i d)) → pos (yBK, yFA, yLO, yEX, yVH, yVV, yOC, ylv, yls, ysz, yha, yva, yrn, yrc, yrr, yop, yar, yle, pa, yst, ynu, yqt, yqk, yqa, yon, ysh, ywa)) : wpY_spread pos (yBK, yFA, yLO, yEX, yVH, yVV, yOC, ylv, yls, ysz, yha, yva, yrn, yrc, yrr, yop, yar, yle, ypa, yst, ynu, yqt, yqk, yqa, yon, ysh, ywa) := by
  unfold wpY_spread
  exact ⟨81, yk_2 hn hn0 hlen ho ha hq 81 0 ypa (by omega) (by omega) (fun q hq => absurd hq (Nat.not_lt_zero q))⟩
end
end
section
/-! which instruction is faulty -/
def fa_M (M o : Nat) : Bool := decide (M &&& (2 ^ op_t o - 1) = 0) && (!(decide (o < 4 ∨ o = 15)) || decide (M &&& 16 = 0)) && decide (M &&& (M - 1) = 0)
def fa_E (o : Nat → Nat) (a : Nat → Int64) (n i : Nat) : Prop := ((o i = 20 ∨ o i = 21) ∧ ¬ ∃ j, j < n ∧ a i = lN j) ∨ (o i ≠ 20 ∧ o i < 22 ∧ i + 1 = n)
def fa_G (o : Nat → Nat) (a : Nat → Int64) (n i M : Nat) : Prop := fa_M M (o i) = true ∧ ¬ fa_E o a n i
def fy_c (M : Nat) : Nat → Nat
  | 0 => 0
  | d + 1 => fy_c M d + (if M.testBit d = true then 1 else 0)
def fy_b (M o : Nat) : Nat → Nat
  | 0 => 0
  | d + 1 => if M.testBit d = true ∧ (d < op_t o ∨ 4 < op_h o d) then 1 else fy_b M o d
def fy_q (M o : Nat) : Bool := (fa_M M o == (decide (fy_b M o 5 = 0) && decide (fy_c M 5 ≤ 1))) && (decide (M = 0) == decide (fy_c M 5 = 0)) && decide (fy_c M 5 ≤ 5) && (decide (fy_b M o 5 = 0) || !(decide (M = 0)))
theorem fy_qa : ∀ M, M < 32 → ∀ o, o < 24 → fy_q M o = true := by decide +kernel
theorem fy_eq {M o : Nat} (hM : M < 32) (ho : o < 24) : (fa_M M o = true ↔ (fy_b M o 5 = 0 ∧ fy_c M 5 ≤ 1)) ∧ (M = 0 ↔ fy_c M 5 = 0) ∧ (M = 0 → fy_b M o 5 = 0) := by
  have h := fy_qa M hM o ho
  unfold fy_q at h
  rw [Bool.and_eq_true, Bool.and_eq_true, Bool.and_eq_true, beq_iff_eq, beq_iff_eq] at h
  obtain ⟨⟨⟨h1, h2⟩, _⟩, h4⟩ := h
  refine ⟨?_, decide_eq_decide.mp h2, fun z => ?_⟩
  · rw [h1, Bool.and_eq_true, decide_eq_true_iff, decide_eq_true_iff]
  · rw [Bool.or_eq_true] at h4
    rcases h4 with h4 | h4
    · exact of_decide_eq_true h4
    · rw [decide_eq_true z] at h4; exact absurd h4 (by decide)
theorem fy_bl (M o : Nat) : ∀ d, fy_b M o d ≤ 1
  | 0 => Nat.zero_le _
  | d + 1 => by
    have := fy_bl M o d
    simp only [fy_b]
    split <;> omega
theorem fy_cl (M : Nat) : ∀ d, fy_c M d ≤ d
  | 0 => Nat.le_refl _
  | d + 1 => by
    have := fy_cl M d
    simp only [fy_c]
    split <;> omega
theorem ar_f1 : ∀ M, M < 32 → ∀ t, t < 3 → nI M &&& (((1 : Int32) <<< (nI t &&& 31)) - 1) = nI (M &&& (2 ^ t - 1)) := by decide +kernel
theorem ar_f1l : ∀ M, M < 32 → ∀ t, t < 3 → (M &&& (2 ^ t - 1)) < 32 := by decide +kernel
theorem ar_f2 : ∀ M, M < 32 → nI M &&& 16 = nI (M &&& 16) ∧ (M &&& 16) < 32 := by decide +kernel
theorem ar_f3 : ∀ M, M < 32 → nI M &&& (nI M - 1) = nI (M &&& (M - 1)) ∧ (M &&& (M - 1)) < 32 := by decide +kernel
section
variable {xWC xLV xPF xLO xEX xWS xDR xVT xCH : Int32} {xVV xOC : Int64} {xcp xcc xwi xtg xrn xrc xnu xrt xra xrk xan xdo xhe xfr xta xso xsr xsn xsx xsc xsd xse xdp : Nat → Int32} {xst xrr xrs xdc xsk xrg : Nat → Int64}
variable {post : Int32 → Prop} {o : Nat → Nat} {a : Nat → Int64} {n i M : Nat}
theorem xf_faulty (hn : n ≤ 16) (hi : i < n) (ho : xdo i = nI (o i)) (hv : o i < 24) (ha : xdc i = a i) (hM : xhe i = nI M) (hM3 : M < 32) (h0 : fa_G o a n i M → post 0) (h1 : ¬ fa_G o a n i M → post 1) : wpX_faulty post (xWC, xLV, xPF, xLO, xEX, xWS, xDR, xVT, xVV, xOC, xCH, xcp, xcc, xwi, xtg, xst, xrn, xrc, xrr, xnu, xrt, xra, xrk, xan, xrs, xdo, xdc, xhe, xfr, xta, xso, xsr, xsn, xsx, xsc, xsd, xse, xsk, xdp, xrg) (nI i) (nI n) := by
  have ii : vp_in (nI i) 16 := vp_in_nI (by omega) (by omega)
  have ci : (nI i).toNatClampNeg = i := nI_clamp (by omega)
  have t3 := op_t3 _ hv
  have l1 := ar_f1l M hM3 _ t3
  obtain ⟨e2, l2⟩ := ar_f2 M hM3
  obtain ⟨e3, l3⟩ := ar_f3 M hM3
  have h46 : M &&& (2 ^ op_t (o i) - 1) = 0 → (¬ (o i < 4 ∨ o i = 15) ∨ M &&& 16 = 0) → wX_faulty_46 post (nI i) (nI n) (nI (o i)) (nI M) xWC xLV xPF xLO xEX xWS xDR xVT xVV xOC xCH xcp xcc xwi xtg xst xrn xrc xrr xnu xrt xra xrk xan xrs xdo xdc xhe xfr xta xso xsr xsn xsx xsc xsd xse xsk xdp xrg := by
    intro q1 q2
    unfold wX_faulty_46
    rw [e3, ci, ha]
    refine pk_eq (M &&& (M - 1)) 0 (fun q3 => And.intro ii ?_) (fun q3 => h1 (fun z => ?_))
    · have hg : fa_M M (o i) = true := by
        unfold fa_M
        rw [decide_eq_true q1, decide_eq_true q3]
        rcases q2 with q2 | q2
        · rw [decide_eq_false q2]; rfl
        · rw [decide_eq_true q2]; simp
      have hend : ((o i = 20 ∨ o i = 21) → ∃ j, j < n ∧ a i = lN j) → ((nI (o i) = 20 → post 0) ∧ (¬ nI (o i) = 20 → ((22 ≤ nI (o i) → post 0) ∧ (¬ 22 ≤ nI (o i) → ((nI i + 1 = nI n → post 1) ∧ (¬ nI i + 1 = nI n → post 0)))))) := by
        intro hin
        rw [nI_1]
        refine pk_eq (o i) 20 (fun e => h0 ⟨hg, fun z => z.elim (fun w => w.2 (hin w.1)) (fun w => w.1 e)⟩) (fun e20 => pk_le 22 (o i) (fun e => h0 ⟨hg, fun z => z.elim (fun w => w.2 (hin w.1)) (fun w => by have := w.2.1; omega)⟩) (fun e22 => ?_))
        exact pk_eq (i + 1) n (fun e => h1 (fun z => z.2 (Or.inr ⟨e20, e22, e⟩))) (fun e => h0 ⟨hg, fun z => z.elim (fun w => w.2 (hin w.1)) (fun w => e w.2.2)⟩)
      by_cases hj : o i = 20 ∨ o i = 21
      · exact xk_inside (by omega) hj (fun j hj' e => br_f (by decide) (hend (fun _ => ⟨j, hj', e⟩))) (fun hno => br_t rfl (h1 (fun z => z.2 (Or.inl ⟨hj, hno⟩))))
      · exact xk_insideN hv (fun e => hj (Or.inl e)) (fun e => hj (Or.inr e)) (br_f (by decide) (hend (fun z => absurd z hj)))
    · have := z.1
      unfold fa_M at this
      rw [Bool.and_eq_true, decide_eq_true_iff (p := M &&& (M - 1) = 0)] at this
      exact q3 this.2
  unfold wpX_faulty
  refine And.intro ii (nm_r (e' := nI (o i)) (by rw [ci]; exact ho) (And.intro ii (nm_r (e' := nI M) (by rw [ci]; exact hM) (xk_takes hv ?_))))
  rw [ar_f1 M hM3 _ t3]
  refine pk_eq (M &&& (2 ^ op_t (o i) - 1)) 0 (fun q1 => xk_growth hv ?_) (fun q1 => h1 (fun z => ?_))
  · by_cases g1 : o i < 4 ∨ o i = 15
    · rw [show op_g (o i) = 1 from if_pos g1, e2]
      refine br_f (by decide) (pk_eq (M &&& 16) 0 (fun q2 => h46 q1 (Or.inr q2)) (fun q2 => h1 (fun z => ?_)))
      have := z.1
      unfold fa_M at this
      rw [Bool.and_eq_true, Bool.and_eq_true, decide_eq_true g1, Bool.not_true, Bool.false_or, decide_eq_true_iff (p := M &&& 16 = 0)] at this
      exact q2 this.1.2
    · have : op_g (o i) = -1 ∨ op_g (o i) = 0 := by
        unfold op_g
        rw [if_neg g1]
        split
        · exact Or.inl rfl
        · exact Or.inr rfl
      rcases this with e | e
      · rw [e]; exact br_t (by decide) (h46 q1 (Or.inl g1))
      · rw [e]; exact br_t (by decide) (h46 q1 (Or.inl g1))
  · have := z.1
    unfold fa_M at this
    rw [Bool.and_eq_true, Bool.and_eq_true, decide_eq_true_iff (p := M &&& (2 ^ op_t (o i) - 1) = 0)] at this
    exact q1 this.1.1
end
section
variable {yBK yFA yLO yEX yVH : Int32} {yVV yOC : Int64} {ylv yls ysz yha yrn yrc yop yle ypa ynu yqt yqk yqa yon ywa : Nat → Int32} {yva yrr yar yst ysh : Nat → Int64}
variable {post : Int32 → Prop} {o : Nat → Nat} {a : Nat → Int64} {n i M : Nat}
theorem yf_out (hn : n ≤ 16) (hi : i < n) (hlen : yle 4 = nI n) (ho : yop (64 + i) = nI (o i)) (hv : o i < 24) (ha : yar (64 + i) = a i) (h1 : fa_E o a n i → post 1) (h0 : ¬ fa_E o a n i → post 0) : wpY_out post (yBK, yFA, yLO, yEX, yVH, yVV, yOC, ylv, yls, ysz, yha, yva, yrn, yrc, yrr, yop, yar, yle, ypa, yst, ynu, yqt, yqk, yqa, yon, ysh, ywa) (nI i) := by
  have ii : vp_in (64 + nI i) 80 := by rw [ar_64]; exact vp_in_nI (by omega) (by omega)
  have ci : (64 + nI i).toNatClampNeg = 64 + i := by rw [ar_64, nI_clamp (by omega)]
  have h66 : ((o i = 20 ∨ o i = 21) → ∃ j, j < n ∧ a i = lN j) → wY_out_66 post (nI i) (nI (o i)) yBK yFA yLO yEX yVH yVV yOC ylv yls ysz yha yva yrn yrc yrr yop yar yle ypa yst ynu yqt yqk yqa yon ysh ywa := by
    intro hin
    unfold wY_out_66
    rw [nI_1, hlen]
    refine pk_eq (o i) 20 (fun e => h0 (fun z => z.elim (fun w => w.2 (hin w.1)) (fun w => w.1 e))) (fun e20 => pk_le 22 (o i) (fun e => h0 (fun z => z.elim (fun w => w.2 (hin w.1)) (fun w => by have := w.2.1; omega))) (fun e22 => ?_))
    exact pk_eq (i + 1) n (fun e => h1 (Or.inr ⟨e20, e22, e⟩)) (fun e => h0 (fun z => z.elim (fun w => w.2 (hin w.1)) (fun w => e w.2.2)))
  have h22 : (o i = 20 ∨ o i = 21) → wY_out_22 post (nI i) (nI (o i)) yBK yFA yLO yEX yVH yVV yOC ylv yls ysz yha yva yrn yrc yrr yop yar yle ypa yst ynu yqt yqk yqa yon ysh ywa := by
    intro hj
    unfold wY_out_22 wY_out_27
    rw [ci, ha, hlen, nI_l (by omega)]
    refine br_f (by decide) (And.intro ii (br_c (fun hc => h1 (Or.inl ⟨hj, ?_⟩)) (fun hc => And.intro ii ?_)))
    · rintro ⟨j, hj', e⟩
      rw [e, show (0 : Int64) = lN 0 from rfl, lN_lt (by omega) (by omega)] at hc
      omega
    · obtain ⟨k, hk, ek⟩ := pk_lOf hc
      rw [ek]
      refine br_c (fun hl => h1 (Or.inl ⟨hj, ?_⟩)) (fun hl => h66 (fun _ => ⟨k, ?_, ek⟩))
      · rw [pk_lLE (by omega) hk] at hl
        rintro ⟨j, hj', e⟩
        rw [ek, pk_lEQ hk (by omega)] at e
        omega
      · rw [pk_lLE (by omega) hk] at hl
        omega
  unfold wpY_out
  refine And.intro ii (nm_r (e' := nI (o i)) (by rw [ci]; exact ho) (pk_eq (o i) 20 (fun e => h22 (Or.inl e)) (fun e20 => pk_eq (o i) 21 (fun e => h22 (Or.inr e)) (fun e21 => ?_))))
  unfold wY_out_27
  exact br_t rfl (h66 (fun z => absurd z (by omega)))
theorem yf_7 (hn : n ≤ 16) (hi : i < n) (hlen : yle 4 = nI n) (ho : yop (64 + i) = nI (o i)) (hv : o i < 24) (ha : yar (64 + i) = a i) (hM : M < 32) (hP : ∀ d, d < 5 → ypa (5 * i + d) = if M.testBit d = true then 1 else 0)
    (h0 : (M = 0 ∨ fa_G o a n i M) → post 0) (h1 : ¬ (M = 0 ∨ fa_G o a n i M) → post 1) :
    ∀ (nf d : Nat), d ≤ 5 → 5 - d < nf → wY_faulty_7 post (nI i) yBK yFA yLO yEX yVH yVV yOC ylv yls ysz yha yva yrn yrc yrr yop yar yle ypa yst ynu yqt yqk yqa yon ysh ywa nf (nI (fy_c M d)) (nI (fy_b M (o i) d)) (nI d) := by
  obtain ⟨f1, f2, f3⟩ := fy_eq hM hv
  have ii : vp_in (64 + nI i) 80 := by rw [ar_64]; exact vp_in_nI (by omega) (by omega)
  have ci : (64 + nI i).toNatClampNeg = 64 + i := by rw [ar_64, nI_clamp (by omega)]
  have t3 := op_t3 _ hv
  intro nf
  induction nf with
  | zero => intro d _ h; omega
  | succ nf ih =>
    intro d hd hnf
    have bl := fy_bl M (o i) d
    have cl := fy_cl M d
    refine pk_le 5 d (fun h5 => ?_) (fun h5 => ?_)
    · have e : d = 5 := by omega
      rw [e] at bl cl ⊢
      refine pk_eq (fy_b M (o i) 5) 0 (fun hb => pk_lt 1 (fy_c M 5) (fun hc => h1 (fun z => ?_)) (fun hc => pk_le (fy_c M 5) 0 (fun hz => h0 (Or.inl (f2.mpr (by omega)))) (fun hz => ?_))) (fun hb => h1 (fun z => ?_))
      · rcases z with z | z
        · have := f2.mp z; omega
        · have := (f1.mp z.1).2; omega
      · have hM0 : M ≠ 0 := fun z => by have := f2.mp z; omega
        have hg := f1.mpr ⟨hb, hc⟩
        exact yf_out hn hi hlen ho hv ha (fun hE => br_f (by decide) (h1 (fun z => z.elim hM0 (fun w => w.2 hE)))) (fun hE => br_t rfl (h0 (Or.inr ⟨hg, hE⟩)))
      · rcases z with z | z
        · exact hb (f3 z)
        · exact hb (f1.mp z.1).1
    · rw [ar_5i, nI_clamp (by omega), hP d h5]
      refine And.intro (vp_in_nI (by omega) (by omega)) ?_
      cases hb : M.testBit d
      · refine br_t rfl (nm_r (nI_1 d) ?_)
        have K := ih (d + 1) (by omega) (by omega)
        have ec : fy_c M (d + 1) = fy_c M d := by simp only [fy_c]; rw [hb]; rfl
        have eb : fy_b M (o i) (d + 1) = fy_b M (o i) d := by simp only [fy_b]; rw [hb]; exact if_neg (fun z => absurd z.1 (by decide))
        rw [ec, eb] at K
        exact K
      · have K := ih (d + 1) (by omega) (by omega)
        have ec : fy_c M (d + 1) = fy_c M d + 1 := by simp only [fy_c]; rw [hb]; rfl
        rw [ec] at K
        rw [ci, ho]
        refine br_f (by decide) (nm_r (nI_1 _) (And.intro ii (yk_takes hv ?_)))
        have eb1 : (d < op_t (o i) ∨ 4 < op_h (o i) d) → fy_b M (o i) (d + 1) = 1 := by intro z; simp only [fy_b]; exact if_pos ⟨hb, z⟩
        have eb0 : ¬ (d < op_t (o i) ∨ 4 < op_h (o i) d) → fy_b M (o i) (d + 1) = fy_b M (o i) d := by intro z; simp only [fy_b]; exact if_neg (fun w => z w.2)
        refine pk_lt d (op_t (o i)) (fun ht => ?_) (fun ht => And.intro ii (yk_change hv ?_))
        · rw [eb1 (Or.inl ht)] at K
          exact nm_r (nI_1 d) K
        · rw [op_yh hv h5 ht]
          have h6 := op_h6 (o := o i) h5
          refine pk_le (op_h (o i) d) 4 (fun h4 => ?_) (fun h4 => ?_)
          · rw [eb0 (by omega)] at K
            exact nm_r (nI_1 d) K
          · rw [eb1 (Or.inr h4)] at K
            exact nm_r (nI_1 d) K
theorem yf_faulty (hn : n ≤ 16) (hi : i < n) (hlen : yle 4 = nI n) (ho : yop (64 + i) = nI (o i)) (hv : o i < 24) (ha : yar (64 + i) = a i) (hM : M < 32) (hP : ∀ d, d < 5 → ypa (5 * i + d) = if M.testBit d = true then 1 else 0)
    (h0 : (M = 0 ∨ fa_G o a n i M) → post 0) (h1 : ¬ (M = 0 ∨ fa_G o a n i M) → post 1) : wpY_faulty post (yBK, yFA, yLO, yEX, yVH, yVV, yOC, ylv, yls, ysz, yha, yva, yrn, yrc, yrr, yop, yar, yle, ypa, yst, ynu, yqt, yqk, yqa, yon, ysh, ywa) (nI i) := by
  unfold wpY_faulty
  exact ⟨6, yf_7 hn hi hlen ho hv ha hM hP h0 h1 6 0 (by omega) (by omega)⟩
end
end
section
theorem ex_Js {o : Nat → Nat} {a : Nat → Int64} {N g j : Nat} (hj : j < N) (hg : g < 16) (ho : o j = 20) (ha : a j = lN g) : ∀ k i, ex_J o a N k i j → ex_J o a N (k + 1) i g := by
  intro k
  induction k with
  | zero =>
    intro i h
    have e : i = j := h
    rw [e]
    exact ⟨hj, ho, g, hg, ha, rfl⟩
  | succ k ih =>
    intro i h
    obtain ⟨h1, h2, g', h3, h4, h5⟩ := h
    exact ⟨h1, h2, g', h3, h4, ih g' h5⟩
/-- the step of instruction i, met with height h -/
def tr_G (o : Nat → Nat) (a : Nat → Int64) (n i h : Nat) (so sr sn sx sc sd se : Int32) (sk : Int64) : Prop :=
  sr = nI h ∧ sk = a i ∧
    ((so = nI (o i) ∧ sc = nI 1 ∧ (o i < 22 → ex_q2 o a n i sd sn)) ∨
      (o i = 0 ∧ 4 ≤ o (i + 1) ∧ o (i + 1) < 15 ∧ so = nI (o (i + 1) + 20) ∧ sc = nI 2 ∧ ∃ k j, k ≤ 100 ∧ sd = nI k ∧ sn = nI j ∧ ex_J o a n k (i + 2) j)) ∧
    (o i = 21 → ex_q3 o a n i se sx)
theorem ar_nss : ∀ t, t < 128 → (nI t).toInt16.toInt32 = nI t := by decide +kernel
theorem ar_ns {t : Nat} (h : t < 128) : vp_nar .short (nI t).toInt16.toInt32 = nI t := by
  rw [ar_nss t h, vp_nar_short]; exact ar_nss t h
/-- a jump that is met has an instruction as its target -/
def tr_V (o : Nat → Nat) (a : Nat → Int64) (n : Nat) (H : Nat → Nat) : Prop := ∀ i, i < n → H i ≠ 0 → (o i = 20 ∨ o i = 21) → ∃ g, g < n ∧ a i = lN g
section
variable {xWC xLV xPF xLO xEX xWS xDR xVT xCH : Int32} {xVV xOC : Int64} {xcp xcc xwi xtg xrn xrc xnu xrt xra xrk xan xdo xhe xfr xta xso xsr xsn xsx xsc xsd xse xdp : Nat → Int32} {xst xrr xrs xdc xsk xrg : Nat → Int64}
variable {poi : Int32 → SX → Prop} {pos : SX → Prop} {o : Nat → Nat} {a : Nat → Int64} {H : Nat → Nat} {n i h t g : Nat}
theorem xt_chase7 (hn : n ≤ 16) (ho : ∀ i, i < 16 → xdo i = nI (o i) ∧ o i < 24) (ha : ∀ i, i < 16 → xdc i = a i) (hH : ∀ i, i < 16 → xhe i = nI (H i) ∧ H i < 32) (hV : tr_V o a n H)
    (hq : ∀ k j, k ≤ 100 → j ≤ 16 → ex_J o a n k g j → poi (nI j) (xWC, xLV, xPF, xLO, xEX, xWS, xDR, xVT, xVV, xOC, nI k, xcp, xcc, xwi, xtg, xst, xrn, xrc, xrr, xnu, xrt, xra, xrk, xan, xrs, xdo, xdc, xhe, xfr, xta, xso, xsr, xsn, xsx, xsc, xsd, xse, xsk, xdp, xrg)) :
    ∀ (nf x k : Nat), x ≤ 16 → k ≤ 100 → 100 - k < nf → ex_J o a n k g x → wX_chase_7 poi (nI n) xWC xLV xPF xLO xEX xWS xDR xVT xVV xOC xcp xcc xwi xtg xst xrn xrc xrr xnu xrt xra xrk xan xrs xdo xdc xhe xfr xta xso xsr xsn xsx xsc xsd xse xsk xdp xrg nf (nI x) (nI k) := by
  intro nf
  induction nf with
  | zero => intro x k _ _ h; omega
  | succ nf ih =>
    intro x k hx hk hnf hJ
    refine pk_le n x (fun hl => hq k x hk hx hJ) (fun hl => ?_)
    have ix : vp_in (nI x) 16 := vp_in_nI (by omega) (by omega)
    have cx : (nI x).toNatClampNeg = x := nI_clamp (by omega)
    obtain ⟨eo, ov⟩ := ho x (by omega)
    obtain ⟨eH, Hl⟩ := hH x (by omega)
    refine And.intro ix (pk_eq (o x) 20 (fun e20 => And.intro ix (pk_eq (H x) 0 (fun _ => hq k x hk hx hJ) (fun hH0 => pk_le 100 k (fun _ => hq k x hk hx hJ) (fun hk1 => And.intro ix ?_)) (by rw [cx]; exact eH))) (fun _ => hq k x hk hx hJ) (by rw [cx]; exact eo))
    obtain ⟨g', hg', ea⟩ := hV x hl hH0 (Or.inl e20)
    refine nm_r (e' := nI g') (by rw [cx, ha x (by omega), ea, lN_i]) (nm_r (nI_1 k) (ih g' (k + 1) (by omega) (by omega) (by omega) (ex_Js hl (by omega) e20 ea k g hJ)))
theorem xt_chase (hn : n ≤ 16) (hg : g ≤ 16) (ho : ∀ i, i < 16 → xdo i = nI (o i) ∧ o i < 24) (ha : ∀ i, i < 16 → xdc i = a i) (hH : ∀ i, i < 16 → xhe i = nI (H i) ∧ H i < 32) (hV : tr_V o a n H)
    (hq : ∀ k j, k ≤ 100 → j ≤ 16 → ex_J o a n k g j → poi (nI j) (xWC, xLV, xPF, xLO, xEX, xWS, xDR, xVT, xVV, xOC, nI k, xcp, xcc, xwi, xtg, xst, xrn, xrc, xrr, xnu, xrt, xra, xrk, xan, xrs, xdo, xdc, xhe, xfr, xta, xso, xsr, xsn, xsx, xsc, xsd, xse, xsk, xdp, xrg)) : wpX_chase poi (xWC, xLV, xPF, xLO, xEX, xWS, xDR, xVT, xVV, xOC, xCH, xcp, xcc, xwi, xtg, xst, xrn, xrc, xrr, xnu, xrt, xra, xrk, xan, xrs, xdo, xdc, xhe, xfr, xta, xso, xsr, xsn, xsx, xsc, xsd, xse, xsk, xdp, xrg) (nI g) (nI n) := by
  unfold wpX_chase
  exact ⟨101, xt_chase7 hn ho ha hH hV hq 101 g 0 hg (by omega) (by omega) rfl⟩
theorem xt_202 (hn : n ≤ 16) (hi : i < n) (ht : t < 4) (hg : g ≤ 16) (ho : ∀ i, i < 16 → xdo i = nI (o i) ∧ o i < 24) (ha : ∀ i, i < 16 → xdc i = a i) (hH : ∀ i, i < 16 → xhe i = nI (H i) ∧ H i < 32) (hV : tr_V o a n H) (hHi : H i ≠ 0)
    (hp : ∀ (ch : Int32) (sn sx sd se : Nat → Int32), (∀ q, q ≠ 16 * t + i → sn q = xsn q ∧ sx q = xsx q ∧ sd q = xsd q ∧ se q = xse q) →
      (∃ k j, k ≤ 100 ∧ sd (16 * t + i) = nI k ∧ sn (16 * t + i) = nI j ∧ ex_J o a n k g j) → (o i = 21 → ex_q3 o a n i (se (16 * t + i)) (sx (16 * t + i))) → pos (xWC, xLV, xPF, xLO, xEX, xWS, xDR, xVT, xVV, xOC, ch, xcp, xcc, xwi, xtg, xst, xrn, xrc, xrr, xnu, xrt, xra, xrk, xan, xrs, xdo, xdc, xhe, xfr, xta, xso, xsr, sn, sx, xsc, sd, se, xsk, xdp, xrg)) :
    wX_translate_202 pos (nI i) (nI n) (nI (16 * t + i)) (nI (o i)) (nI g) (nI (16 * t + i)) xWC xLV xPF xLO xEX xWS xDR xVT xVV xOC xCH xcp xcc xwi xtg xst xrn xrc xrr xnu xrt xra xrk xan xrs xdo xdc xhe xfr xta xso xsr xsn xsx xsc xsd xse xsk xdp xrg := by
  have ii : vp_in (nI i) 16 := vp_in_nI (by omega) (by omega)
  have ci : (nI i).toNatClampNeg = i := nI_clamp (by omega)
  have ic : vp_in (nI (16 * t + i)) 64 := vp_in_nI (by omega) (by omega)
  have cc : (nI (16 * t + i)).toNatClampNeg = 16 * t + i := nI_clamp (by omega)
  have ov := (ho i (by omega)).2
  unfold wX_translate_202
  refine xt_chase hn hg ho ha hH hV (fun k j hk hj hJ => And.intro ic ?_)
  refine nm_r (e' := upd xsn (16 * t + i) (nI j)) (by rw [cc, ar_nbb (by omega)]) (And.intro ic (nm_r (e' := upd xsd (16 * t + i) (nI k)) (by rw [cc, ar_ns (by omega)]) (pk_eq (o i) 21 (fun e21 => And.intro ii ?_) (fun e21 => ?_))))
  · obtain ⟨g', hg', ea⟩ := hV i hi hHi (Or.inr e21)
    rw [ci, ha i (by omega), ea, lN_i]
    refine xt_chase hn (by omega) ho ha hH hV (fun k' j' hk' hj' hJ' => And.intro ic ?_)
    refine nm_r (e' := upd xsx (16 * t + i) (nI j')) (by rw [cc, ar_nbb (by omega)]) (And.intro ic (nm_r (e' := upd xse (16 * t + i) (nI k')) (by rw [cc, ar_ns (by omega)]) ?_))
    refine hp _ _ _ _ _ (fun q hq => ⟨pk_un hq, pk_un hq, pk_un hq, pk_un hq⟩) ⟨k, j, hk, pk_us, pk_us, hJ⟩ (fun _ => ?_)
    rw [pk_us, pk_us]
    exact ⟨g', k', j', ea, by omega, hk', rfl, rfl, hJ'⟩
  · exact hp _ _ _ _ _ (fun q hq => ⟨pk_un hq, rfl, pk_un hq, rfl⟩) ⟨k, j, hk, pk_us, pk_us, hJ⟩ (fun z => absurd z e21)
/-- the frame of a translation: nothing but the cell changes -/
theorem xt_121 {b w : Nat} (hn : n ≤ 16) (hi : i < n) (ht : t < 4) (hh : h ≤ 4) (ho : ∀ i, i < 16 → xdo i = nI (o i) ∧ o i < 24) (ha : ∀ i, i < 16 → xdc i = a i) (hH : ∀ i, i < 16 → xhe i = nI (H i) ∧ H i < 32) (hV : tr_V o a n H) (hHi : H i ≠ 0)
    (hb : (b = 0 ∧ w = o i) ∨ (b = 1 ∧ o i = 0 ∧ i + 1 < n ∧ 4 ≤ o (i + 1) ∧ o (i + 1) < 15 ∧ w = o (i + 1) + 20))
    (hp : ∀ (ch : Int32) (so sr sn sx sc sd se : Nat → Int32) (sk : Nat → Int64), (∀ q, q ≠ 16 * t + i → so q = xso q ∧ sr q = xsr q ∧ sn q = xsn q ∧ sx q = xsx q ∧ sc q = xsc q ∧ sd q = xsd q ∧ se q = xse q ∧ sk q = xsk q) →
      tr_G o a n i h (so (16 * t + i)) (sr (16 * t + i)) (sn (16 * t + i)) (sx (16 * t + i)) (sc (16 * t + i)) (sd (16 * t + i)) (se (16 * t + i)) (sk (16 * t + i)) →
      pos (xWC, xLV, xPF, xLO, xEX, xWS, xDR, xVT, xVV, xOC, ch, xcp, xcc, xwi, xtg, xst, xrn, xrc, xrr, xnu, xrt, xra, xrk, xan, xrs, xdo, xdc, xhe, xfr, xta, so, sr, sn, sx, sc, sd, se, sk, xdp, xrg)) :
    wX_translate_121 pos (nI i) (nI n) (nI (16 * t + i)) (nI (o i)) (nI h) (nI b) (nI w) (nI (16 * t + i)) xWC xLV xPF xLO xEX xWS xDR xVT xVV xOC xCH xcp xcc xwi xtg xst xrn xrc xrr xnu xrt xra xrk xan xrs xdo xdc xhe xfr xta xso xsr xsn xsx xsc xsd xse xsk xdp xrg := by
  have ii : vp_in (nI i) 16 := vp_in_nI (by omega) (by omega)
  have ci : (nI i).toNatClampNeg = i := nI_clamp (by omega)
  have ic : vp_in (nI (16 * t + i)) 64 := vp_in_nI (by omega) (by omega)
  have cc : (nI (16 * t + i)).toNatClampNeg = 16 * t + i := nI_clamp (by omega)
  have ov := (ho i (by omega)).2
  unfold wX_translate_121
  refine And.intro ic (nm_r (e' := upd xso (16 * t + i) (nI w)) (by rw [cc, ar_nbb (by omega)]) (And.intro ic (nm_r (e' := upd xsr (16 * t + i) (nI h)) (by rw [cc, ar_nbb (by omega)]) (And.intro ii (And.intro ic (nm_r (e' := vp_updL xsk (16 * t + i) (a i)) (by rw [cc, ci, ha i (by omega)]) ?_))))))
  -- the rest, by the cost and the target
  have hrest : ∀ (c g : Nat), g ≤ 16 → c < 10 → (∀ (sn sx sd se : Nat → Int32), (∃ k j, k ≤ 100 ∧ sd (16 * t + i) = nI k ∧ sn (16 * t + i) = nI j ∧ ex_J o a n k g j) → (o i = 21 → ex_q3 o a n i (se (16 * t + i)) (sx (16 * t + i))) →
      tr_G o a n i h (nI w) (nI h) (sn (16 * t + i)) (sx (16 * t + i)) (nI c) (sd (16 * t + i)) (se (16 * t + i)) (a i)) →
      wX_translate_202 pos (nI i) (nI n) (nI (16 * t + i)) (nI (o i)) (nI g) (nI (16 * t + i)) xWC xLV xPF xLO xEX xWS xDR xVT xVV xOC xCH xcp xcc xwi xtg xst xrn xrc xrr xnu xrt xra xrk xan xrs xdo xdc xhe xfr xta (upd xso (16 * t + i) (nI w)) (upd xsr (16 * t + i) (nI h)) xsn xsx (upd xsc (16 * t + i) (nI c)) xsd xse (vp_updL xsk (16 * t + i) (a i)) xdp xrg := by
    intro c g hg hc hgo
    refine xt_202 hn hi ht hg ho ha hH hV hHi (fun ch sn sx sd se hf hk h21 => ?_)
    refine hp ch _ _ sn sx _ sd se _ (fun q hq => ?_) ?_
    · obtain ⟨f1, f2, f3, f4⟩ := hf q hq
      exact ⟨pk_un hq, pk_un hq, f1, f2, pk_un hq, f3, f4, pk_uLn hq⟩
    · rw [pk_us, pk_us, pk_us, pk_uLs]
      exact hgo sn sx sd se hk h21
  rcases hb with ⟨b0, ew⟩ | ⟨b1, f0, f1, f2, f3, ew⟩
  · refine br_t (by rw [b0]; rfl) ?_
    unfold wX_translate_162
    refine And.intro ic (nm_r (e' := upd xsc (16 * t + i) (nI 1)) (by rw [cc]; exact congrArg _ (ar_ns (t := 1) (by decide))) (pk_eq (o i) 20 (fun e20 => And.intro ii ?_) (fun e20 => br_t (by rw [b0]; rfl) ?_)))
    · obtain ⟨g', hg', ea⟩ := hV i hi hHi (Or.inl e20)
      rw [ci, ha i (by omega), ea, lN_i, ← ea]
      refine hrest 1 g' (by omega) (by omega) (fun sn sx sd se hk h21 => ⟨rfl, rfl, Or.inl ⟨by rw [ew], rfl, fun _ => ?_⟩, h21⟩)
      obtain ⟨k, j, k1, k2, k3, k4⟩ := hk
      exact ⟨g', k, j, fun _ => ⟨ea, by omega⟩, fun z => absurd e20 z, k1, k2, k3, k4⟩
    · rw [nI_1]
      refine hrest 1 (i + 1) (by omega) (by omega) (fun sn sx sd se hk h21 => ⟨rfl, rfl, Or.inl ⟨by rw [ew], rfl, fun _ => ?_⟩, h21⟩)
      obtain ⟨k, j, k1, k2, k3, k4⟩ := hk
      exact ⟨i + 1, k, j, fun z => absurd z e20, fun _ => rfl, k1, k2, k3, k4⟩
  · refine br_f (by rw [b1]; decide) ?_
    unfold wX_translate_162
    refine And.intro ic (nm_r (e' := upd xsc (16 * t + i) (nI 2)) (by rw [cc]; exact congrArg _ (ar_ns (t := 2) (by decide))) (pk_eq (o i) 20 (fun e20 => absurd e20 (by omega)) (fun e20 => br_f (by rw [b1]; decide) ?_)))
    rw [show nI i + 2 = nI (i + 2) from nI_add i 2]
    exact hrest 2 (i + 2) (by omega) (by omega) (fun sn sx sd se hk h21 => ⟨rfl, rfl, Or.inr ⟨f0, f2, f3, by rw [ew], rfl, hk⟩, h21⟩)
theorem xt_19 (hn : n ≤ 16) (hi : i < n) (ht : t < 4) (hh : h ≤ 4) (ho : ∀ i, i < 16 → xdo i = nI (o i) ∧ o i < 24) (ha : ∀ i, i < 16 → xdc i = a i) (hH : ∀ i, i < 16 → xhe i = nI (H i) ∧ H i < 32) (hV : tr_V o a n H) (hHi : H i = 2 ^ h)
    (hp : ∀ (ch : Int32) (so sr sn sx sc sd se : Nat → Int32) (sk : Nat → Int64), (∀ q, q ≠ 16 * t + i → so q = xso q ∧ sr q = xsr q ∧ sn q = xsn q ∧ sx q = xsx q ∧ sc q = xsc q ∧ sd q = xsd q ∧ se q = xse q ∧ sk q = xsk q) →
      tr_G o a n i h (so (16 * t + i)) (sr (16 * t + i)) (sn (16 * t + i)) (sx (16 * t + i)) (sc (16 * t + i)) (sd (16 * t + i)) (se (16 * t + i)) (sk (16 * t + i)) →
      pos (xWC, xLV, xPF, xLO, xEX, xWS, xDR, xVT, xVV, xOC, ch, xcp, xcc, xwi, xtg, xst, xrn, xrc, xrr, xnu, xrt, xra, xrk, xan, xrs, xdo, xdc, xhe, xfr, xta, so, sr, sn, sx, sc, sd, se, sk, xdp, xrg)) :
    ∀ (nf d : Nat), d ≤ h → h - d < nf → wX_translate_19 pos (nI i) (nI n) (nI (16 * t + i)) (nI (o i)) xWC xLV xPF xLO xEX xWS xDR xVT xVV xOC xCH xcp xcc xwi xtg xst xrn xrc xrr xnu xrt xra xrk xan xrs xdo xdc xhe xfr xta xso xsr xsn xsx xsc xsd xse xsk xdp xrg nf (nI d) := by
  have ii : vp_in (nI i) 16 := vp_in_nI (by omega) (by omega)
  have ci : (nI i).toNatClampNeg = i := nI_clamp (by omega)
  obtain ⟨eo, ov⟩ := ho i (by omega)
  obtain ⟨eH, Hl⟩ := hH i (by omega)
  have hH0 : H i ≠ 0 := by rw [hHi]; exact Nat.ne_of_gt (Nat.pow_pos (by decide))
  have h91 : wX_translate_91 pos (nI i) (nI n) (nI (16 * t + i)) (nI (o i)) (nI h) xWC xLV xPF xLO xEX xWS xDR xVT xVV xOC xCH xcp xcc xwi xtg xst xrn xrc xrr xnu xrt xra xrk xan xrs xdo xdc xhe xfr xta xso xsr xsn xsx xsc xsd xse xsk xdp xrg := by
    unfold wX_translate_91 wX_translate_92
    exact br_t rfl (xt_121 (b := 0) (w := o i) hn hi ht hh ho ha hH hV hH0 (Or.inl ⟨rfl, rfl⟩) hp)
  intro nf
  induction nf with
  | zero => intro d _ h; omega
  | succ nf ih =>
    intro d hd hnf
    refine And.intro ii ?_
    rw [ci, eH]
    have hbit := ar_bit0 (H i) Hl d (by omega)
    rw [hHi, Nat.testBit_two_pow, decide_eq_false_iff_not] at hbit
    by_cases e : d = h
    · refine br_f (fun z => hbit.mp (by rw [← hHi]; exact z) e.symm) ?_
      rw [e]
      refine pk_eq (o i) 0 (fun e0 => ?_) (fun e0 => h91)
      rw [nI_1]
      refine pk_le n (i + 1) (fun _ => h91) (fun hl => ?_)
      have i1 : vp_in (nI (i + 1)) 16 := vp_in_nI (by omega) (by omega)
      have c1 : (nI (i + 1)).toNatClampNeg = i + 1 := nI_clamp (by omega)
      obtain ⟨eo1, ov1⟩ := ho (i + 1) (by omega)
      rw [c1, eo1]
      refine And.intro i1 (pk_lt (o (i + 1)) 4 (fun _ => h91) (fun h4 => And.intro i1 (pk_le 15 (o (i + 1)) (fun _ => h91) (fun h15 => And.intro i1 (br_c (fun _ => ?_) (fun _ => h91))))))
      unfold wX_translate_92
      rw [nI_1, c1, eo1, show nI (o (i + 1)) + 20 = nI (o (i + 1) + 20) from nI_add _ 20]
      exact br_f (by decide) (And.intro i1 (xt_121 (b := 1) (w := o (i + 1) + 20) hn hi ht hh ho ha hH hV hH0 (Or.inr ⟨rfl, e0, hl, h4, h15, rfl⟩) hp))
    · refine br_t (by rw [hHi]; exact hbit.mpr (fun z => e z.symm)) (nm_r (nI_1 d) (ih (d + 1) (by omega) (by omega)))
theorem xt_translate (hn : n ≤ 16) (hi : i < n) (ht : t < 4) (hh : h ≤ 4) (ho : ∀ i, i < 16 → xdo i = nI (o i) ∧ o i < 24) (ha : ∀ i, i < 16 → xdc i = a i) (hH : ∀ i, i < 16 → xhe i = nI (H i) ∧ H i < 32) (hV : tr_V o a n H) (hHi : H i = 2 ^ h)
    (hp : ∀ (ch : Int32) (so sr sn sx sc sd se : Nat → Int32) (sk : Nat → Int64), (∀ q, q ≠ 16 * t + i → so q = xso q ∧ sr q = xsr q ∧ sn q = xsn q ∧ sx q = xsx q ∧ sc q = xsc q ∧ sd q = xsd q ∧ se q = xse q ∧ sk q = xsk q) →
      tr_G o a n i h (so (16 * t + i)) (sr (16 * t + i)) (sn (16 * t + i)) (sx (16 * t + i)) (sc (16 * t + i)) (sd (16 * t + i)) (se (16 * t + i)) (sk (16 * t + i)) →
      pos (xWC, xLV, xPF, xLO, xEX, xWS, xDR, xVT, xVV, xOC, ch, xcp, xcc, xwi, xtg, xst, xrn, xrc, xrr, xnu, xrt, xra, xrk, xan, xrs, xdo, xdc, xhe, xfr, xta, so, sr, sn, sx, sc, sd, se, sk, xdp, xrg)) :
    wpX_translate pos (xWC, xLV, xPF, xLO, xEX, xWS, xDR, xVT, xVV, xOC, xCH, xcp, xcc, xwi, xtg, xst, xrn, xrc, xrr, xnu, xrt, xra, xrk, xan, xrs, xdo, xdc, xhe, xfr, xta, xso, xsr, xsn, xsx, xsc, xsd, xse, xsk, xdp, xrg) (nI t) (nI i) (nI n) := by
  unfold wpX_translate
  refine nm_r (ar_16 t i) (And.intro (vp_in_nI (by omega) (by omega)) (nm_r (e' := nI (o i)) (by rw [nI_clamp (by omega)]; exact (ho i (by omega)).1) ⟨6, ?_⟩))
  exact xt_19 hn hi ht hh ho ha hH hV hHi hp 6 0 (by omega) (by omega)
end
end
section
/-! deploy: both sides -/
def tr_L (o : Nat → Nat) (a : Nat → Int64) (n : Nat) (H : Nat → Nat) (t i : Nat) (so sr sn sx sc sd se : Nat → Int32) (sk : Nat → Int64) : Prop :=
  ∀ j, j < i → H j ≠ 0 → ∃ h, h ≤ 4 ∧ H j = 2 ^ h ∧ tr_G o a n j h (so (16 * t + j)) (sr (16 * t + j)) (sn (16 * t + j)) (sx (16 * t + j)) (sc (16 * t + j)) (sd (16 * t + j)) (se (16 * t + j)) (sk (16 * t + j))
def tr_E (q : Nat) (so sr sn sx sc sd se : Nat → Int32) (sk : Nat → Int64) (so' sr' sn' sx' sc' sd' se' : Nat → Int32) (sk' : Nat → Int64) : Prop :=
  so q = so' q ∧ sr q = sr' q ∧ sn q = sn' q ∧ sx q = sx' q ∧ sc q = sc' q ∧ sd q = sd' q ∧ se q = se' q ∧ sk q = sk' q
/-- the heights of all instructions, as bits -/
def tr_H (o : Nat → Nat) (a : Nat → Int64) (n : Nat) (H : Nat → Nat) : Prop := ∀ i, i < 16 → H i < 32 ∧ ∀ d, (H i).testBit d = true ↔ rc_R o a n i d
def tr_B (o : Nat → Nat) (a : Nat → Int64) (n : Nat) (H : Nat → Nat) (i : Nat) : Prop := H i ≠ 0 ∧ ¬ fa_G o a n i (H i)
theorem tr_p2 : ∀ M, M < 32 → ∀ o, o < 24 → (M == 0 || !(fa_M M o) || (M == 2 ^ 0 || M == 2 ^ 1 || M == 2 ^ 2 || M == 2 ^ 3 || M == 2 ^ 4)) = true := by decide +kernel
theorem tr_pow {M o : Nat} (hM : M < 32) (ho : o < 24) (h0 : M ≠ 0) (hf : fa_M M o = true) : ∃ h, h ≤ 4 ∧ M = 2 ^ h := by
  have h := tr_p2 M hM o ho
  rw [hf] at h
  simp only [Bool.or_eq_true, beq_iff_eq, Bool.not_true] at h
  rcases h with (h | h) | ((((h | h) | h) | h) | h)
  · exact absurd h h0
  · exact absurd h (by decide)
  · exact ⟨0, by decide, h⟩
  · exact ⟨1, by decide, h⟩
  · exact ⟨2, by decide, h⟩
  · exact ⟨3, by decide, h⟩
  · exact ⟨4, by decide, h⟩
def tr_ck (h o : Nat) : Bool := !(fa_M (2 ^ h) o) || (decide (op_t o ≤ h) && decide (op_h o h ≤ 4))
theorem tr_cka : ∀ h, h < 5 → ∀ o, o < 24 → tr_ck h o = true := by decide +kernel
theorem tr_fit {h o : Nat} (hh : h ≤ 4) (ho : o < 24) (hf : fa_M (2 ^ h) o = true) : op_t o ≤ h ∧ op_h o h ≤ 4 := by
  have := tr_cka h (by omega) o ho
  unfold tr_ck at this
  rw [hf, Bool.not_true, Bool.false_or, Bool.and_eq_true, decide_eq_true_iff, decide_eq_true_iff] at this
  exact this
theorem tr_VV {o : Nat → Nat} {a : Nat → Int64} {n : Nat} {H : Nat → Nat} (hg : ∀ j, j < n → ¬ tr_B o a n H j) : tr_V o a n H := by
  intro i hi h0 hj
  apply Classical.byContradiction
  intro hno
  apply hg i hi
  refine ⟨h0, fun z => z.2 (Or.inl ⟨hj, hno⟩)⟩
theorem tr_good {o : Nat → Nat} {a : Nat → Int64} {n i : Nat} {H : Nat → Nat} (h : ¬ tr_B o a n H i) (h0 : H i ≠ 0) : fa_G o a n i (H i) :=
  Classical.byContradiction (fun z => h ⟨h0, z⟩)
theorem tr_T {o : Nat → Nat} {a : Nat → Int64} {n t : Nat} {H : Nat → Nat} {so sr sn sx sc sd se : Nat → Int32} {sk : Nat → Int64} (hn : n ≤ 16) (hn0 : 0 < n) (ho : ∀ i, i < n → o i < 24) (hH : tr_H o a n H) (hg : ∀ j, j < n → ¬ tr_B o a n H j)
    (hL : tr_L o a n H t n so sr sn sx sc sd se sk) : ex_T o a (rc_R o a n) n t so sr sn sx sc sd se sk := by
  refine ⟨hn, rc_0, fun i h hS => ?_⟩
  obtain ⟨hi, hh⟩ := rc_lt hn0 hS
  obtain ⟨H3, Hb⟩ := hH i (by omega)
  have hb := (Hb h).mpr hS
  have h0 : H i ≠ 0 := by intro z; rw [z, Nat.zero_testBit] at hb; exact absurd hb (by decide)
  obtain ⟨h', hh', eH, g1, g2, g3, g4⟩ := hL i hi h0
  have eh : h' = h := by
    rw [eH, Nat.testBit_two_pow, decide_eq_true_iff] at hb
    exact hb
  rw [eh] at eH g1
  obtain ⟨f1, f2⟩ := tr_good (hg i hi) h0
  rw [eH] at f1
  obtain ⟨t1, t2⟩ := tr_fit hh (ho i hi) f1
  refine ⟨hi, hh, ho i hi, t1, t2, fun hj => ?_, fun h20 h22 => ?_, g1, g2, g3, g4⟩
  · obtain ⟨g, hg', ea⟩ := tr_VV hg i hi h0 hj
    exact ⟨g, hg', ea, rc_s hS ⟨hi, hh, t1, rfl, t2, by omega, hg', Or.inl ⟨hj, ea⟩⟩⟩
  · have hlt : i + 1 < n := by
      apply Classical.byContradiction
      intro z
      exact f2 (Or.inr ⟨h20, h22, by omega⟩)
    exact rc_s hS ⟨hi, hh, t1, rfl, t2, h22, hlt, Or.inr ⟨h20, rfl⟩⟩
theorem ex_T_congr {o : Nat → Nat} {a : Nat → Int64} {S : Nat → Nat → Prop} {n t : Nat} {so sr sn sx sc sd se so' sr' sn' sx' sc' sd' se' : Nat → Int32} {sk sk' : Nat → Int64} (h : ex_T o a S n t so sr sn sx sc sd se sk)
    (e : ∀ i, i < 16 → tr_E (16 * t + i) so' sr' sn' sx' sc' sd' se' sk' so sr sn sx sc sd se sk) : ex_T o a S n t so' sr' sn' sx' sc' sd' se' sk' := by
  obtain ⟨h1, h2, h3⟩ := h
  refine ⟨h1, h2, fun i h hS => ?_⟩
  have K := h3 i h hS
  have hi : i < 16 := by have := K.1; omega
  obtain ⟨e1, e2, e3, e4, e5, e6, e7, e8⟩ := e i hi
  rw [e1, e2, e3, e4, e5, e6, e7, e8]
  exact K
section
variable {xWC xLV xPF xLO xEX xWS xDR xVT xCH : Int32} {xVV xOC : Int64} {xcp xcc xwi xtg xrn xrc xnu xrt xra xrk xan xdo xhe xfr xta xso xsr xsn xsx xsc xsd xse xdp : Nat → Int32} {xst xrr xrs xdc xsk xrg : Nat → Int64}
variable {poi : Int32 → SX → Prop} {o : Nat → Nat} {a : Nat → Int64} {H : Nat → Nat} {n t : Nat}
theorem xt_67 (hn : n ≤ 16) (ht : t < 4) (ho : ∀ i, i < 16 → xdo i = nI (o i) ∧ o i < 24) (ha : ∀ i, i < 16 → xdc i = a i) (hH : ∀ i, i < 16 → xhe i = nI (H i) ∧ H i < 32) (hg : ∀ j, j < n → ¬ tr_B o a n H j)
    (hq : ∀ (ch : Int32) (so sr sn sx sc sd se : Nat → Int32) (sk : Nat → Int64), tr_L o a n H t n so sr sn sx sc sd se sk → (∀ q, q < 16 * t ∨ 16 * t + 16 ≤ q → tr_E q so sr sn sx sc sd se sk xso xsr xsn xsx xsc xsd xse xsk) →
      poi 0 (xWC, xLV, xPF, xLO, xEX, xWS, xDR, xVT, xVV, xOC, ch, xcp, xcc, xwi, xtg, xst, xrn, xrc, xrr, xnu, xrt, xra, xrk, xan, xrs, xdo, xdc, xhe, xfr, xta, so, sr, sn, sx, sc, sd, se, sk, upd xdp t 1, xrg)) :
    ∀ (nf i : Nat) (ch : Int32) (so sr sn sx sc sd se : Nat → Int32) (sk : Nat → Int64), i ≤ n → n - i < nf → tr_L o a n H t i so sr sn sx sc sd se sk → (∀ q, q < 16 * t ∨ 16 * t + 16 ≤ q → tr_E q so sr sn sx sc sd se sk xso xsr xsn xsx xsc xsd xse xsk) →
    wX_deploy_67 poi (nI t) (nI n) nf (nI i) xWC xLV xPF xLO xEX xWS xDR xVT xVV xOC ch xcp xcc xwi xtg xst xrn xrc xrr xnu xrt xra xrk xan xrs xdo xdc xhe xfr xta so sr sn sx sc sd se sk xdp xrg := by
  intro nf
  induction nf with
  | zero => intro i ch so sr sn sx sc sd se sk _ h; omega
  | succ nf ih =>
    intro i ch so sr sn sx sc sd se sk hi hnf hL hF
    refine pk_le n i (fun hl => ?_) (fun hl => ?_)
    · have e : i = n := by omega
      rw [e] at hL
      exact And.intro (vp_in_nI ht (by omega)) (nm_r (e' := upd xdp t 1) (by rw [nI_clamp (by omega), bo_1]) (hq ch so sr sn sx sc sd se sk hL hF))
    · obtain ⟨eH, H3⟩ := hH i (by omega)
      refine And.intro (vp_in_nI (by omega) (by omega)) (pk_eq (H i) 0 (fun h0 => ?_) (fun h0 => ?_) (by rw [nI_clamp (by omega)]; exact eH))
      · refine nm_r (nI_1 i) (ih (i + 1) ch so sr sn sx sc sd se sk (by omega) (by omega) (fun j hj hj0 => ?_) hF)
        by_cases e : j = i
        · rw [e] at hj0; exact absurd h0 hj0
        · exact hL j (by omega) hj0
      · obtain ⟨h, hh, eh⟩ := tr_pow H3 (ho i (by omega)).2 h0 (tr_good (hg i hl) h0).1
        refine xt_translate hn hl ht hh ho ha hH (tr_VV hg) eh (fun ch' so' sr' sn' sx' sc' sd' se' sk' hf hG => ?_)
        refine nm_r (nI_1 i) (ih (i + 1) ch' so' sr' sn' sx' sc' sd' se' sk' (by omega) (by omega) (fun j hj hj0 => ?_) (fun q hq => ?_))
        · by_cases e : j = i
          · rw [e]; exact ⟨h, hh, eh, hG⟩
          · obtain ⟨e1, e2, e3, e4, e5, e6, e7, e8⟩ := hf (16 * t + j) (by omega)
            rw [e1, e2, e3, e4, e5, e6, e7, e8]
            exact hL j (by omega) hj0
        · obtain ⟨e1, e2, e3, e4, e5, e6, e7, e8⟩ := hf q (by omega)
          unfold tr_E
          rw [e1, e2, e3, e4, e5, e6, e7, e8]
          exact hF q hq
theorem xt_31 (hn : n ≤ 16) (ht : t < 4) (ho : ∀ i, i < 16 → xdo i = nI (o i) ∧ o i < 24) (ha : ∀ i, i < 16 → xdc i = a i) (hH : ∀ i, i < 16 → xhe i = nI (H i) ∧ H i < 32)
    (hq1 : ∀ i, i < n → tr_B o a n H i → (∀ j, j < i → ¬ tr_B o a n H j) → poi (nI (16 + i)) (xWC, xLV, xPF, xLO, xEX, xWS, xDR, xVT, xVV, xOC, xCH, xcp, xcc, xwi, xtg, xst, xrn, xrc, xrr, xnu, xrt, xra, xrk, xan, xrs, xdo, xdc, xhe, xfr, xta, xso, xsr, xsn, xsx, xsc, xsd, xse, xsk, xdp, xrg))
    (hq0 : ∀ (ch : Int32) (so sr sn sx sc sd se : Nat → Int32) (sk : Nat → Int64), (∀ j, j < n → ¬ tr_B o a n H j) → tr_L o a n H t n so sr sn sx sc sd se sk → (∀ q, q < 16 * t ∨ 16 * t + 16 ≤ q → tr_E q so sr sn sx sc sd se sk xso xsr xsn xsx xsc xsd xse xsk) →
      poi 0 (xWC, xLV, xPF, xLO, xEX, xWS, xDR, xVT, xVV, xOC, ch, xcp, xcc, xwi, xtg, xst, xrn, xrc, xrr, xnu, xrt, xra, xrk, xan, xrs, xdo, xdc, xhe, xfr, xta, so, sr, sn, sx, sc, sd, se, sk, upd xdp t 1, xrg)) :
    ∀ (nf i : Nat), i ≤ n → n - i < nf → (∀ j, j < i → ¬ tr_B o a n H j) → wX_deploy_31 poi (nI t) (nI n) xWC xLV xPF xLO xEX xWS xDR xVT xVV xOC xCH xcp xcc xwi xtg xst xrn xrc xrr xnu xrt xra xrk xan xrs xdo xdc xhe xfr xta xso xsr xsn xsx xsc xsd xse xsk xdp xrg nf (nI i) := by
  intro nf
  induction nf with
  | zero => intro i _ h; omega
  | succ nf ih =>
    intro i hi hnf hno
    refine pk_le n i (fun hl => ⟨n + 1, ?_⟩) (fun hl => ?_)
    · have e : i = n := by omega
      rw [e] at hno
      exact xt_67 hn ht ho ha hH hno (fun ch so sr sn sx sc sd se sk k1 k2 => hq0 ch so sr sn sx sc sd se sk hno k1 k2) (n + 1) 0 xCH xso xsr xsn xsx xsc xsd xse xsk (by omega) (by omega) (fun j hj => absurd hj (Nat.not_lt_zero j)) (fun q _ => ⟨rfl, rfl, rfl, rfl, rfl, rfl, rfl, rfl⟩)
    · obtain ⟨eH, H3⟩ := hH i (by omega)
      obtain ⟨eo, ov⟩ := ho i (by omega)
      have hstep : ¬ tr_B o a n H i → wX_deploy_31 poi (nI t) (nI n) xWC xLV xPF xLO xEX xWS xDR xVT xVV xOC xCH xcp xcc xwi xtg xst xrn xrc xrr xnu xrt xra xrk xan xrs xdo xdc xhe xfr xta xso xsr xsn xsx xsc xsd xse xsk xdp xrg nf (nI (i + 1)) := by
        intro hb
        refine ih (i + 1) (by omega) (by omega) (fun j hj => ?_)
        by_cases e : j = i
        · rw [e]; exact hb
        · exact hno j (by omega)
      refine And.intro (vp_in_nI (by omega) (by omega)) (pk_eq (H i) 0 (fun h0 => nm_r (nI_1 i) (hstep (fun z => z.1 h0))) (fun h0 => ?_) (by rw [nI_clamp (by omega)]; exact eH))
      refine xf_faulty hn hl eo ov (ha i (by omega)) eH H3 (fun hG => br_t rfl (nm_r (nI_1 i) (hstep (fun z => z.2 hG)))) (fun hG => br_f (by decide) ?_)
      rw [show (16 : Int32) + nI i = nI (16 + i) from nI_add 16 i]
      exact hq1 i hl ⟨h0, hG⟩ hno
theorem xt_deploy (hn : n ≤ 16) (hn0 : 0 < n) (ht : t < 4) (hDR : xDR = nI n) (ho : ∀ i, i < 16 → xdo i = nI (o i) ∧ o i < 24) (ha : ∀ i, i < 16 → xdc i = a i)
    (hq1 : ∀ (H : Nat → Nat) (he fr ta : Nat → Int32) (i : Nat), tr_H o a n H → i < n → tr_B o a n H i → (∀ j, j < i → ¬ tr_B o a n H j) → poi (nI (16 + i)) (xWC, xLV, xPF, xLO, xEX, xWS, 0, xVT, xVV, xOC, xCH, xcp, xcc, xwi, xtg, xst, xrn, xrc, xrr, xnu, xrt, xra, xrk, xan, xrs, xdo, xdc, he, fr, ta, xso, xsr, xsn, xsx, xsc, xsd, xse, xsk, xdp, xrg))
    (hq0 : ∀ (H : Nat → Nat) (he fr ta : Nat → Int32) (ch : Int32) (so sr sn sx sc sd se : Nat → Int32) (sk : Nat → Int64), tr_H o a n H → (∀ j, j < n → ¬ tr_B o a n H j) → tr_L o a n H t n so sr sn sx sc sd se sk →
      (∀ q, q < 16 * t ∨ 16 * t + 16 ≤ q → tr_E q so sr sn sx sc sd se sk xso xsr xsn xsx xsc xsd xse xsk) →
      poi 0 (xWC, xLV, xPF, xLO, xEX, xWS, 0, xVT, xVV, xOC, ch, xcp, xcc, xwi, xtg, xst, xrn, xrc, xrr, xnu, xrt, xra, xrk, xan, xrs, xdo, xdc, he, fr, ta, so, sr, sn, sx, sc, sd, se, sk, upd xdp t 1, xrg)) : wpX_deploy poi (xWC, xLV, xPF, xLO, xEX, xWS, xDR, xVT, xVV, xOC, xCH, xcp, xcc, xwi, xtg, xst, xrn, xrc, xrr, xnu, xrt, xra, xrk, xan, xrs, xdo, xdc, xhe, xfr, xta, xso, xsr, xsn, xsx, xsc, xsd, xse, xsk, xdp, xrg) (nI t) := by
  unfold wpX_deploy
  refine br_f (nI_pos (by omega)) (br_f (nI_ge (b := 4) ht (by decide)) ?_)
  refine br_f (by decide) (pk_eq n 0 (fun e => absurd e (by omega)) (fun _ => ?_) hDR)
  rw [hDR]
  refine xk_meet ho ha hn hn0 (fun H he fr ta hH => ⟨n + 1, ?_⟩)
  have hH' : tr_H o a n H := fun i hi => (hH i hi).2
  exact xt_31 hn ht ho ha (fun i hi => ⟨(hH i hi).1, (hH i hi).2.1⟩) (fun i hi hb hno => hq1 H he fr ta i hH' hi hb hno) (fun ch so sr sn sx sc sd se sk k0 k1 k2 => hq0 H he fr ta ch so sr sn sx sc sd se sk hH' k0 k1 k2) (n + 1) 0 (by omega) (by omega) (fun j hj => absurd hj (Nat.not_lt_zero j))
end
section
variable {yBK yFA yLO yEX yVH : Int32} {yVV yOC : Int64} {ylv yls ysz yha yrn yrc yop yle ypa ynu yqt yqk yqa yon ywa : Nat → Int32} {yva yrr yar yst ysh : Nat → Int64}
variable {poi : Int32 → SY → Prop} {o : Nat → Nat} {a : Nat → Int64} {H : Nat → Nat} {n t : Nat}
theorem yt_94 (hn : n ≤ 16) (ht : t < 4) (ho : ∀ i, i < 16 → yop (64 + i) = nI (o i) ∧ o i < 24)
    (hq : ∀ (op : Nat → Int32) (ar : Nat → Int64), (∀ j, j < n → op (16 * t + j) = yop (64 + j) ∧ ar (16 * t + j) = yar (64 + j)) → (∀ q, q < 16 * t ∨ 16 * t + 16 ≤ q → op q = yop q ∧ ar q = yar q) → poi 0 (yBK, yFA, yLO, yEX, yVH, yVV, yOC, ylv, yls, ysz, yha, yva, yrn, yrc, yrr, op, ar, yle, ypa, yst, ynu, yqt, yqk, yqa, yon, ysh, ywa)) :
    ∀ (nf i : Nat) (op : Nat → Int32) (ar : Nat → Int64), i ≤ n → n - i < nf → (∀ j, j < i → op (16 * t + j) = yop (64 + j) ∧ ar (16 * t + j) = yar (64 + j)) → (∀ q, q < 16 * t ∨ 16 * t + 16 ≤ q → op q = yop q ∧ ar q = yar q) →
    wY_deploy_94 poi (nI t) (nI n) yBK yFA yLO yEX yVH yVV yOC nf (nI i) ylv yls ysz yha yva yrn yrc yrr op ar yle ypa yst ynu yqt yqk yqa yon ysh ywa := by
  intro nf
  induction nf with
  | zero => intro i op ar _ h; omega
  | succ nf ih =>
    intro i op ar hi hnf h1 h2
    refine pk_le n i (fun hl => ?_) (fun hl => ?_)
    · have e : i = n := by omega
      rw [e] at h1
      exact hq op ar h1 h2
    · have i1 : vp_in (64 + nI i) 80 := by rw [ar_64]; exact vp_in_nI (by omega) (by omega)
      have i2 : vp_in (16 * nI t + nI i) 80 := by rw [ar_16]; exact vp_in_nI (by omega) (by omega)
      have c1 : (64 + nI i).toNatClampNeg = 64 + i := by rw [ar_64, nI_clamp (by omega)]
      have c2 : (16 * nI t + nI i).toNatClampNeg = 16 * t + i := by rw [ar_16, nI_clamp (by omega)]
      obtain ⟨eo, ov⟩ := ho i (by omega)
      obtain ⟨f1, f2⟩ := h2 (64 + i) (by omega)
      refine And.intro i1 (And.intro i2 (nm_r (e' := upd op (16 * t + i) (yop (64 + i))) (by rw [c1, c2, f1, eo, ar_nb (by omega)]) (And.intro i1 (And.intro i2 ?_))))
      refine nm_r (e' := vp_updL ar (16 * t + i) (yar (64 + i))) (by rw [c1, c2, f2]) (nm_r (nI_1 i) (ih (i + 1) _ _ (by omega) (by omega) (fun j hj => ?_) (fun q hq => ?_)))
      · by_cases e : j = i
        · rw [e, pk_us, pk_uLs]; exact ⟨rfl, rfl⟩
        · rw [pk_un (by omega), pk_uLn (by omega)]; exact h1 j (by omega)
      · rw [pk_un (by omega), pk_uLn (by omega)]; exact h2 q hq
def yt_Q (o : Nat → Nat) (a : Nat → Int64) (n : Nat) (H : Nat → Nat) (i c : Nat) : Prop :=
  ((∀ j, i ≤ j → j < n → ¬ tr_B o a n H j) ∧ c = 0) ∨ ∃ j, i ≤ j ∧ j < n ∧ tr_B o a n H j ∧ (∀ k, i ≤ k → k < j → ¬ tr_B o a n H k) ∧ c = 16 + j
theorem yt_70 (ht : t < 4) (hn : n ≤ 16) (ho : ∀ i, i < 16 → yop (64 + i) = nI (o i) ∧ o i < 24) {c : Nat} (hc : c < 100)
    (hq1 : c ≠ 0 → poi (nI c) (yBK, yFA, yLO, yEX, yVH, yVV, yOC, ylv, yls, ysz, yha, yva, yrn, yrc, yrr, yop, yar, upd yle 4 (nI 0), ypa, yst, ynu, yqt, yqk, yqa, yon, ysh, ywa))
    (hq0 : c = 0 → ∀ (op : Nat → Int32) (ar : Nat → Int64), (∀ j, j < n → op (16 * t + j) = yop (64 + j) ∧ ar (16 * t + j) = yar (64 + j)) → (∀ q, q < 16 * t ∨ 16 * t + 16 ≤ q → op q = yop q ∧ ar q = yar q) →
      poi 0 (yBK, yFA, yLO, yEX, yVH, yVV, yOC, ylv, yls, ysz, yha, yva, yrn, yrc, yrr, op, ar, upd (upd yle 4 (nI 0)) t (nI n), ypa, yst, ynu, yqt, yqk, yqa, yon, ysh, ywa)) : wY_deploy_70 poi (nI t) (nI n) (nI c) yBK yFA yLO yEX yVH yVV yOC ylv yls ysz yha yva yrn yrc yrr yop yar yle ypa yst ynu yqt yqk yqa yon ysh ywa := by
  unfold wY_deploy_70
  refine nm_r (e' := upd yle 4 (nI 0)) (congrArg _ (ar_nb (t := 0) (by decide))) (pk_eq c 0 (fun e => And.intro (vp_in_nI (by omega) (by omega)) ?_) (fun e => hq1 e))
  refine nm_r (e' := upd (upd yle 4 (nI 0)) t (nI n)) (by rw [nI_clamp (by omega), ar_nbb (by omega)]) ⟨n + 1, ?_⟩
  exact yt_94 hn ht ho (hq0 e) (n + 1) 0 yop yar (by omega) (by omega) (fun j hj => absurd hj (Nat.not_lt_zero j)) (fun _ _ => ⟨rfl, rfl⟩)
theorem yt_39 (hn : n ≤ 16) (hlen : yle 4 = nI n) (ho : ∀ i, i < 16 → yop (64 + i) = nI (o i) ∧ o i < 24) (ha : ∀ i, i < 16 → yar (64 + i) = a i) (hH : tr_H o a n H) (hP : ∀ i d, i < 16 → d < 5 → ypa (5 * i + d) = if (H i).testBit d = true then 1 else 0)
    (hq : ∀ c, yt_Q o a n H 0 c → c < 100 → wY_deploy_70 poi (nI t) (nI n) (nI c) yBK yFA yLO yEX yVH yVV yOC ylv yls ysz yha yva yrn yrc yrr yop yar yle ypa yst ynu yqt yqk yqa yon ysh ywa) :
    ∀ (nf i c : Nat), i ≤ n → i < nf → c < 100 → yt_Q o a n H i c → wY_deploy_39 poi (nI t) (nI n) yBK yFA yLO yEX yVH yVV yOC ylv yls ysz yha yva yrn yrc yrr yop yar yle ypa yst ynu yqt yqk yqa yon ysh ywa nf (nI c) (nI i + (-1)) := by
  intro nf
  induction nf with
  | zero => intro i c _ h; omega
  | succ nf ih =>
    intro i c hi hnf hc hQ
    by_cases h0 : i = 0
    · rw [h0] at hQ ⊢
      exact br_t (by decide) (hq c hQ hc)
    · obtain ⟨i, rfl⟩ : ∃ q, i = q + 1 := ⟨i - 1, by omega⟩
      rw [pk_m1]
      obtain ⟨eo, ov⟩ := ho i (by omega)
      have hcm : ¬ nI c = -1 := by
        intro z
        have h1 : ¬ nI c < 0 := nI_pos (by omega)
        rw [z] at h1
        exact h1 (by decide)
      refine br_f (nI_pos (by omega)) (br_f hcm ?_)
      refine yf_faulty hn (by omega) hlen eo ov (ha i (by omega)) (hH i (by omega)).1 (fun d hd => hP i d (by omega) hd) (fun hG => br_t rfl (nm_e (ih i c (by omega) (by omega) hc ?_))) (fun hG => br_f (by decide) (nm_r (e' := nI (16 + i)) (nI_add 16 i) (nm_e (ih i (16 + i) (by omega) (by omega) (by omega) ?_))))
      · have hnb : ¬ tr_B o a n H i := fun z => hG.elim z.1 z.2
        rcases hQ with ⟨q1, q2⟩ | ⟨j, q1, q2, q3, q4, q5⟩
        · refine Or.inl ⟨fun j hj hjn => ?_, q2⟩
          by_cases e : j = i
          · rw [e]; exact hnb
          · exact q1 j (by omega) hjn
        · refine Or.inr ⟨j, by omega, q2, q3, fun k hk hkj => ?_, q5⟩
          by_cases e : k = i
          · rw [e]; exact hnb
          · exact q4 k (by omega) hkj
      · exact Or.inr ⟨i, by omega, by omega, ⟨fun z => hG (Or.inl z), fun z => hG (Or.inr z)⟩, fun k h1 h2 => absurd h1 (by omega), rfl⟩
theorem yt_deploy (hn : n ≤ 16) (hn0 : 0 < n) (ht : t < 4) (hlen : yle 4 = nI n) (ho : ∀ i, i < 16 → yop (64 + i) = nI (o i) ∧ o i < 24) (ha : ∀ i, i < 16 → yar (64 + i) = a i) (hH : tr_H o a n H)
    (hq1 : ∀ (pa : Nat → Int32) (i : Nat), i < n → tr_B o a n H i → (∀ j, j < i → ¬ tr_B o a n H j) → poi (nI (16 + i)) (yBK, yFA, yLO, yEX, yVH, yVV, yOC, ylv, yls, ysz, yha, yva, yrn, yrc, yrr, yop, yar, upd yle 4 (nI 0), pa, yst, ynu, yqt, yqk, yqa, yon, ysh, ywa))
    (hq0 : ∀ (pa op : Nat → Int32) (ar : Nat → Int64), (∀ j, j < n → ¬ tr_B o a n H j) → (∀ j, j < n → op (16 * t + j) = yop (64 + j) ∧ ar (16 * t + j) = yar (64 + j)) → (∀ q, q < 16 * t ∨ 16 * t + 16 ≤ q → op q = yop q ∧ ar q = yar q) →
      poi 0 (yBK, yFA, yLO, yEX, yVH, yVV, yOC, ylv, yls, ysz, yha, yva, yrn, yrc, yrr, op, ar, upd (upd yle 4 (nI 0)) t (nI n), pa, yst, ynu, yqt, yqk, yqa, yon, ysh, ywa)) : wpY_deploy poi (yBK, yFA, yLO, yEX, yVH, yVV, yOC, ylv, yls, ysz, yha, yva, yrn, yrc, yrr, yop, yar, yle, ypa, yst, ynu, yqt, yqk, yqa, yon, ysh, ywa) (nI t) := by
  unfold wpY_deploy
  refine nm_r (e' := nI n) hlen (br_f (nI_pos (by omega)) (pk_lt 3 t (fun e => absurd e (by omega)) (fun _ => pk_eq n 0 (fun e => absurd e (by omega)) (fun _ => ?_))))
  unfold wY_deploy_25
  refine br_t rfl (yk_spread hn hn0 hlen ho ha (fun P pa hR hP => nm_r (e' := nI n + (-1)) (by rw [ar_m1 hn0, ar_n1 hn0]) ⟨n + 1, ?_⟩))
  refine yt_39 hn hlen ho ha hH (fun i d hi hd => ?_) (fun c hQ hc => ?_) (n + 1) n 0 (by omega) (by omega) (by omega) (Or.inl ⟨fun j h1 h2 => absurd h1 (by omega), rfl⟩)
  · rw [hR _ (by omega)]
    have e1 : (P (5 * i + d) = true) ↔ ((H i).testBit d = true) := (hP i d hi hd).trans ((hH i hi).2 d).symm
    by_cases z : P (5 * i + d) = true
    · rw [if_pos z, if_pos (e1.mp z)]
    · rw [if_neg z, if_neg (fun w => z (e1.mpr w))]
  · refine yt_70 ht hn ho hc (fun c0 => ?_) (fun c0 op ar k1 k2 => ?_)
    · rcases hQ with ⟨_, q2⟩ | ⟨j, _, q2, q3, q4, q5⟩
      · exact absurd q2 c0
      · rw [q5]; exact hq1 pa j q2 q3 (fun k hk => q4 k (Nat.zero_le _) hk)
    · rcases hQ with ⟨q1, _⟩ | ⟨j, _, q2, q3, q4, q5⟩
      · exact hq0 pa op ar (fun j hj => q1 j (Nat.zero_le _) hj) k1 k2
      · omega
/-- the refused call -/
theorem yt_20 {x1 : Int32} (hn : n ≤ 16) (hp : poi (-1) (yBK, yFA, yLO, yEX, yVH, yVV, yOC, ylv, yls, ysz, yha, yva, yrn, yrc, yrr, yop, yar, upd yle 4 (nI 0), ypa, yst, ynu, yqt, yqk, yqa, yon, ysh, ywa)) : wY_deploy_20 poi x1 (nI n) yBK yFA yLO yEX yVH yVV yOC ylv yls ysz yha yva yrn yrc yrr yop yar yle ypa yst ynu yqt yqk yqa yon ysh ywa := by
  have h70 : wY_deploy_70 poi x1 (nI n) (-1) yBK yFA yLO yEX yVH yVV yOC ylv yls ysz yha yva yrn yrc yrr yop yar yle ypa yst ynu yqt yqk yqa yon ysh ywa := by
    unfold wY_deploy_70
    exact nm_r (e' := upd yle 4 (nI 0)) (congrArg _ (ar_nb (t := 0) (by decide))) (br_f (by decide) hp)
  unfold wY_deploy_20 wY_deploy_25
  refine br_f (by decide) (nm_e ⟨1, ?_⟩)
  exact br_c (fun _ => h70) (fun _ => br_t rfl h70)
end
end
section
/-! one request: the outcome of its execution, and what the component stores -/
/-- task t: unknown to both, or known to both, and the steps are those of the checked program -/
def rl_t (t : Nat) (yop : Nat → Int32) (yar : Nat → Int64) (yle xdp so sr sn sx sc sd se : Nat → Int32) (sk : Nat → Int64) : Prop :=
  (xdp t = 0 ∧ yle t = 0) ∨ (xdp t = 1 ∧ ∃ (n : Nat) (o : Nat → Nat) (a : Nat → Int64) (S : Nat → Nat → Prop), 0 < n ∧ n ≤ 16 ∧ yle t = nI n ∧ (∀ i, i < n → yop (16 * t + i) = nI (o i) ∧ yar (16 * t + i) = a i) ∧ ex_T o a S n t so sr sn sx sc sd se sk)
def rl_T (yop : Nat → Int32) (yar : Nat → Int64) (yle xdp so sr sn sx sc sd se : Nat → Int32) (sk : Nat → Int64) : Prop := ∀ t, t < 4 → rl_t t yop yar yle xdp so sr sn sx sc sd se sk
def pf_F (cd : Nat) (xt : Int32) (xv : Int64) (yt : Int32) (yv oc : Int64) : Prop := cd ≤ 3 ∧ (cd ≠ 0 → oc = 0) ∧ (cd = 0 → xt = yt ∧ (xt = 0 ∨ xt = 1) ∧ (xt ≠ 0 → xv = yv))
theorem fits_b : ∀ z : Int32, (z = 0 ∨ z = 1) → narrow .boolean (.int z) = .int z ∧ fits .boolean (.int z) = true := by
  intro z hz
  rcases hz with rfl | rfl
  · exact ⟨rfl, rfl⟩
  · exact ⟨rfl, rfl⟩
/-- one outcome for both -/
def pf_O (xWC : Int32) (xLV : Int32) (xPF : Int32) (xLO : Int32) (xEX : Int32) (xWS : Int32) (xDR : Int32) (xVT : Int32) (xVV : Int64) (xOC : Int64) (xCH : Int32) (xcp : Nat → Int32) (xcc : Nat → Int32) (xwi : Nat → Int32) (xtg : Nat → Int32) (xst : Nat → Int64) (xrn : Nat → Int32) (xrc : Nat → Int32) (xrr : Nat → Int64) (xnu : Nat → Int32) (xrt : Nat → Int32) (xra : Nat → Int32) (xrk : Nat → Int32) (xan : Nat → Int32) (xrs : Nat → Int64) (xdo : Nat → Int32) (xdc : Nat → Int64) (xhe : Nat → Int32) (xfr : Nat → Int32) (xta : Nat → Int32) (xso : Nat → Int32) (xsr : Nat → Int32) (xsn : Nat → Int32) (xsx : Nat → Int32) (xsc : Nat → Int32) (xsd : Nat → Int32) (xse : Nat → Int32) (xsk : Nat → Int64) (xdp : Nat → Int32) (xrg : Nat → Int64) (yBK : Int32) (yFA : Int32) (yLO : Int32) (yEX : Int32) (yVH : Int32) (yVV : Int64) (yOC : Int64) (ylv : Nat → Int32) (yls : Nat → Int32) (ysz : Nat → Int32) (yha : Nat → Int32) (yva : Nat → Int64) (yrn : Nat → Int32) (yrc : Nat → Int32) (yrr : Nat → Int64) (yop : Nat → Int32) (yar : Nat → Int64) (yle : Nat → Int32) (ypa : Nat → Int32) (yst : Nat → Int64) (ynu : Nat → Int32) (yqt : Nat → Int32) (yqk : Nat → Int32) (yqa : Nat → Int32) (yon : Nat → Int32) (ysh : Nat → Int64) (ywa : Nat → Int32) (c k q : Nat) (z : Int32) : Prop :=
  ∃ (cd : Nat) (xt : Int32) (xv : Int64) (yt : Int32) (yv oc : Int64) (rg st : Nat → Int64), pf_F cd xt xv yt yv oc ∧
    (∀ (pos : SX → Prop) (x2 x3 x4 : Int32), wX_perform_97 pos (nI c) x2 x3 x4 (nI cd) xWC xLV xPF xLO (xEX + 1) xWS xDR xt xv oc xCH xcp xcc xwi xtg xst xrn xrc xrr xnu xrt xra xrk xan xrs xdo xdc xhe xfr xta xso xsr xsn xsx xsc xsd xse xsk xdp rg → wX_perform_35 pos (nI c) x2 x3 x4 (nI q) (xrt c) 3 z xWC xLV xPF xLO xEX xWS xDR xVT xVV xOC xCH xcp xcc xwi xtg xst xrn xrc xrr xnu xrt xra xrk xan xrs xdo xdc xhe xfr xta xso xsr xsn xsx xsc xsd xse xsk xdp xrg) ∧
    (∀ (poi : Int32 → SY → Prop) (x2 x5 x6 x7 : Int32), wY_send_211 poi (nI c) x2 (nI k) x5 x6 (nI cd) 1 yBK yFA yLO (yEX + 1) yt yv oc ylv yls ysz yha yva yrn yrc yrr yop yar yle ypa st ynu yqt yqk yqa yon ysh ywa → wY_send_102 poi (nI c) x2 (nI k) x5 x6 x7 1 yBK yFA yLO yEX yVH yVV yOC ylv yls ysz yha yva yrn yrc yrr yop yar yle ypa yst ynu yqt yqk yqa yon ysh ywa)
section
variable {xWC xLV xPF xLO xEX xWS xDR xVT xCH : Int32} {xVV xOC : Int64} {xcp xcc xwi xtg xrn xrc xnu xrt xra xrk xan xdo xhe xfr xta xso xsr xsn xsx xsc xsd xse xdp : Nat → Int32} {xst xrr xrs xdc xsk xrg : Nat → Int64}
variable {yBK yFA yLO yEX yVH : Int32} {yVV yOC : Int64} {ylv yls ysz yha yrn yrc yop yle ypa ynu yqt yqk yqa yon ywa : Nat → Int32} {yva yrr yar yst ysh : Nat → Int64}
variable {c k q : Nat} {z : Int32} {E : Option Int64}
theorem pf_run (hT : rl_T yop yar yle xdp xso xsr xsn xsx xsc xsd xse xsk) (hc : c < 3) (hk : k < 18) (hq : q < 160) (ht : yqt c = xrt c) (hg : yqa c = xra c)
    (hX : (z = 0 ∧ E = none) ∨ (z = 1 ∧ E = some (xst q))) (hY : (yha k = 0 ∧ E = none) ∨ (yha k = 1 ∧ E = some (yva k))) : pf_O xWC xLV xPF xLO xEX xWS xDR xVT xVV xOC xCH xcp xcc xwi xtg xst xrn xrc xrr xnu xrt xra xrk xan xrs xdo xdc xhe xfr xta xso xsr xsn xsx xsc xsd xse xsk xdp xrg yBK yFA yLO yEX yVH yVV yOC ylv yls ysz yha yva yrn yrc yrr yop yar yle ypa yst ynu yqt yqk yqa yon ysh ywa c k q z := by
  have ic : vp_in (nI c) 3 := vp_in_nI hc (by omega)
  have cc : (nI c).toNatClampNeg = c := nI_clamp (by omega)
  have iq : vp_in (nI q) 160 := vp_in_nI hq (by omega)
  have cq : (nI q).toNatClampNeg = q := nI_clamp (by omega)
  have ik : vp_in (nI k) 18 := vp_in_nI hk (by omega)
  have ck : (nI k).toNatClampNeg = k := nI_clamp (by omega)
  have hz : z = 0 ∨ z = 1 := hX.elim (fun w => Or.inl w.1) (fun w => Or.inr w.1)
  have ezy : yha k = z := by
    rcases hX with ⟨a1, a2⟩ | ⟨a1, a2⟩
    · rcases hY with ⟨b1, b2⟩ | ⟨b1, b2⟩
      · rw [a1, b1]
      · rw [a2] at b2; exact absurd b2 (by simp)
    · rcases hY with ⟨b1, b2⟩ | ⟨b1, b2⟩
      · rw [a2] at b2; exact absurd b2 (by simp)
      · rw [a1, b1]
  have evv : z ≠ 0 → xst q = yva k := by
    intro h0
    rcases hX with ⟨a1, a2⟩ | ⟨a1, a2⟩
    · exact absurd a1 h0
    · rcases hY with ⟨b1, b2⟩ | ⟨b1, b2⟩
      · rw [a2] at b2; exact absurd b2 (by simp)
      · rw [a2] at b2; exact Option.some.inj b2
  obtain ⟨nz, fz⟩ := fits_b z hz
  have nfy : narrow .boolean (.int (yha k)) = .int (yha k) ∧ fits .boolean (.int (yha k)) = true := by rw [ezy]; exact ⟨nz, fz⟩
  -- the unknown task
  have hunk : ((∀ (pos : SX → Prop) (x2 x3 x4 : Int32), wX_perform_97 pos (nI c) x2 x3 x4 3 xWC xLV xPF xLO (xEX + 1) xWS xDR z (xst q) 0 xCH xcp xcc xwi xtg xst xrn xrc xrr xnu xrt xra xrk xan xrs xdo xdc xhe xfr xta xso xsr xsn xsx xsc xsd xse xsk xdp xrg → wX_perform_35 pos (nI c) x2 x3 x4 (nI q) (xrt c) 3 z xWC xLV xPF xLO xEX xWS xDR xVT xVV xOC xCH xcp xcc xwi xtg xst xrn xrc xrr xnu xrt xra xrk xan xrs xdo xdc xhe xfr xta xso xsr xsn xsx xsc xsd xse xsk xdp xrg) ∧
      (∀ (poi : Int32 → SY → Prop) (x2 x5 x6 x7 : Int32), wY_send_166 poi (nI c) x2 (nI k) x5 x6 1 yBK yFA yLO yEX (yha k) (yva k) yOC ylv yls ysz yha yva yrn yrc yrr yop yar yle ypa yst ynu yqt yqk yqa yon ysh ywa → wY_send_102 poi (nI c) x2 (nI k) x5 x6 x7 1 yBK yFA yLO yEX yVH yVV yOC ylv yls ysz yha yva yrn yrc yrr yop yar yle ypa yst ynu yqt yqk yqa yon ysh ywa)) → pf_O xWC xLV xPF xLO xEX xWS xDR xVT xVV xOC xCH xcp xcc xwi xtg xst xrn xrc xrr xnu xrt xra xrk xan xrs xdo xdc xhe xfr xta xso xsr xsn xsx xsc xsd xse xsk xdp xrg yBK yFA yLO yEX yVH yVV yOC ylv yls ysz yha yva yrn yrc yrr yop yar yle ypa yst ynu yqt yqk yqa yon ysh ywa c k q z := by
    rintro ⟨h1, h2⟩
    refine Exists.intro 3 ⟨z, xst q, yha k, yva k, 0, xrg, yst, ⟨by omega, fun _ => rfl, fun w => absurd w (by decide)⟩, h1, fun poi x2 x5 x6 x7 h => h2 poi x2 x5 x6 x7 ?_⟩
    unfold wY_send_166 wY_send_167
    refine br_t rfl ?_
    unfold wY_send_199
    exact nm_e h
  rcases pk_ix (xrt c) (n := 4) (by decide) with hn | hn | ⟨t, ht4, et⟩
  · refine hunk ⟨fun pos x2 x3 x4 h => ?_, fun poi x2 x5 x6 x7 h => ?_⟩
    · unfold wX_perform_35
      exact And.intro nz (And.intro fz (And.intro iq (nm_r (e' := xst q) (by rw [cq]) (nm_e (br_t hn (br_t rfl h))))))
    · unfold wY_send_102
      refine br_f (by decide) (And.intro ik (nm_r (e' := yha k) (by rw [ck]) (And.intro nfy.1 (And.intro nfy.2 (And.intro ik (nm_r (e' := yva k) (by rw [ck]) (And.intro ic ?_)))))))
      rw [cc, ht]
      exact br_t hn h
  · have hn0 : ¬ xrt c < 0 := by
      intro w
      have := Int32.lt_of_le_of_lt hn w
      exact absurd this (by decide)
    refine hunk ⟨fun pos x2 x3 x4 h => ?_, fun poi x2 x5 x6 x7 h => ?_⟩
    · unfold wX_perform_35
      exact And.intro nz (And.intro fz (And.intro iq (nm_r (e' := xst q) (by rw [cq]) (nm_e (br_f hn0 (br_t hn (br_t rfl h)))))))
    · unfold wY_send_102
      refine br_f (by decide) (And.intro ik (nm_r (e' := yha k) (by rw [ck]) (And.intro nfy.1 (And.intro nfy.2 (And.intro ik (nm_r (e' := yva k) (by rw [ck]) (And.intro ic ?_)))))))
      rw [cc, ht]
      exact br_f hn0 (And.intro ic (br_t hn h))
  · have tp : ¬ nI t < 0 := nI_pos (by omega)
    have t4 : ¬ 4 ≤ nI t := nI_ge (b := 4) ht4 (by decide)
    have it : vp_in (nI t) 4 := vp_in_nI ht4 (by omega)
    have it5 : vp_in (nI t) 5 := vp_in_nI (by omega) (by omega)
    have ctt : (nI t).toNatClampNeg = t := nI_clamp (by omega)
    rcases hT t ht4 with ⟨d0, l0⟩ | ⟨d1, n, o, a, S, n0, n16, el, hoa, hE⟩
    · refine hunk ⟨fun pos x2 x3 x4 h => ?_, fun poi x2 x5 x6 x7 h => ?_⟩
      · unfold wX_perform_35
        rw [et]
        refine And.intro nz (And.intro fz (And.intro iq (nm_r (e' := xst q) (by rw [cq]) (nm_e (br_f tp (br_f t4 (br_f (by decide) (And.intro it (br_t (by rw [ctt]; exact d0) h)))))))))
      · unfold wY_send_102
        refine br_f (by decide) (And.intro ik (nm_r (e' := yha k) (by rw [ck]) (And.intro nfy.1 (And.intro nfy.2 (And.intro ik (nm_r (e' := yva k) (by rw [ck]) (And.intro ic ?_)))))))
        rw [cc, ht, et, ctt, l0]
        exact br_f tp (And.intro ic (br_f t4 (And.intro ic (And.intro it5 (br_t (by decide) h)))))
    · obtain ⟨cd, xt, xv, yt, yv, oc, rg, st, hF, hX', hY'⟩ := ex_main (arg := xra c) (yBK := yBK) (yFA := yFA) (yLO := yLO) (yEX := yEX) (yVH := yha k) (yVV := yva k) (yOC := 0) (ylv := ylv) (yls := yls) (ysz := ysz) (yha := yha) (yva := yva) (yrn := yrn) (yrc := yrc) (yrr := yrr) (yop := yop) (yar := yar) (yle := yle) (ypa := ypa) (yst := yst) (ynu := ynu) (yqt := yqt) (yqk := yqk) (yqa := yqa) (yon := yon) (ysh := ysh) (ywa := ywa)
        (xWC := xWC) (xLV := xLV) (xPF := xPF) (xLO := xLO) (xEX := xEX + 1) (xWS := xWS) (xDR := xDR) (xVT := z) (xVV := xst q) (xOC := 0) (xCH := xCH) (xcp := xcp) (xcc := xcc) (xwi := xwi) (xtg := xtg) (xst := xst) (xrn := xrn) (xrc := xrc) (xrr := xrr) (xnu := xnu) (xrt := xrt) (xra := xra) (xrk := xrk) (xan := xan) (xrs := xrs) (xdo := xdo) (xdc := xdc) (xhe := xhe) (xfr := xfr) (xta := xta) (xdp := xdp) (xrg := xrg)
        hE ht4 (fun i hi => (hoa i hi).1) (fun i hi => (hoa i hi).2) 80 0 0 0 z (xst q) (yva k) xrg yst (by omega) hE.2.1 hz evv (fun j hj => absurd hj (Nat.not_lt_zero j))
      refine Exists.intro cd ⟨xt, xv, yt, yv, oc, rg, st, ⟨by have := hF.1; omega, hF.2.1, hF.2.2⟩, fun pos x2 x3 x4 h => ?_, fun poi x2 x5 x6 x7 h => ?_⟩
      · unfold wX_perform_35
        rw [et]
        refine And.intro nz (And.intro fz (And.intro iq (nm_r (e' := xst q) (by rw [cq]) (nm_e (br_f tp (br_f t4 (br_f (by decide) (And.intro it (br_f (by rw [ctt, d1]; decide) (And.intro ic ?_))))))))))
        rw [cc]
        unfold wpX_execute
        exact ⟨84, hX' _ h 84 (by omega)⟩
      · unfold wY_send_102
        refine br_f (by decide) (And.intro ik (nm_r (e' := yha k) (by rw [ck]) (And.intro nfy.1 (And.intro nfy.2 (And.intro ik (nm_r (e' := yva k) (by rw [ck]) (And.intro ic ?_)))))))
        rw [cc, ht, et, ctt, el]
        refine br_f tp (And.intro ic (br_f t4 (And.intro ic (And.intro it5 (br_f (nI_nle n0 (by omega)) ?_)))))
        unfold wY_send_167
        refine br_f (by decide) (And.intro ic (And.intro ic ?_))
        rw [cc, ht, et, hg]
        unfold wpY_execute
        refine ⟨82, ?_⟩
        rw [ezy]
        refine hY' _ ?_ 82 (by omega)
        unfold wY_send_199
        exact nm_e h
end
end
section
/-! a request: the owner's new entry e1 and record (num, cd, oc) reach the members of l one by one -/
def sd_D (ls : Nat → List Nat) (p k c : Nat) (E : Nat → Option Int64) (N C : Nat → Int32) (R : Nat → Int64) (e1 : Option Int64) (num : Int32) (cd : Nat) (oc : Int64) (l : List Nat)
    (tg : Nat → Int32) (st : Nat → Int64) (rn rc : Nat → Int32) (rr : Nat → Int64) : Prop :=
  da_G (li_H ls) (fun m => if m ∈ l then tb_cu E k e1 else E) (fun m => if m ∈ l then upd N (3 * p + c) num else N) (fun m => if m ∈ l then upd C (3 * p + c) (nI cd) else C) (fun m => if m ∈ l then vp_updL R (3 * p + c) oc else R) tg st rn rc rr
theorem sd_put {ls : Nat → List Nat} {p k c : Nat} {E : Nat → Option Int64} {N C : Nat → Int32} {R : Nat → Int64} {e1 : Option Int64} {num : Int32} {cd : Nat} {oc : Int64} {l l' : List Nat}
    {tg tg' : Nat → Int32} {st st' : Nat → Int64} {rn rc : Nat → Int32} {rr : Nat → Int64} {x : Nat}
    (h : sd_D ls p k c E N C R e1 num cd oc l tg st rn rc rr) (hp : p < 6) (hkp : k % 6 = p) (hc : c < 3) (hx : x < 5) (hxl : x ∈ ls p) (hl : ∀ m, m ∈ l' ↔ (m ∈ l ∨ m = x))
    (hM : tb_M tg' st' (tb_c2 (fun m k' => if li_H ls (k' % 6) m = true then (if m ∈ l then tb_cu E k e1 else E) k' else none) x k e1)) :
    sd_D ls p k c E N C R e1 num cd oc l' tg' st' (upd rn (18 * x + 3 * p + c) num) (upd rc (18 * x + 3 * p + c) (nI cd)) (vp_updL rr (18 * x + 3 * p + c) oc) := by
  have hxl' : x ∈ l' := (hl x).mpr (Or.inr rfl)
  refine ⟨tb_M_congr hM (fun m j hm hj => ?_), fun m q c' hm hq hc' => ?_⟩
  · dsimp only
    by_cases e : m = x ∧ j = k
    · rw [e.1, e.2, tb_c2s, hkp, if_pos (li_Ht.mpr hxl), if_pos hxl', tb_cs]
    · rw [tb_c2n e]
      by_cases em : m = x
      · have ej : j ≠ k := fun z => e ⟨em, z⟩
        have a1 : (if m ∈ l' then tb_cu E k e1 else E) j = E j := by
          split
          · exact tb_cn ej
          · rfl
        have a2 : (if m ∈ l then tb_cu E k e1 else E) j = E j := by
          split
          · exact tb_cn ej
          · rfl
        rw [a1, a2]
      · have a1 : (if m ∈ l' then tb_cu E k e1 else E) = (if m ∈ l then tb_cu E k e1 else E) := by
          by_cases z : m ∈ l
          · rw [if_pos z, if_pos ((hl m).mpr (Or.inl z))]
          · rw [if_neg z, if_neg (fun w => ((hl m).mp w).elim z em)]
        rw [a1]
  · dsimp only
    by_cases e : m = x ∧ q = p ∧ c' = c
    · obtain ⟨e1', e2', e3'⟩ := e
      rw [e1', e2', e3', pk_us, pk_us, pk_uLs]
      refine ⟨fun z => absurd hxl (li_Hf.mp z), fun _ => ?_⟩
      rw [if_pos hxl', if_pos hxl', if_pos hxl', pk_us, pk_us, pk_uLs]
      exact ⟨rfl, fun _ => ⟨rfl, rfl⟩⟩
    · have hne : 18 * m + 3 * q + c' ≠ 18 * x + 3 * p + c := by omega
      rw [pk_un hne, pk_un hne, pk_uLn hne]
      have K := h.2 m q c' hm hq hc'
      dsimp only at K
      by_cases em : m = x
      · have hj : 3 * q + c' ≠ 3 * p + c := by omega
        have a1 : ∀ l0 : List Nat, (if m ∈ l0 then upd N (3 * p + c) num else N) (3 * q + c') = N (3 * q + c') := by
          intro l0
          split
          · exact pk_un hj
          · rfl
        have a2 : ∀ l0 : List Nat, (if m ∈ l0 then upd C (3 * p + c) (nI cd) else C) (3 * q + c') = C (3 * q + c') := by
          intro l0
          split
          · exact pk_un hj
          · rfl
        have a3 : ∀ l0 : List Nat, (if m ∈ l0 then vp_updL R (3 * p + c) oc else R) (3 * q + c') = R (3 * q + c') := by
          intro l0
          split
          · exact pk_uLn hj
          · rfl
        rw [a1, a2, a3] at K
        rw [a1, a2, a3]
        exact K
      · by_cases z : m ∈ l
        · rw [if_pos z, if_pos z, if_pos z] at K
          have z' : m ∈ l' := (hl m).mpr (Or.inl z)
          rw [if_pos z', if_pos z', if_pos z']
          exact K
        · rw [if_neg z, if_neg z, if_neg z] at K
          have z' : ¬ m ∈ l' := fun w => ((hl m).mp w).elim z em
          rw [if_neg z', if_neg z', if_neg z']
          exact K
/-- nothing new: a request answered before -/
theorem sd_same {ls : Nat → List Nat} {p k c : Nat} {E : Nat → Option Int64} {N C : Nat → Int32} {R : Nat → Int64} {e1 : Option Int64} {num : Int32} {cd : Nat} {oc : Int64} {l : List Nat}
    {tg : Nat → Int32} {st : Nat → Int64} {rn rc : Nat → Int32} {rr : Nat → Int64} (h : da_D (li_H ls) E N C R tg st rn rc rr) (h1 : E k = e1) (h2 : N (3 * p + c) = num) (h3 : C (3 * p + c) = nI cd) (h4 : R (3 * p + c) = oc) :
    sd_D ls p k c E N C R e1 num cd oc l tg st rn rc rr := by
  have b1 : tb_cu E k e1 = E := by
    funext j
    by_cases e : j = k
    · rw [e, tb_cs, h1]
    · exact tb_cn e
  have b2 : upd N (3 * p + c) num = N := by
    funext j
    by_cases e : j = 3 * p + c
    · rw [e, pk_us, h2]
    · exact pk_un e
  have b3 : upd C (3 * p + c) (nI cd) = C := by
    funext j
    by_cases e : j = 3 * p + c
    · rw [e, pk_us, h3]
    · exact pk_un e
  have b4 : vp_updL R (3 * p + c) oc = R := by
    funext j
    by_cases e : j = 3 * p + c
    · rw [e, pk_uLs, h4]
    · exact pk_uLn e
  unfold sd_D
  rw [b1, b2, b3, b4]
  refine da_G_congr h (fun _ _ _ _ => rfl) (fun m j _ _ _ => ?_) (fun m q c' _ _ _ _ => ⟨?_, fun _ => ⟨?_, ?_⟩⟩)
  · show (if m ∈ l then E else E) j = E j
    rw [ite_self]
  · show (if m ∈ l then N else N) (3 * q + c') = N (3 * q + c')
    rw [ite_self]
  · show (if m ∈ l then C else C) (3 * q + c') = C (3 * q + c')
    rw [ite_self]
  · show (if m ∈ l then R else R) (3 * q + c') = R (3 * q + c')
    rw [ite_self]
theorem sd_nil {ls : Nat → List Nat} {p k c : Nat} {E : Nat → Option Int64} {N C : Nat → Int32} {R : Nat → Int64} {e1 : Option Int64} {num : Int32} {cd : Nat} {oc : Int64}
    {tg : Nat → Int32} {st : Nat → Int64} {rn rc : Nat → Int32} {rr : Nat → Int64} (h : da_D (li_H ls) E N C R tg st rn rc rr) : sd_D ls p k c E N C R e1 num cd oc [] tg st rn rc rr := by
  refine da_G_congr h (fun _ _ _ _ => rfl) (fun m j _ _ _ => ?_) (fun m q c' _ _ _ _ => ⟨?_, fun _ => ⟨?_, ?_⟩⟩)
  · show (if m ∈ ([] : List Nat) then tb_cu E k e1 else E) j = E j
    rw [if_neg (by simp)]
  · show (if m ∈ ([] : List Nat) then upd N (3 * p + c) num else N) (3 * q + c') = N (3 * q + c')
    rw [if_neg (by simp)]
  · show (if m ∈ ([] : List Nat) then upd C (3 * p + c) (nI cd) else C) (3 * q + c') = C (3 * q + c')
    rw [if_neg (by simp)]
  · show (if m ∈ ([] : List Nat) then vp_updL R (3 * p + c) oc else R) (3 * q + c') = R (3 * q + c')
    rw [if_neg (by simp)]
theorem sd_all {ls : Nat → List Nat} {p k c : Nat} {E : Nat → Option Int64} {N C : Nat → Int32} {R : Nat → Int64} {e1 : Option Int64} {num : Int32} {cd : Nat} {oc : Int64}
    {tg : Nat → Int32} {st : Nat → Int64} {rn rc : Nat → Int32} {rr : Nat → Int64} (hp : p < 6) (hc : c < 3) (hkp : k % 6 = p) (h : sd_D ls p k c E N C R e1 num cd oc (ls p) tg st rn rc rr) :
    da_D (li_H ls) (tb_cu E k e1) (upd N (3 * p + c) num) (upd C (3 * p + c) (nI cd)) (vp_updL R (3 * p + c) oc) tg st rn rc rr := by
  refine da_G_congr h (fun _ _ _ _ => rfl) (fun m j _ _ hH => ?_) (fun m q c' _ hq hc' hH => ?_)
  · show tb_cu E k e1 j = (if m ∈ ls p then tb_cu E k e1 else E) j
    by_cases z : m ∈ ls p
    · rw [if_pos z]
    · rw [if_neg z]
      refine tb_cn ?_
      intro e
      rw [e, hkp] at hH
      exact z (li_Ht.mp hH)
  · show upd N (3 * p + c) num (3 * q + c') = (if m ∈ ls p then upd N (3 * p + c) num else N) (3 * q + c') ∧ ((if m ∈ ls p then upd N (3 * p + c) num else N) (3 * q + c') ≠ 0 → upd C (3 * p + c) (nI cd) (3 * q + c') = (if m ∈ ls p then upd C (3 * p + c) (nI cd) else C) (3 * q + c') ∧ vp_updL R (3 * p + c) oc (3 * q + c') = (if m ∈ ls p then vp_updL R (3 * p + c) oc else R) (3 * q + c'))
    by_cases z : m ∈ ls p
    · rw [if_pos z, if_pos z, if_pos z]; exact ⟨rfl, fun _ => ⟨rfl, rfl⟩⟩
    · have hne : 3 * q + c' ≠ 3 * p + c := by
        intro e
        have eq : q = p ∨ q ≠ p := by omega
        rcases eq with eq | eq
        · rw [eq] at hH; exact z (li_Ht.mp hH)
        · omega
      rw [if_neg z, if_neg z, if_neg z, pk_un hne, pk_un hne, pk_uLn hne]
      exact ⟨rfl, fun _ => ⟨rfl, rfl⟩⟩
theorem ma_req {B L : Nat} {ls : Nat → List Nat} {E : Nat → Option Int64} {N C : Nat → Int32} {p k c : Nat} {e1 : Option Int64} {num : Int32} {cd : Nat} (h : ma_A B L ls E N C) (hp : p < 6) (hkp : k % 6 = p) (hc : c < 3) (hcd : cd ≤ 3) (hne : ls p ≠ []) :
    ma_A B L ls (tb_cu E k e1) (upd N (3 * p + c) num) (upd C (3 * p + c) (nI cd)) := by
  obtain ⟨hB, hL, h3, h4⟩ := h
  refine ⟨hB, hL, fun q hq => ?_, fun j hj hN => ?_⟩
  · obtain ⟨a1, a2, a3, a4, a5⟩ := h3 q hq
    refine ⟨a1, a2, a3, a4, fun z => ?_⟩
    have hqp : q ≠ p := by intro e; rw [e] at z; exact hne z
    obtain ⟨b1, b2⟩ := a5 z
    refine ⟨fun j hj hjq => ?_, fun c' hc' => ?_⟩
    · rw [tb_cn (by intro e; rw [e] at hjq; omega)]; exact b1 j hj hjq
    · rw [pk_un (by omega)]; exact b2 c' hc'
  · by_cases e : j = 3 * p + c
    · rw [e, pk_us]; exact ⟨cd, hcd, rfl⟩
    · rw [pk_un e] at hN ⊢; exact h4 j hj hN
section
variable {xWC xLV xPF xLO xEX xWS xDR xVT xCH : Int32} {xVV xOC : Int64} {xcp xcc xwi xtg xrn xrc xnu xrt xra xrk xan xdo xhe xfr xta xso xsr xsn xsx xsc xsd xse xdp : Nat → Int32} {xst xrr xrs xdc xsk xrg : Nat → Int64}
variable {pos : SX → Prop} {poi : Int32 → SX → Prop} {B L : Nat} {ls : Nat → List Nat} {E : Nat → Option Int64} {N C : Nat → Int32} {R : Nat → Int64} {p k c w cd f : Nat} {e1 : Option Int64} {num : Int32} {oc : Int64}
theorem xp_116 (hc : c < 3) (hp : p < 6) (hw : w < 5) (hcd : cd ≤ 3) (hoc : cd ≠ 0 → xOC = 0)
    (h : pos (xWC, xLV, xPF, xLO, xEX, xWS, xDR, xVT, xVV, xOC, xCH, xcp, xcc, xwi, xtg, xst, upd xrn (18 * w + 3 * p + c) (xnu c), upd xrc (18 * w + 3 * p + c) (nI cd), vp_updL xrr (18 * w + 3 * p + c) xOC, xnu, xrt, xra, xrk, xan, xrs, xdo, xdc, xhe, xfr, xta, xso, xsr, xsn, xsx, xsc, xsd, xse, xsk, xdp, xrg)) : wX_perform_116 pos (nI c) (nI (18 * w + 3 * p + c)) (nI cd) xWC xLV xPF xLO xEX xWS xDR xVT xVV xOC xCH xcp xcc xwi xtg xst xrn xrc xrr xnu xrt xra xrk xan xrs xdo xdc xhe xfr xta xso xsr xsn xsx xsc xsd xse xsk xdp xrg := by
  have ic : vp_in (nI c) 3 := vp_in_nI hc (by omega)
  have cc : (nI c).toNatClampNeg = c := nI_clamp (by omega)
  have ir : vp_in (nI (18 * w + 3 * p + c)) 90 := vp_in_nI (by omega) (by omega)
  have cr : (nI (18 * w + 3 * p + c)).toNatClampNeg = 18 * w + 3 * p + c := nI_clamp (by omega)
  unfold wX_perform_116
  rw [cr, cc]
  refine And.intro ic (And.intro ir (nm_e (And.intro ir (nm_r (e' := upd xrc (18 * w + 3 * p + c) (nI cd)) (by rw [ar_nbb (by omega)]) (pk_eq cd 0 (fun e => And.intro ir (nm_e h)) (fun e => And.intro ir (nm_r (e' := vp_updL xrr (18 * w + 3 * p + c) xOC) (by rw [hoc e]) h)))))))
/-- the owner's part: the view goes into its table if all went well; the record -/
theorem xp_97 (hk : k < 18) (hkp : k % 6 = p) (hc : c < 3) (hp : p < 6) (hw : w < 5) (hwl : w ∈ ls p) (hcd : cd ≤ 3) (hoc : cd ≠ 0 → xOC = 0) (he0 : cd = 0 → e1 = if xVT = 0 then none else some xVV) (he1 : cd ≠ 0 → e1 = E k)
    (hD : da_D (li_H ls) E N C R xtg xst xrn xrc xrr)
    (h : ∀ (tg : Nat → Int32) (st : Nat → Int64) (rn rc : Nat → Int32) (rr : Nat → Int64), sd_D ls p k c E N C R e1 (xnu c) cd xOC [w] tg st rn rc rr → pos (xWC, xLV, xPF, xLO, xEX, xWS, xDR, xVT, xVV, xOC, xCH, xcp, xcc, xwi, tg, st, rn, rc, rr, xnu, xrt, xra, xrk, xan, xrs, xdo, xdc, xhe, xfr, xta, xso, xsr, xsn, xsx, xsc, xsd, xse, xsk, xdp, xrg)) :
    wX_perform_97 pos (nI c) (nI w) (nI k) (nI (18 * w + 3 * p + c)) (nI cd) xWC xLV xPF xLO xEX xWS xDR xVT xVV xOC xCH xcp xcc xwi xtg xst xrn xrc xrr xnu xrt xra xrk xan xrs xdo xdc xhe xfr xta xso xsr xsn xsx xsc xsd xse xsk xdp xrg := by
  have h0 : sd_D ls p k c E N C R e1 (xnu c) cd xOC [] xtg xst xrn xrc xrr := sd_nil hD
  have hl : ∀ m, m ∈ [w] ↔ (m ∈ ([] : List Nat) ∨ m = w) := by intro m; simp
  unfold wX_perform_97
  refine pk_eq cd 0 (fun e => ?_) (fun e => ?_)
  · refine xs_store hw hk xVT xVV h0.1 (fun tg' st' hM _ => ?_)
    rw [← he0 e] at hM
    exact xp_116 hc hp hw hcd hoc (h _ _ _ _ _ (sd_put h0 hp hkp hc hw hwl hl hM))
  · refine xp_116 hc hp hw hcd hoc (h _ _ _ _ _ (sd_put h0 hp hkp hc hw hwl hl (tb_M_congr h0.1 (fun m j hm hj => ?_))))
    dsimp only
    by_cases z : m = w ∧ j = k
    · rw [z.1, z.2, tb_c2s, he1 e, hkp, if_pos (li_Ht.mpr hwl), if_neg (by simp)]
    · exact tb_c2n z
theorem xq_220 (hc : c < 3) (hp : p < 6) (hw : w < 5) (hf : f < 5) (hcd : cd ≤ 3) (hr : xrr (18 * w + 3 * p + c) = oc)
    (h5 : 2 < f → poi 5 (xWC, xLV, xPF, xLO, xEX, xWS, xDR, xVT, xVV, xOC, xCH, xcp, xcc, xwi, xtg, xst, xrn, xrc, xrr, xnu, xrt, xra, xrk, xan, xrs, xdo, xdc, xhe, xfr, xta, xso, xsr, xsn, xsx, xsc, xsd, xse, xsk, xdp, xrg)) (h0 : f ≤ 2 → poi (nI cd) (xWC, xLV, xPF, xLO, xEX, xWS, xDR, xVT, xVV, xOC, xCH, xcp, xcc, xwi, xtg, xst, xrn, xrc, xrr, xnu, xrt, xra, xrk, upd xan c 1, vp_updL xrs c oc, xdo, xdc, xhe, xfr, xta, xso, xsr, xsn, xsx, xsc, xsd, xse, xsk, xdp, xrg)) : wX_send_220 poi (nI c) (nI f) (nI (18 * w + 3 * p + c)) (nI cd) xWC xLV xPF xLO xEX xWS xDR xVT xVV xOC xCH xcp xcc xwi xtg xst xrn xrc xrr xnu xrt xra xrk xan xrs xdo xdc xhe xfr xta xso xsr xsn xsx xsc xsd xse xsk xdp xrg := by
  have ic : vp_in (nI c) 3 := vp_in_nI hc (by omega)
  have cc : (nI c).toNatClampNeg = c := nI_clamp (by omega)
  unfold wX_send_220
  rw [cc, nI_clamp (n := 18 * w + 3 * p + c) (by omega), hr]
  exact pk_le f 2 (fun e => And.intro ic (nm_r (e' := upd xan c 1) (by rw [bo_1]) (And.intro (vp_in_nI (by omega) (by omega)) (And.intro ic (nm_e (h0 e)))))) h5
theorem xq_129 {q : Nat} (hA : ma_A B L ls E N C) (hWC : xWC = nI (B + 1)) (hLV : xLV = nI L) (hR : li_R xcp xcc ls) (hk : k < 18) (hkp : k % 6 = p) (hc : c < 3) (hp : p < 6) (hw : (ls p)[0]? = some w) (hf : f < 5) (hf2 : f ≠ 2) (hf1 : f ≠ 1) (hcd : cd ≤ 3) (hnum : num ≠ 0)
    (hq160 : q < 160) (hq1 : 32 * w ≤ q) (hq2 : q < 32 * w + 32)
    (h3 : f = 3 → ∀ (lo ws : Int32) (cp cc wi tg : Nat → Int32) (st : Nat → Int64) (rn rc : Nat → Int32) (rr : Nat → Int64), lo = (dr_F B L w ls xLO (tb_cu E k e1) (upd N (3 * p + c) num)).2.1 →
      mx_X B (li_out L w) (dr_F B L w ls xLO (tb_cu E k e1) (upd N (3 * p + c) num)).1 (dr_F B L w ls xLO (tb_cu E k e1) (upd N (3 * p + c) num)).2.2.1 (dr_F B L w ls xLO (tb_cu E k e1) (upd N (3 * p + c) num)).2.2.2 (upd C (3 * p + c) (nI cd)) (vp_updL R (3 * p + c) oc) xWC (nI (li_out L w)) cp cc tg st rn rc rr →
      poi 5 (xWC, nI (li_out L w), xPF, lo, xEX, ws, xDR, xVT, xVV, xOC, xCH, cp, cc, wi, tg, st, rn, rc, rr, xnu, xrt, xra, xrk, xan, xrs, xdo, xdc, xhe, xfr, xta, xso, xsr, xsn, xsx, xsc, xsd, xse, xsk, xdp, xrg))
    (h4 : f = 4 → ∀ (tg : Nat → Int32) (st : Nat → Int64) (rn rc : Nat → Int32) (rr : Nat → Int64),
      mx_X B L ls (tb_cu E k e1) (upd N (3 * p + c) num) (upd C (3 * p + c) (nI cd)) (vp_updL R (3 * p + c) oc) xWC xLV xcp xcc tg st rn rc rr → poi 5 (xWC, xLV, xPF, xLO, xEX, xWS, xDR, xVT, xVV, xOC, xCH, xcp, xcc, xwi, tg, st, rn, rc, rr, xnu, xrt, xra, xrk, xan, xrs, xdo, xdc, xhe, xfr, xta, xso, xsr, xsn, xsx, xsc, xsd, xse, xsk, xdp, xrg))
    (h0 : f = 0 → ∀ (tg : Nat → Int32) (st : Nat → Int64) (rn rc : Nat → Int32) (rr : Nat → Int64),
      mx_X B L ls (tb_cu E k e1) (upd N (3 * p + c) num) (upd C (3 * p + c) (nI cd)) (vp_updL R (3 * p + c) oc) xWC xLV xcp xcc tg st rn rc rr → poi (nI cd) (xWC, xLV, xPF, xLO, xEX, xWS, xDR, xVT, xVV, xOC, xCH, xcp, xcc, xwi, tg, st, rn, rc, rr, xnu, xrt, xra, xrk, upd xan c 1, vp_updL xrs c oc, xdo, xdc, xhe, xfr, xta, xso, xsr, xsn, xsx, xsc, xsd, xse, xsk, xdp, xrg)) :
    ∀ (nf i : Nat) (tg : Nat → Int32) (st : Nat → Int64) (rn rc : Nat → Int32) (rr : Nat → Int64), 1 ≤ i → i ≤ (ls p).length → (ls p).length - i < nf → sd_D ls p k c E N C R e1 num cd oc ((ls p).take i) tg st rn rc rr →
      ((tg q = 0 ∧ e1 = none) ∨ (tg q ≠ 0 ∧ e1 = some (st q))) →
      wX_send_129 poi (nI c) (nI f) (nI k) (nI p) (nI w) (nI (18 * w + 3 * p + c)) (nI q) (nI cd) nf (nI (5 * p + i)) xWC xLV xPF xLO xEX xWS xDR xVT xVV xOC xCH xcp xcc xwi tg st rn rc rr xnu xrt xra xrk xan xrs xdo xdc xhe xfr xta xso xsr xsn xsx xsc xsd xse xsk xdp xrg := by
  have hK := ma_K hA
  obtain ⟨k1, k2⟩ := hK p hp
  obtain ⟨g1, g2⟩ := hR p hp
  have hwl := li_mem hw
  have hw5 := k2 w hwl
  have hne : ls p ≠ [] := by intro z; rw [z] at hwl; exact absurd hwl (by simp)
  have hbit : L.testBit w = true := ((hA.2.2.1 p hp).2.2.1 w hwl).2
  have hnd := (hA.2.2.1 p hp).1
  have ip : vp_in (nI p) 6 := vp_in_nI hp (by omega)
  have ec : (5 : Int32) * nI p + xcc (nI p).toNatClampNeg = nI (5 * p + (ls p).length) := by rw [nI_clamp (by omega), g1, ar_5i]
  have iq : vp_in (nI q) 160 := vp_in_nI hq160 (by omega)
  have cq : (nI q).toNatClampNeg = q := nI_clamp (by omega)
  -- the owner's record
  have hrec : ∀ (i : Nat) (tg : Nat → Int32) (st : Nat → Int64) (rn rc : Nat → Int32) (rr : Nat → Int64), 1 ≤ i → sd_D ls p k c E N C R e1 num cd oc ((ls p).take i) tg st rn rc rr →
      rn (18 * w + 3 * p + c) = num ∧ rc (18 * w + 3 * p + c) = nI cd ∧ rr (18 * w + 3 * p + c) = oc := by
    intro i tg st rn rc rr hi hS
    have hwt : w ∈ (ls p).take i := by
      have : ((ls p).take i)[0]? = some w := by rw [List.getElem?_take, if_pos (by omega)]; exact hw
      exact li_mem this
    obtain ⟨z1, z2⟩ := (hS.2 w p c hw5 hp hc).2 (li_Ht.mpr hwl)
    dsimp only at z1 z2
    rw [if_pos hwt, pk_us] at z1 z2
    obtain ⟨z3, z4⟩ := z2 hnum
    rw [if_pos hwt, pk_us] at z3
    rw [if_pos hwt, pk_uLs] at z4
    exact ⟨z1, z3, z4⟩
  intro nf
  induction nf with
  | zero => intro i tg st rn rc rr _ _ h; omega
  | succ nf ih =>
    intro i tg st rn rc rr hi1 hi hnf hS hq
    obtain ⟨r1, r2, r3⟩ := hrec i tg st rn rc rr hi1 hS
    refine And.intro ip (pk_le (5 * p + (ls p).length) (5 * p + i) (fun hl => ?_) (fun hl => ?_) ec)
    · have e : i = (ls p).length := by omega
      rw [e, List.take_length] at hS
      have hDD := sd_all hp hc hkp hS
      refine pk_eq f 3 (fun e3 => ?_) (fun e3 => ?_)
      · refine xd_dropM (ma_req hA hp hkp hc hcd hne) hw5 hbit ⟨hWC, hLV, hR, hDD⟩ (fun lo ws cp cc' wi tg' st' rn' q1 q2 => ?_)
        exact xq_220 hc hp hw5 hf hcd r3 (fun _ => h3 e3 lo ws cp cc' wi tg' st' rn' rc rr q1 q2) (fun z => absurd z (by omega))
      · exact xq_220 hc hp hw5 hf hcd r3 (fun z => h4 (by omega) tg st rn rc rr ⟨hWC, hLV, hR, hDD⟩) (fun z => h0 (by omega) tg st rn rc rr ⟨hWC, hLV, hR, hDD⟩)
    · have hx := List.getElem?_eq_getElem (l := ls p) (i := i) (by omega)
      generalize hgx : (ls p)[i]'(by omega) = x at hx
      have hx5 := k2 x (li_mem hx)
      have e1t : (ls p).take (i + 1) = (ls p).take i ++ [x] := by rw [List.take_succ_eq_append_getElem (by omega), hgx]
      have hxi : ¬ x ∈ (ls p).take i := by
        have hs : ((ls p).take (i + 1)).Nodup := List.Nodup.sublist (List.take_sublist _ _) hnd
        rw [e1t, List.nodup_append] at hs
        intro z
        exact hs.2.2 x z x (by simp) rfl
      have hwt : w ∈ (ls p).take i := by
        have : ((ls p).take i)[0]? = some w := by rw [List.getElem?_take, if_pos (by omega)]; exact hw
        exact li_mem this
      have hxw : x ≠ w := by intro z; rw [z] at hxi; exact hxi hwt
      have ecx : xcp (nI (5 * p + i)).toNatClampNeg = nI x := by rw [nI_clamp (by omega)]; exact g2 i x hx
      have i9 : vp_in (nI (5 * p + i)) 30 := vp_in_nI (by omega) (by omega)
      have h170 : ∀ z : Int32, e1 = (if z = 0 then none else some (st q)) →
          wX_send_170 poi (wX_send_129 poi (nI c) (nI f) (nI k) (nI p) (nI w) (nI (18 * w + 3 * p + c)) (nI q) (nI cd) nf) (nI c) (nI f) (nI k) (nI p) (nI w) (nI (18 * w + 3 * p + c)) (nI q) (nI cd) (nI (5 * p + i)) z (nI k) (nI x) xWC xLV xPF xLO xEX xWS xDR xVT xVV xOC xCH xcp xcc xwi tg st rn rc rr xnu xrt xra xrk xan xrs xdo xdc xhe xfr xta xso xsr xsn xsx xsc xsd xse xsk xdp xrg := by
        intro z ez
        unfold wX_send_170
        rw [cq]
        refine And.intro iq (xs_store hx5 hk z (st q) hS.1 (fun tg' st' hM hfr => And.intro i9 ?_))
        rw [← ez] at hM
        dsimp only
        rw [ecx, ar_18c]
        refine xs_trec (by omega) (by omega) ?_
        refine nm_r (nI_1 _) ?_
        rw [r1, r2, r3, ar_nb (by omega)]
        refine ih (i + 1) tg' st' (upd rn (18 * x + 3 * p + c) num) (upd rc (18 * x + 3 * p + c) (nI cd)) (vp_updL rr (18 * x + 3 * p + c) oc) (by omega) (by omega) (by omega) (sd_put hS hp hkp hc hx5 (li_mem hx) (fun m => ?_) hM) ?_
        · rw [e1t, List.mem_append, List.mem_singleton]
        · obtain ⟨f1, f2⟩ := hfr q (by omega)
          rw [f1, f2]
          exact hq
      refine And.intro i9 (And.intro iq ?_)
      rw [cq, ecx]
      refine br_c (fun z => h170 0 ?_) (fun z => h170 1 ?_)
      · rcases hq with y | y
        · rw [if_pos rfl]; exact y.2
        · exact absurd z y.1
      · rcases hq with y | y
        · exact absurd y.1 z
        · rw [if_neg (by decide)]; exact y.2
/-- behind the owner's part -/
theorem xq_90 (hA : ma_A B L ls E N C) (hWC : xWC = nI (B + 1)) (hLV : xLV = nI L) (hR : li_R xcp xcc ls) (hk : k < 18) (hkp : k % 6 = p) (hc : c < 3) (hp : p < 6) (hw : (ls p)[0]? = some w) (hf : f < 5) (hf1 : f ≠ 1) (hcd : cd ≤ 3) (hnum : num ≠ 0)
    (hS : sd_D ls p k c E N C R e1 num cd oc [w] xtg xst xrn xrc xrr)
    (h2 : f = 2 → ∀ (lo ws : Int32) (cp cc wi tg : Nat → Int32) (st : Nat → Int64) (rn : Nat → Int32), lo = (dr_F B L w ls xLO E N).2.1 →
      mx_X B (li_out L w) (dr_F B L w ls xLO E N).1 (dr_F B L w ls xLO E N).2.2.1 (dr_F B L w ls xLO E N).2.2.2 C R xWC (nI (li_out L w)) cp cc tg st rn xrc xrr →
      poi 5 (xWC, nI (li_out L w), xPF, lo, xEX, ws, xDR, xVT, xVV, xOC, xCH, cp, cc, wi, tg, st, rn, xrc, xrr, xnu, xrt, xra, xrk, xan, xrs, xdo, xdc, xhe, xfr, xta, xso, xsr, xsn, xsx, xsc, xsd, xse, xsk, xdp, xrg))
    (h3 : f = 3 → ∀ (lo ws : Int32) (cp cc wi tg : Nat → Int32) (st : Nat → Int64) (rn rc : Nat → Int32) (rr : Nat → Int64), lo = (dr_F B L w ls xLO (tb_cu E k e1) (upd N (3 * p + c) num)).2.1 →
      mx_X B (li_out L w) (dr_F B L w ls xLO (tb_cu E k e1) (upd N (3 * p + c) num)).1 (dr_F B L w ls xLO (tb_cu E k e1) (upd N (3 * p + c) num)).2.2.1 (dr_F B L w ls xLO (tb_cu E k e1) (upd N (3 * p + c) num)).2.2.2 (upd C (3 * p + c) (nI cd)) (vp_updL R (3 * p + c) oc) xWC (nI (li_out L w)) cp cc tg st rn rc rr →
      poi 5 (xWC, nI (li_out L w), xPF, lo, xEX, ws, xDR, xVT, xVV, xOC, xCH, cp, cc, wi, tg, st, rn, rc, rr, xnu, xrt, xra, xrk, xan, xrs, xdo, xdc, xhe, xfr, xta, xso, xsr, xsn, xsx, xsc, xsd, xse, xsk, xdp, xrg))
    (h4 : f = 4 → ∀ (tg : Nat → Int32) (st : Nat → Int64) (rn rc : Nat → Int32) (rr : Nat → Int64),
      mx_X B L ls (tb_cu E k e1) (upd N (3 * p + c) num) (upd C (3 * p + c) (nI cd)) (vp_updL R (3 * p + c) oc) xWC xLV xcp xcc tg st rn rc rr → poi 5 (xWC, xLV, xPF, xLO, xEX, xWS, xDR, xVT, xVV, xOC, xCH, xcp, xcc, xwi, tg, st, rn, rc, rr, xnu, xrt, xra, xrk, xan, xrs, xdo, xdc, xhe, xfr, xta, xso, xsr, xsn, xsx, xsc, xsd, xse, xsk, xdp, xrg))
    (h0 : f = 0 → ∀ (tg : Nat → Int32) (st : Nat → Int64) (rn rc : Nat → Int32) (rr : Nat → Int64),
      mx_X B L ls (tb_cu E k e1) (upd N (3 * p + c) num) (upd C (3 * p + c) (nI cd)) (vp_updL R (3 * p + c) oc) xWC xLV xcp xcc tg st rn rc rr → poi (nI cd) (xWC, xLV, xPF, xLO, xEX, xWS, xDR, xVT, xVV, xOC, xCH, xcp, xcc, xwi, tg, st, rn, rc, rr, xnu, xrt, xra, xrk, upd xan c 1, vp_updL xrs c oc, xdo, xdc, xhe, xfr, xta, xso, xsr, xsn, xsx, xsc, xsd, xse, xsk, xdp, xrg)) :
    wX_send_90 poi (nI c) (nI f) (nI k) (nI p) (nI w) (nI (18 * w + 3 * p + c)) xWC xLV xPF xLO xEX xWS xDR xVT xVV xOC xCH xcp xcc xwi xtg xst xrn xrc xrr xnu xrt xra xrk xan xrs xdo xdc xhe xfr xta xso xsr xsn xsx xsc xsd xse xsk xdp xrg := by
  have hK := ma_K hA
  have hwl := li_mem hw
  have hw5 := (hK p hp).2 w hwl
  have hbit : L.testBit w = true := ((hA.2.2.1 p hp).2.2.1 w hwl).2
  have hlen := li_lt hw
  obtain ⟨z1, z2⟩ := (hS.2 w p c hw5 hp hc).2 (li_Ht.mpr hwl)
  dsimp only at z1 z2
  rw [if_pos (by simp), pk_us] at z1 z2
  obtain ⟨z3, z4⟩ := z2 hnum
  rw [if_pos (by simp), pk_us] at z3
  have et1 : (ls p).take 1 = [w] := by
    obtain ⟨hh, e⟩ := List.getElem?_eq_some_iff.mp hw
    rw [List.take_succ_eq_append_getElem hh, e]
    rfl
  unfold wX_send_90
  refine pk_eq f 2 (fun e => ?_) (fun e => ?_)
  · refine xd_drop (s := (ls, xLO, E, N)) (E1 := tb_cu E k e1) (N1 := upd N (3 * p + c) num) (C1 := upd C (3 * p + c) (nI cd)) (R1 := vp_updL R (3 * p + c) oc) (C := C) (R := R) hA.1 hA.2.1 hw5 hWC hLV hK (ma_ne hA hbit) ⟨hR, rfl, ?_⟩ (fun lo ws cp cc' wi tg st rn k1 k2 k3 => h2 e lo ws cp cc' wi tg st rn k2 ⟨hWC, rfl, k1, k3⟩)
    have hm : ∀ m : Nat, (m ∈ [w]) = (m = w) := fun m => by simp
    refine da_G_congr hS (fun _ _ _ _ => rfl) (fun m j _ _ _ => ?_) (fun m q c' _ _ _ _ => ⟨?_, fun _ => ⟨?_, ?_⟩⟩)
    · show (if m = w then tb_cu E k e1 else E) j = (if m ∈ [w] then tb_cu E k e1 else E) j
      by_cases y : m = w
      · rw [if_pos y, if_pos (by rw [y]; simp)]
      · rw [if_neg y, if_neg (by simp [y])]
    · show (if m = w then upd N (3 * p + c) num else N) (3 * q + c') = (if m ∈ [w] then upd N (3 * p + c) num else N) (3 * q + c')
      by_cases y : m = w
      · rw [if_pos y, if_pos (by rw [y]; simp)]
      · rw [if_neg y, if_neg (by simp [y])]
    · show (if m = w then upd C (3 * p + c) (nI cd) else C) (3 * q + c') = (if m ∈ [w] then upd C (3 * p + c) (nI cd) else C) (3 * q + c')
      by_cases y : m = w
      · rw [if_pos y, if_pos (by rw [y]; simp)]
      · rw [if_neg y, if_neg (by simp [y])]
    · show (if m = w then vp_updL R (3 * p + c) oc else R) (3 * q + c') = (if m ∈ [w] then vp_updL R (3 * p + c) oc else R) (3 * q + c')
      by_cases y : m = w
      · rw [if_pos y, if_pos (by rw [y]; simp)]
      · rw [if_neg y, if_neg (by simp [y])]
  · refine xs_slot hw5 hk hS.1 (fun q hq160 hq1 hq2 hqc => ?_)
    dsimp only at hqc
    rw [hkp, if_pos (li_Ht.mpr hwl), if_pos (by simp), tb_cs] at hqc
    refine And.intro (vp_in_nI (by omega) (by omega)) (nm_r (e' := nI cd) (by rw [nI_clamp (by omega)]; exact z3) (nm_r (e' := nI (5 * p + 1)) (by rw [ar_5]; exact nI_1 _) ⟨(ls p).length + 1, ?_⟩))
    exact xq_129 hA hWC hLV hR hk hkp hc hp hw hf e hf1 hcd hnum hq160 hq1 hq2 h3 h4 h0 _ 1 xtg xst xrn xrc xrr (by omega) (by omega) (by omega) (by rw [et1]; exact hS) hqc
end
end
section
section
variable {yBK yFA yLO yEX yVH : Int32} {yVV yOC : Int64} {ylv yls ysz yha yrn yrc yop yle ypa ynu yqt yqk yqa yon ywa : Nat → Int32} {yva yrr yar yst ysh : Nat → Int64}
variable {poi : Int32 → SY → Prop} {B L : Nat} {ls : Nat → List Nat} {E : Nat → Option Int64} {N C : Nat → Int32} {R : Nat → Int64} {p k c w cd f : Nat} {e1 : Option Int64} {num : Int32} {oc : Int64}
theorem yq_303 (hc : c < 3) (hf : f < 5) (h5 : 2 < f → poi 5 (yBK, yFA, yLO, yEX, yVH, yVV, yOC, ylv, yls, ysz, yha, yva, yrn, yrc, yrr, yop, yar, yle, ypa, yst, ynu, yqt, yqk, yqa, yon, ysh, ywa)) (h0 : f ≤ 2 → poi (nI cd) (yBK, yFA, yLO, yEX, yVH, yVV, yOC, ylv, yls, ysz, yha, yva, yrn, yrc, yrr, yop, yar, yle, ypa, yst, ynu, yqt, yqk, yqa, upd yon c 0, vp_updL ysh c yOC, ywa)) : wY_send_303 poi (nI c) (nI f) (nI cd) yBK yFA yLO yEX yVH yVV yOC ylv yls ysz yha yva yrn yrc yrr yop yar yle ypa yst ynu yqt yqk yqa yon ysh ywa := by
  have ic : vp_in (nI c) 3 := vp_in_nI hc (by omega)
  have cc : (nI c).toNatClampNeg = c := nI_clamp (by omega)
  unfold wY_send_303
  rw [cc]
  exact pk_le f 2 (fun e => And.intro ic (nm_e (And.intro ic (nm_r (e' := upd yon c 0) (by rw [bo_0]) (h0 e))))) h5
/-- commit done: the ends -/
theorem yq_292 (hA : ma_A B L ls E N C) (hY : my_Y B L ls E N C R yBK ylv yls ysz yha yva yrn yrc yrr) (hc : c < 3) (hw : w < 5) (hf : f < 5) (hf2 : f ≠ 2) (hf1 : f ≠ 1)
    (h3 : f = 3 → ∀ (lv : Nat → Int32) (lo : Int32) (ha rn li sz wn : Nat → Int32), lo = (dr_F B L w ls yLO E N).2.1 →
      my_Y B (li_out L w) (dr_F B L w ls yLO E N).1 (dr_F B L w ls yLO E N).2.2.1 (dr_F B L w ls yLO E N).2.2.2 C R yBK lv li sz ha yva rn yrc yrr → poi 5 (yBK, yFA, lo, yEX, yVH, yVV, yOC, lv, li, sz, ha, yva, rn, yrc, yrr, yop, yar, yle, ypa, yst, ynu, yqt, yqk, yqa, yon, ysh, wn))
    (h4 : f = 4 → poi 5 (yBK, yFA, yLO, yEX, yVH, yVV, yOC, ylv, yls, ysz, yha, yva, yrn, yrc, yrr, yop, yar, yle, ypa, yst, ynu, yqt, yqk, yqa, yon, ysh, ywa)) (h0 : f = 0 → poi (nI cd) (yBK, yFA, yLO, yEX, yVH, yVV, yOC, ylv, yls, ysz, yha, yva, yrn, yrc, yrr, yop, yar, yle, ypa, yst, ynu, yqt, yqk, yqa, upd yon c 0, vp_updL ysh c yOC, ywa)) : wY_send_292 poi (nI c) (nI f) (nI w) (nI cd) yBK yFA yLO yEX yVH yVV yOC ylv yls ysz yha yva yrn yrc yrr yop yar yle ypa yst ynu yqt yqk yqa yon ysh ywa := by
  unfold wY_send_292
  refine pk_eq f 3 (fun e => ?_) (fun e => yq_303 hc hf (fun z => h4 (by omega)) (fun z => h0 (by omega)))
  refine yd_dropM hA hw hY (fun lv lo ha rn li sz wn q1 q2 => ?_)
  exact yq_303 hc hf (fun _ => h3 e lv lo ha rn li sz wn q1 q2) (fun z => absurd z (by omega))
/-- the view and the record are committed, if fresh (b = 1) -/
theorem yq_211 {b : Nat} (hb : b < 2) (hA : ma_A B L ls E N C) (hY : my_Y B L ls E N C R yBK ylv yls ysz yha yva yrn yrc yrr) (hk : k < 18) (hkp : k % 6 = p) (hp : p < 6) (hc : c < 3) (hw : w < 5) (hf : f < 5) (hf1 : f ≠ 1) (hcd : cd ≤ 3) (hne : ls p ≠ []) (hnum : ynu c = num) (hoc : yOC = oc)
    (h10 : b = 1 → cd = 0 → (yVH = 0 ∧ e1 = none) ∨ (yVH = 1 ∧ e1 = some yVV)) (h11 : b = 1 → cd ≠ 0 → e1 = E k)
    (h00 : b = 0 → E k = e1 ∧ N (3 * p + c) = num ∧ C (3 * p + c) = nI cd ∧ R (3 * p + c) = oc)
    (h2 : f = 2 → ∀ (lv : Nat → Int32) (lo : Int32) (ha rn li sz wn : Nat → Int32), lo = (dr_F B L w ls yLO E N).2.1 →
      my_Y B (li_out L w) (dr_F B L w ls yLO E N).1 (dr_F B L w ls yLO E N).2.2.1 (dr_F B L w ls yLO E N).2.2.2 C R yBK lv li sz ha yva rn yrc yrr → poi 5 (yBK, yFA, lo, yEX, yVH, yVV, yOC, lv, li, sz, ha, yva, rn, yrc, yrr, yop, yar, yle, ypa, yst, ynu, yqt, yqk, yqa, yon, ysh, wn))
    (h3 : f = 3 → ∀ (lv : Nat → Int32) (lo : Int32) (ha : Nat → Int32) (va : Nat → Int64) (rn rc : Nat → Int32) (rr : Nat → Int64) (li sz wn : Nat → Int32), lo = (dr_F B L w ls yLO (tb_cu E k e1) (upd N (3 * p + c) num)).2.1 →
      my_Y B (li_out L w) (dr_F B L w ls yLO (tb_cu E k e1) (upd N (3 * p + c) num)).1 (dr_F B L w ls yLO (tb_cu E k e1) (upd N (3 * p + c) num)).2.2.1 (dr_F B L w ls yLO (tb_cu E k e1) (upd N (3 * p + c) num)).2.2.2 (upd C (3 * p + c) (nI cd)) (vp_updL R (3 * p + c) oc) yBK lv li sz ha va rn rc rr →
      poi 5 (yBK, yFA, lo, yEX, yVH, yVV, yOC, lv, li, sz, ha, va, rn, rc, rr, yop, yar, yle, ypa, yst, ynu, yqt, yqk, yqa, yon, ysh, wn))
    (h4 : f = 4 → ∀ (ha : Nat → Int32) (va : Nat → Int64) (rn rc : Nat → Int32) (rr : Nat → Int64),
      my_Y B L ls (tb_cu E k e1) (upd N (3 * p + c) num) (upd C (3 * p + c) (nI cd)) (vp_updL R (3 * p + c) oc) yBK ylv yls ysz ha va rn rc rr → poi 5 (yBK, yFA, yLO, yEX, yVH, yVV, yOC, ylv, yls, ysz, ha, va, rn, rc, rr, yop, yar, yle, ypa, yst, ynu, yqt, yqk, yqa, yon, ysh, ywa))
    (h0 : f = 0 → ∀ (ha : Nat → Int32) (va : Nat → Int64) (rn rc : Nat → Int32) (rr : Nat → Int64),
      my_Y B L ls (tb_cu E k e1) (upd N (3 * p + c) num) (upd C (3 * p + c) (nI cd)) (vp_updL R (3 * p + c) oc) yBK ylv yls ysz ha va rn rc rr → poi (nI cd) (yBK, yFA, yLO, yEX, yVH, yVV, yOC, ylv, yls, ysz, ha, va, rn, rc, rr, yop, yar, yle, ypa, yst, ynu, yqt, yqk, yqa, upd yon c 0, vp_updL ysh c oc, ywa)) :
    wY_send_211 poi (nI c) (nI f) (nI k) (nI w) (nI (3 * p + c)) (nI cd) (nI b) yBK yFA yLO yEX yVH yVV yOC ylv yls ysz yha yva yrn yrc yrr yop yar yle ypa yst ynu yqt yqk yqa yon ysh ywa := by
  subst hoc
  have ic : vp_in (nI c) 3 := vp_in_nI hc (by omega)
  have cc : (nI c).toNatClampNeg = c := nI_clamp (by omega)
  have ik : vp_in (nI k) 18 := vp_in_nI hk (by omega)
  have ck : (nI k).toNatClampNeg = k := nI_clamp (by omega)
  have ir : vp_in (nI (3 * p + c)) 18 := vp_in_nI (by omega) (by omega)
  have cr : (nI (3 * p + c)).toNatClampNeg = 3 * p + c := nI_clamp (by omega)
  obtain ⟨y1, y2, y3, y4, y5⟩ := id hY
  have hA' := ma_req (e1 := e1) (num := num) (cd := cd) hA hp hkp hc hcd hne
  -- the end behind the commit
  have hend : f ≠ 2 → ∀ (ha : Nat → Int32) (va : Nat → Int64) (rn rc : Nat → Int32) (rr : Nat → Int64),
      my_Y B L ls (tb_cu E k e1) (upd N (3 * p + c) num) (upd C (3 * p + c) (nI cd)) (vp_updL R (3 * p + c) yOC) yBK ylv yls ysz ha va rn rc rr →
      wY_send_292 poi (nI c) (nI f) (nI w) (nI cd) yBK yFA yLO yEX yVH yVV yOC ylv yls ysz ha va rn rc rr yop yar yle ypa yst ynu yqt yqk yqa yon ysh ywa := by
    intro hf2 ha va rn rc rr hY'
    refine yq_292 hA' hY' hc hw hf hf2 hf1 (fun e lv lo ha' rn' li sz wn q1 q2 => h3 e lv lo ha' va rn' rc rr li sz wn q1 q2) (fun e => h4 e ha va rn rc rr hY') (fun e => ?_)
    exact h0 e ha va rn rc rr hY'
  have h222 : f ≠ 2 → wY_send_222 poi (nI c) (nI f) (nI k) (nI w) (nI (3 * p + c)) (nI cd) (nI b) yBK yFA yLO yEX yVH yVV yOC ylv yls ysz yha yva yrn yrc yrr yop yar yle ypa yst ynu yqt yqk yqa yon ysh ywa := by
    intro hf2
    unfold wY_send_222
    refine pk_eq f 2 (fun e => absurd e hf2) (fun _ => pk_eq b 0 (fun e => ?_) (fun e => ?_))
    · obtain ⟨q1, q2, q3, q4⟩ := h00 e
      have b1 : tb_cu E k e1 = E := by
        funext j
        by_cases z : j = k
        · rw [z, tb_cs, q1]
        · exact tb_cn z
      have b2 : upd N (3 * p + c) num = N := by
        funext j
        by_cases z : j = 3 * p + c
        · rw [z, pk_us, q2]
        · exact pk_un z
      have b3 : upd C (3 * p + c) (nI cd) = C := by
        funext j
        by_cases z : j = 3 * p + c
        · rw [z, pk_us, q3]
        · exact pk_un z
      have b4 : vp_updL R (3 * p + c) yOC = R := by
        funext j
        by_cases z : j = 3 * p + c
        · rw [z, pk_uLs, q4]
        · exact pk_uLn z
      refine hend hf2 yha yva yrn yrc yrr ?_
      rw [b1, b2, b3, b4]
      exact hY
    · have eb : b = 1 := by omega
      have hrec : ∀ j, j < 18 → upd yrn (3 * p + c) num j = upd N (3 * p + c) num j ∧ upd yrc (3 * p + c) (nI cd) j = upd C (3 * p + c) (nI cd) j ∧ vp_updL yrr (3 * p + c) yOC j = vp_updL R (3 * p + c) yOC j := by
        intro j hj
        by_cases z : j = 3 * p + c
        · rw [z, pk_us, pk_us, pk_us, pk_us, pk_uLs, pk_uLs]; exact ⟨rfl, rfl, rfl⟩
        · rw [pk_un z, pk_un z, pk_un z, pk_un z, pk_uLn z, pk_uLn z]; exact y5 j hj
      rw [cc, cr, ck, hnum]
      refine And.intro ic (And.intro ir (nm_e (And.intro ir (nm_e (And.intro ir (nm_e (pk_eq cd 0 (fun e0 => ?_) (fun e0 => ?_))))))))
      · have hv := h10 eb e0
        have hvb : vp_nar .boolean yVH = yVH := by
          rcases hv with z | z
          · rw [z.1]; rfl
          · rw [z.1]; rfl
        rw [hvb]
        refine And.intro ik (nm_e (And.intro ik (nm_e ?_)))
        have K := hend hf2 (upd yha k yVH) (vp_updL yva k yVV) (upd yrn (3 * p + c) num) (upd yrc (3 * p + c) (nI cd)) (vp_updL yrr (3 * p + c) yOC) ⟨y1, y2, y3, fun j hj => ?_, hrec⟩
        · exact K
        · by_cases z : j = k
          · rw [z, pk_us, pk_uLs, tb_cs]; exact hv
          · rw [pk_un z, pk_uLn z, tb_cn z]; exact y4 j hj
      · have K := hend hf2 yha yva (upd yrn (3 * p + c) num) (upd yrc (3 * p + c) (nI cd)) (vp_updL yrr (3 * p + c) yOC) ⟨y1, y2, y3, fun j hj => ?_, hrec⟩
        · exact K
        · by_cases z : j = k
          · rw [z, tb_cs, h11 eb e0]; exact y4 k hk
          · rw [tb_cn z]; exact y4 j hj
  unfold wY_send_211
  refine pk_eq f 2 (fun e => ?_) (fun e => h222 e)
  refine yd_dropM hA hw hY (fun lv lo ha rn li sz wn q1 q2 => ?_)
  unfold wY_send_222
  exact pk_eq f 2 (fun _ => h2 e lv lo ha rn li sz wn q1 q2) (fun z => absurd e z)
theorem ar_r6 {k : Nat} (h : k < 1000) : nI k - nI k / 6 * 6 = nI (k % 6) := pk_rem (d := 6) (by omega) (by decide) (by decide)
/-- up to the execution -/
theorem yq_send (hR : li_R yls ysz ls) (hK : li_K ls) (hk : k < 18) (hkp : k % 6 = p) (hc : c < 3) (hf : yFA = nI f) (hf5 : f < 5) (hqk : yqk c = nI k)
    (h4 : ls p = [] → poi 4 (yBK, 0, yLO, yEX, yVH, yVV, yOC, ylv, yls, ysz, yha, yva, yrn, yrc, yrr, yop, yar, yle, ypa, yst, ynu, yqt, yqk, yqa, yon, ysh, ywa)) (h5 : ls p ≠ [] → f = 1 → poi 5 (yBK, 0, yLO, yEX, yVH, yVV, yOC, ylv, yls, ysz, yha, yva, yrn, yrc, yrr, yop, yar, yle, ypa, yst, ynu, yqt, yqk, yqa, yon, ysh, ywa))
    (h1 : ∀ w, (ls p)[0]? = some w → f ≠ 1 → yrn (3 * p + c) = ynu c → wY_send_102 poi (nI c) (nI f) (nI k) (nI w) (nI (3 * p + c)) (yrc (3 * p + c)) 0 yBK 0 yLO yEX yVH yVV (yrr (3 * p + c)) ylv yls ysz yha yva yrn yrc yrr yop yar yle ypa yst ynu yqt yqk yqa yon ysh ywa)
    (h2 : ∀ w, (ls p)[0]? = some w → f ≠ 1 → ¬ yrn (3 * p + c) = ynu c → wY_send_102 poi (nI c) (nI f) (nI k) (nI w) (nI (3 * p + c)) (yrc (3 * p + c)) 1 yBK 0 yLO yEX yVH yVV (yrr (3 * p + c)) ylv yls ysz yha yva yrn yrc yrr yop yar yle ypa yst ynu yqt yqk yqa yon ysh ywa) :
    wpY_send poi (yBK, yFA, yLO, yEX, yVH, yVV, yOC, ylv, yls, ysz, yha, yva, yrn, yrc, yrr, yop, yar, yle, ypa, yst, ynu, yqt, yqk, yqa, yon, ysh, ywa) (nI c) := by
  have hp : p < 6 := by omega
  have ic : vp_in (nI c) 3 := vp_in_nI hc (by omega)
  have cc : (nI c).toNatClampNeg = c := nI_clamp (by omega)
  have ir : vp_in (nI (3 * p + c)) 18 := vp_in_nI (by omega) (by omega)
  have cr : (nI (3 * p + c)).toNatClampNeg = 3 * p + c := nI_clamp (by omega)
  obtain ⟨g1, g2⟩ := hR p hp
  obtain ⟨k1, k2⟩ := hK p hp
  unfold wpY_send
  refine And.intro ic (nm_r (e' := nI k) (by rw [cc]; exact hqk) (And.intro (by decide) (nm_r (e' := nI p) (by rw [ar_r6 (by omega), hkp]) (And.intro (vp_in_nI hp (by omega)) (pk_eq (ls p).length 0 (fun e => h4 (List.length_eq_zero_iff.mp e)) (fun e => ?_) (by rw [nI_clamp (by omega), g1]))))))
  have hne : ls p ≠ [] := by intro z; rw [z] at e; exact e rfl
  have hx := List.getElem?_eq_getElem (l := ls p) (i := 0) (by omega)
  generalize hgx : (ls p)[0]'(by omega) = w at hx
  have ew := g2 0 w hx
  rw [Nat.add_zero] at ew
  rw [hf]
  refine pk_eq f 1 (fun e1 => h5 hne e1) (fun e1 => ?_)
  refine And.intro (by rw [ar_5]; exact vp_in_nI (by omega) (by omega)) (nm_r (e' := nI w) (by rw [ar_5, nI_clamp (by omega)]; exact ew) (nm_r (ar_3i p c) ?_))
  rw [cr, cc]
  exact And.intro ir (nm_e (And.intro ir (nm_e (And.intro ir (And.intro ic (br_c (fun z => h1 w hx e1 z) (fun z => h2 w hx e1 z)))))))
end
end
section
/-! the relation -/
def rl_S (xPF yFA xLO yLO xEX yEX : Int32) : Prop := xPF = yFA ∧ (∃ f, f < 5 ∧ xPF = nI f) ∧ xLO = yLO ∧ xEX = yEX
def rl_q (k c : Nat) (xnu xrk xan yon : Nat → Int32) : Prop := (∃ m, m ≤ k ∧ xnu c = nI m) ∧ (∃ q, q < 18 ∧ xrk c = nI q) ∧ yon c = (if xnu c = 0 then 0 else if xan c = 0 then 1 else 0)
def rl_Q (k : Nat) (xnu xrt xra xrk xan : Nat → Int32) (xrs : Nat → Int64) (ynu yqt yqk yqa yon : Nat → Int32) (ysh : Nat → Int64) : Prop :=
  xnu = ynu ∧ xrt = yqt ∧ xrk = yqk ∧ xra = yqa ∧ xrs = ysh ∧ ∀ c, c < 3 → rl_q k c xnu xrk xan yon
def rl_D (xDR : Int32) (xdo : Nat → Int32) (xdc : Nat → Int64) (yle yop : Nat → Int32) (yar : Nat → Int64) : Prop :=
  ∃ n, n ≤ 16 ∧ xDR = nI n ∧ yle 4 = nI n ∧ ∃ o : Nat → Nat, ∀ j, j < 16 → o j < 24 ∧ xdo j = nI (o j) ∧ yop (64 + j) = nI (o j) ∧ yar (64 + j) = xdc j
def rl_M (xWC xLV : Int32) (xcp xcc xtg : Nat → Int32) (xst : Nat → Int64) (xrn xrc : Nat → Int32) (xrr : Nat → Int64) (yBK : Int32) (ylv yls ysz yha : Nat → Int32) (yva : Nat → Int64) (yrn yrc : Nat → Int32) (yrr : Nat → Int64) : Prop :=
  ∃ (B L : Nat) (ls : Nat → List Nat) (E : Nat → Option Int64) (N C : Nat → Int32) (R : Nat → Int64), ma_A B L ls E N C ∧ mx_X B L ls E N C R xWC xLV xcp xcc xtg xst xrn xrc xrr ∧ my_Y B L ls E N C R yBK ylv yls ysz yha yva yrn yrc yrr
def rl_A (k : Nat) (xWC : Int32) (xLV : Int32) (xPF : Int32) (xLO : Int32) (xEX : Int32) (xWS : Int32) (xDR : Int32) (xVT : Int32) (xVV : Int64) (xOC : Int64) (xCH : Int32) (xcp : Nat → Int32) (xcc : Nat → Int32) (xwi : Nat → Int32) (xtg : Nat → Int32) (xst : Nat → Int64) (xrn : Nat → Int32) (xrc : Nat → Int32) (xrr : Nat → Int64) (xnu : Nat → Int32) (xrt : Nat → Int32) (xra : Nat → Int32) (xrk : Nat → Int32) (xan : Nat → Int32) (xrs : Nat → Int64) (xdo : Nat → Int32) (xdc : Nat → Int64) (xhe : Nat → Int32) (xfr : Nat → Int32) (xta : Nat → Int32) (xso : Nat → Int32) (xsr : Nat → Int32) (xsn : Nat → Int32) (xsx : Nat → Int32) (xsc : Nat → Int32) (xsd : Nat → Int32) (xse : Nat → Int32) (xsk : Nat → Int64) (xdp : Nat → Int32) (xrg : Nat → Int64) (yBK : Int32) (yFA : Int32) (yLO : Int32) (yEX : Int32) (yVH : Int32) (yVV : Int64) (yOC : Int64) (ylv : Nat → Int32) (yls : Nat → Int32) (ysz : Nat → Int32) (yha : Nat → Int32) (yva : Nat → Int64) (yrn : Nat → Int32) (yrc : Nat → Int32) (yrr : Nat → Int64) (yop : Nat → Int32) (yar : Nat → Int64) (yle : Nat → Int32) (ypa : Nat → Int32) (yst : Nat → Int64) (ynu : Nat → Int32) (yqt : Nat → Int32) (yqk : Nat → Int32) (yqa : Nat → Int32) (yon : Nat → Int32) (ysh : Nat → Int64) (ywa : Nat → Int32) : Prop :=
  rl_M xWC xLV xcp xcc xtg xst xrn xrc xrr yBK ylv yls ysz yha yva yrn yrc yrr ∧ rl_S xPF yFA xLO yLO xEX yEX ∧ rl_Q k xnu xrt xra xrk xan xrs ynu yqt yqk yqa yon ysh ∧
  rl_D xDR xdo xdc yle yop yar ∧ rl_T yop yar yle xdp xso xsr xsn xsx xsc xsd xse xsk
/-- the relation at the head of a turn whose first cell is k -/
def i_Rel (k : Nat) (u : SX) (v : SY) : Prop := match u with
  | (xWC, xLV, xPF, xLO, xEX, xWS, xDR, xVT, xVV, xOC, xCH, xcp, xcc, xwi, xtg, xst, xrn, xrc, xrr, xnu, xrt, xra, xrk, xan, xrs, xdo, xdc, xhe, xfr, xta, xso, xsr, xsn, xsx, xsc, xsd, xse, xsk, xdp, xrg) => match v with
    | (yBK, yFA, yLO, yEX, yVH, yVV, yOC, ylv, yls, ysz, yha, yva, yrn, yrc, yrr, yop, yar, yle, ypa, yst, ynu, yqt, yqk, yqa, yon, ysh, ywa) => rl_A k xWC xLV xPF xLO xEX xWS xDR xVT xVV xOC xCH xcp xcc xwi xtg xst xrn xrc xrr xnu xrt xra xrk xan xrs xdo xdc xhe xfr xta xso xsr xsn xsx xsc xsd xse xsk xdp xrg yBK yFA yLO yEX yVH yVV yOC ylv yls ysz yha yva yrn yrc yrr yop yar yle ypa yst ynu yqt yqk yqa yon ysh ywa
theorem rl_el {k : Nat} {P : SX → SY → Prop} (h : ∀ (xWC : Int32) (xLV : Int32) (xPF : Int32) (xLO : Int32) (xEX : Int32) (xWS : Int32) (xDR : Int32) (xVT : Int32) (xVV : Int64) (xOC : Int64) (xCH : Int32) (xcp : Nat → Int32) (xcc : Nat → Int32) (xwi : Nat → Int32) (xtg : Nat → Int32) (xst : Nat → Int64) (xrn : Nat → Int32) (xrc : Nat → Int32) (xrr : Nat → Int64) (xnu : Nat → Int32) (xrt : Nat → Int32) (xra : Nat → Int32) (xrk : Nat → Int32) (xan : Nat → Int32) (xrs : Nat → Int64) (xdo : Nat → Int32) (xdc : Nat → Int64) (xhe : Nat → Int32) (xfr : Nat → Int32) (xta : Nat → Int32) (xso : Nat → Int32) (xsr : Nat → Int32) (xsn : Nat → Int32) (xsx : Nat → Int32) (xsc : Nat → Int32) (xsd : Nat → Int32) (xse : Nat → Int32) (xsk : Nat → Int64) (xdp : Nat → Int32) (xrg : Nat → Int64) (yBK : Int32) (yFA : Int32) (yLO : Int32) (yEX : Int32) (yVH : Int32) (yVV : Int64) (yOC : Int64) (ylv : Nat → Int32) (yls : Nat → Int32) (ysz : Nat → Int32) (yha : Nat → Int32) (yva : Nat → Int64) (yrn : Nat → Int32) (yrc : Nat → Int32) (yrr : Nat → Int64) (yop : Nat → Int32) (yar : Nat → Int64) (yle : Nat → Int32) (ypa : Nat → Int32) (yst : Nat → Int64) (ynu : Nat → Int32) (yqt : Nat → Int32) (yqk : Nat → Int32) (yqa : Nat → Int32) (yon : Nat → Int32) (ysh : Nat → Int64) (ywa : Nat → Int32), rl_A k xWC xLV xPF xLO xEX xWS xDR xVT xVV xOC xCH xcp xcc xwi xtg xst xrn xrc xrr xnu xrt xra xrk xan xrs xdo xdc xhe xfr xta xso xsr xsn xsx xsc xsd xse xsk xdp xrg yBK yFA yLO yEX yVH yVV yOC ylv yls ysz yha yva yrn yrc yrr yop yar yle ypa yst ynu yqt yqk yqa yon ysh ywa → P (xWC, xLV, xPF, xLO, xEX, xWS, xDR, xVT, xVV, xOC, xCH, xcp, xcc, xwi, xtg, xst, xrn, xrc, xrr, xnu, xrt, xra, xrk, xan, xrs, xdo, xdc, xhe, xfr, xta, xso, xsr, xsn, xsx, xsc, xsd, xse, xsk, xdp, xrg) (yBK, yFA, yLO, yEX, yVH, yVV, yOC, ylv, yls, ysz, yha, yva, yrn, yrc, yrr, yop, yar, yle, ypa, yst, ynu, yqt, yqk, yqa, yon, ysh, ywa)) : ∀ (u : SX) (v : SY), i_Rel k u v → P u v
  | (xWC, xLV, xPF, xLO, xEX, xWS, xDR, xVT, xVV, xOC, xCH, xcp, xcc, xwi, xtg, xst, xrn, xrc, xrr, xnu, xrt, xra, xrk, xan, xrs, xdo, xdc, xhe, xfr, xta, xso, xsr, xsn, xsx, xsc, xsd, xse, xsk, xdp, xrg), (yBK, yFA, yLO, yEX, yVH, yVV, yOC, ylv, yls, ysz, yha, yva, yrn, yrc, yrr, yop, yar, yle, ypa, yst, ynu, yqt, yqk, yqa, yon, ysh, ywa), I => h xWC xLV xPF xLO xEX xWS xDR xVT xVV xOC xCH xcp xcc xwi xtg xst xrn xrc xrr xnu xrt xra xrk xan xrs xdo xdc xhe xfr xta xso xsr xsn xsx xsc xsd xse xsk xdp xrg yBK yFA yLO yEX yVH yVV yOC ylv yls ysz yha yva yrn yrc yrr yop yar yle ypa yst ynu yqt yqk yqa yon ysh ywa I
section
variable {xWC xLV xPF xLO xEX xWS xDR xVT xCH : Int32} {xVV xOC : Int64} {xcp xcc xwi xtg xrn xrc xnu xrt xra xrk xan xdo xhe xfr xta xso xsr xsn xsx xsc xsd xse xdp : Nat → Int32} {xst xrr xrs xdc xsk xrg : Nat → Int64}
variable {yBK yFA yLO yEX yVH : Int32} {yVV yOC : Int64} {ylv yls ysz yha yrn yrc yop yle ypa ynu yqt yqk yqa yon ywa : Nat → Int32} {yva yrr yar yst ysh : Nat → Int64}
variable {k c : Nat}
/-- a request is sent: the component's end, and for every end of it the reference's -/
theorem sn_send (I : rl_A k xWC xLV xPF xLO xEX xWS xDR xVT xVV xOC xCH xcp xcc xwi xtg xst xrn xrc xrr xnu xrt xra xrk xan xrs xdo xdc xhe xfr xta xso xsr xsn xsx xsc xsd xse xsk xdp xrg yBK yFA yLO yEX yVH yVV yOC ylv yls ysz yha yva yrn yrc yrr yop yar yle ypa yst ynu yqt yqk yqa yon ysh ywa) (hc : c < 3) (hnum : xnu c ≠ 0) (pX : Int32 → SX → Prop)
    (hX : ∀ (r lv pf lo ex ws vt : Int32) (vv oc : Int64) (cp cc wi tg : Nat → Int32) (st : Nat → Int64) (rn rc : Nat → Int32) (rr : Nat → Int64) (an : Nat → Int32) (rs rg : Nat → Int64),
      (∀ pY : Int32 → SY → Prop, (∀ (fa lo' ex' vh : Int32) (vv' oc' : Int64) (lv' li sz ha : Nat → Int32) (va : Nat → Int64) (rn' rc' : Nat → Int32) (rr' ys : Nat → Int64) (op : Nat → Int32) (sh : Nat → Int64) (wn : Nat → Int32),
          rl_A k xWC lv pf lo ex ws xDR vt vv oc xCH cp cc wi tg st rn rc rr xnu xrt xra xrk an rs xdo xdc xhe xfr xta xso xsr xsn xsx xsc xsd xse xsk xdp rg
            yBK fa lo' ex' vh vv' oc' lv' li sz ha va rn' rc' rr' yop yar yle ypa ys ynu yqt yqk yqa op sh wn →
          pY r (yBK, fa, lo', ex', vh, vv', oc', lv', li, sz, ha, va, rn', rc', rr', yop, yar, yle, ypa, ys, ynu, yqt, yqk, yqa, op, sh, wn)) → wpY_send pY (yBK, yFA, yLO, yEX, yVH, yVV, yOC, ylv, yls, ysz, yha, yva, yrn, yrc, yrr, yop, yar, yle, ypa, yst, ynu, yqt, yqk, yqa, yon, ysh, ywa) (nI c)) →
      pX r (xWC, lv, pf, lo, ex, ws, xDR, vt, vv, oc, xCH, cp, cc, wi, tg, st, rn, rc, rr, xnu, xrt, xra, xrk, an, rs, xdo, xdc, xhe, xfr, xta, xso, xsr, xsn, xsx, xsc, xsd, xse, xsk, xdp, rg)) :
    wpX_send pX (xWC, xLV, xPF, xLO, xEX, xWS, xDR, xVT, xVV, xOC, xCH, xcp, xcc, xwi, xtg, xst, xrn, xrc, xrr, xnu, xrt, xra, xrk, xan, xrs, xdo, xdc, xhe, xfr, xta, xso, xsr, xsn, xsx, xsc, xsd, xse, xsk, xdp, xrg) (nI c) := by
  obtain ⟨⟨B, L, ls, E, N, C, R, hA, hMX, hMY⟩, ⟨s1, ⟨f, hf5, s2⟩, s3, s4⟩, ⟨q1, q2, q3, q4, q5, q6⟩, hD, hT⟩ := I
  subst q1 q2 q3 q4 q5 s1 s3 s4
  obtain ⟨⟨m, hm, em⟩, ⟨key, hkey, ekey⟩, eon⟩ := q6 c hc
  have hK := ma_K hA
  obtain ⟨x1, x2, x3, x4⟩ := id hMX
  obtain ⟨y1, y2, y3, y4, y5⟩ := id hMY
  have hp : key % 6 < 6 := Nat.mod_lt _ (by decide)
  generalize hkp : key % 6 = p at hp
  have ic : vp_in (nI c) 3 := vp_in_nI hc (by omega)
  have cc : (nI c).toNatClampNeg = c := nI_clamp (by omega)
  have hL := hA.2.1
  -- the relation of what a request doesn't touch
  have hS0 : ∀ lo ex : Int32, rl_S 0 0 lo lo ex ex := fun lo ex => ⟨rfl, ⟨0, by omega, rfl⟩, rfl, rfl⟩
  unfold wpX_send
  refine And.intro ic (nm_r (e' := nI key) (by rw [cc]; exact ekey) (And.intro (by decide) (nm_r (e' := nI p) (by rw [ar_r6 (by omega), hkp]) ?_)))
  have hlive : L = 0 ↔ ls p = [] := by
    constructor
    · intro z
      cases hl : ls p with
      | nil => rfl
      | cons a t =>
        have := ((hA.2.2.1 p hp).2.2.1 a (by rw [hl]; simp)).2
        rw [z, Nat.zero_testBit] at this
        exact absurd this (by decide)
    · intro z
      exact Classical.byContradiction (fun w => (hA.2.2.1 p hp).2.2.2.1 w z)
  rw [x2]
  refine pk_eq L 0 (fun hL0 => ?_) (fun hL0 => ?_)
  · -- no member
    have K := hX 4 xLV 0 xLO xEX xWS xVT xVV xOC xcp xcc xwi xtg xst xrn xrc xrr xan xrs xrg (fun pY hY => ?_)
    · rw [x2] at K; exact K
    · refine yq_send y3 hK hkey hkp hc s2 hf5 ekey (fun _ => ?_) (fun z => absurd (hlive.mp hL0) z) (fun w hw => ?_) (fun w hw => ?_)
      · refine hY 0 xLO xEX yVH yVV yOC ylv yls ysz yha yva yrn yrc yrr yst yon xrs ywa ⟨⟨B, L, ls, E, N, C, R, hA, hMX, hMY⟩, hS0 _ _, ⟨rfl, rfl, rfl, rfl, rfl, q6⟩, hD, hT⟩
      · rw [hlive.mp hL0] at hw; exact absurd hw (by simp)
      · rw [hlive.mp hL0] at hw; exact absurd hw (by simp)
  have hne : ls p ≠ [] := fun z => hL0 (hlive.mpr z)
  have hpos : 0 < (ls p).length := by
    cases h : ls p with
    | nil => exact absurd h hne
    | cons a t => simp
  have hx := List.getElem?_eq_getElem (l := ls p) (i := 0) hpos
  generalize hgx : (ls p)[0]'hpos = w at hx
  have hwl := li_mem hx
  have hw5 := (hK p hp).2 w hwl
  have ew := (x3 p hp).2 0 w hx
  rw [Nat.add_zero] at ew
  rw [s2]
  refine pk_eq f 1 (fun hf1 => ?_) (fun hf1 => ?_)
  · -- the request is lost
    have K := hX 5 xLV 0 xLO xEX xWS xVT xVV xOC xcp xcc xwi xtg xst xrn xrc xrr xan xrs xrg (fun pY hY => ?_)
    · rw [x2] at K; exact K
    · refine yq_send y3 hK hkey hkp hc s2 hf5 ekey (fun z => absurd z hne) (fun _ _ => ?_) (fun _ _ z => absurd hf1 z) (fun _ _ z => absurd hf1 z)
      refine hY 0 xLO xEX yVH yVV yOC ylv yls ysz yha yva yrn yrc yrr yst yon xrs ywa ⟨⟨B, L, ls, E, N, C, R, hA, hMX, hMY⟩, hS0 _ _, ⟨rfl, rfl, rfl, rfl, rfl, q6⟩, hD, hT⟩
  -- the owner's record
  obtain ⟨r1, r2⟩ := (x4.2 w p c hw5 hp hc).2 (li_Ht.mpr hwl)
  obtain ⟨n1, n2, n3⟩ := y5 (3 * p + c) (by omega)
  have hon : ∀ c', c' < 3 → rl_q k c' xnu xrk (upd xan c 1) (upd yon c 0) := by
    intro c' hc'
    obtain ⟨a1, a2, a3⟩ := q6 c' hc'
    refine ⟨a1, a2, ?_⟩
    by_cases e : c' = c
    · rw [e, pk_us, pk_us, if_neg hnum, if_neg (by decide)]
    · rw [pk_un e, pk_un e]; exact a3
  -- behind the owner's part
  have hcore : ∀ (b cd : Nat) (e1 : Option Int64) (oc : Int64) (ex vt vh : Int32) (vv yv xoc : Int64) (rg ys : Nat → Int64) (tg : Nat → Int32) (st : Nat → Int64) (rn rc : Nat → Int32) (rr : Nat → Int64), b < 2 → cd ≤ 3 →
      sd_D ls p key c E N C R e1 (xnu c) cd oc [w] tg st rn rc rr →
      (b = 1 → cd = 0 → (vh = 0 ∧ e1 = none) ∨ (vh = 1 ∧ e1 = some yv)) → (b = 1 → cd ≠ 0 → e1 = E key) → (b = 0 → E key = e1 ∧ N (3 * p + c) = xnu c ∧ C (3 * p + c) = nI cd ∧ R (3 * p + c) = oc) →
      (∀ pY : Int32 → SY → Prop, wY_send_211 pY (nI c) (nI f) (nI key) (nI w) (nI (3 * p + c)) (nI cd) (nI b) yBK 0 xLO ex vh yv oc ylv yls ysz yha yva yrn yrc yrr yop yar yle ypa ys xnu xrt xrk xra yon xrs ywa → wpY_send pY (yBK, xPF, xLO, xEX, yVH, yVV, yOC, ylv, yls, ysz, yha, yva, yrn, yrc, yrr, yop, yar, yle, ypa, yst, xnu, xrt, xrk, xra, yon, xrs, ywa) (nI c)) →
      wX_send_90 pX (nI c) (nI f) (nI key) (nI p) (nI w) (nI (18 * w + 3 * p + c)) xWC xLV 0 xLO ex xWS xDR vt vv xoc xCH xcp xcc xwi tg st rn rc rr xnu xrt xra xrk xan xrs xdo xdc xhe xfr xta xso xsr xsn xsx xsc xsd xse xsk xdp rg := by
    intro b cd e1 oc ex vt vh vv yv xoc rg ys tg st rn rc rr hb hcd hS h10 h11 h00 hgo
    have hA' := ma_req (e1 := e1) (num := xnu c) (cd := cd) hA hp hkp hc hcd hne
    refine xq_90 hA x1 x2 x3 hkey hkp hc hp hx hf5 hf1 hcd hnum hS (fun e lo ws cp cc' wi tg' st' rn' k1 k2 => ?_) (fun e lo ws cp cc' wi tg' st' rn' rc' rr' k1 k2 => ?_) (fun e tg' st' rn' rc' rr' k2 => ?_) (fun e tg' st' rn' rc' rr' k2 => ?_)
    · refine hX 5 _ 0 lo ex ws vt vv xoc cp cc' wi tg' st' rn' rc rr xan xrs rg (fun pY hY => hgo pY ?_)
      refine yq_211 hb hA hMY hkey hkp hp hc hw5 hf5 hf1 hcd hne rfl rfl h10 h11 h00 (fun _ lv lo' ha rn2 li sz wn j1 j2 => ?_) (fun z => absurd z (by omega)) (fun z => absurd z (by omega)) (fun z => absurd z (by omega))
      exact hY 0 lo' ex vh yv oc lv li sz ha yva rn2 yrc yrr ys yon xrs wn ⟨⟨B, _, _, _, _, _, _, ma_drop hA hw5, k2, j2⟩, by rw [k1, j1]; exact hS0 _ _, ⟨rfl, rfl, rfl, rfl, rfl, q6⟩, hD, hT⟩
    · refine hX 5 _ 0 lo ex ws vt vv xoc cp cc' wi tg' st' rn' rc' rr' xan xrs rg (fun pY hY => hgo pY ?_)
      refine yq_211 hb hA hMY hkey hkp hp hc hw5 hf5 hf1 hcd hne rfl rfl h10 h11 h00 (fun z => absurd z (by omega)) (fun _ lv lo' ha va rn2 rc2 rr2 li sz wn j1 j2 => ?_) (fun z => absurd z (by omega)) (fun z => absurd z (by omega))
      exact hY 0 lo' ex vh yv oc lv li sz ha va rn2 rc2 rr2 ys yon xrs wn ⟨⟨B, _, _, _, _, _, _, ma_drop hA' hw5, k2, j2⟩, by rw [k1, j1]; exact hS0 _ _, ⟨rfl, rfl, rfl, rfl, rfl, q6⟩, hD, hT⟩
    · refine hX 5 xLV 0 xLO ex xWS vt vv xoc xcp xcc xwi tg' st' rn' rc' rr' xan xrs rg (fun pY hY => hgo pY ?_)
      refine yq_211 hb hA hMY hkey hkp hp hc hw5 hf5 hf1 hcd hne rfl rfl h10 h11 h00 (fun z => absurd z (by omega)) (fun z => absurd z (by omega)) (fun _ ha va rn2 rc2 rr2 j2 => ?_) (fun z => absurd z (by omega))
      exact hY 0 xLO ex vh yv oc ylv yls ysz ha va rn2 rc2 rr2 ys yon xrs ywa ⟨⟨B, L, ls, _, _, _, _, hA', k2, j2⟩, hS0 _ _, ⟨rfl, rfl, rfl, rfl, rfl, q6⟩, hD, hT⟩
    · refine hX (nI cd) xLV 0 xLO ex xWS vt vv xoc xcp xcc xwi tg' st' rn' rc' rr' (upd xan c 1) (vp_updL xrs c oc) rg (fun pY hY => hgo pY ?_)
      refine yq_211 hb hA hMY hkey hkp hp hc hw5 hf5 hf1 hcd hne rfl rfl h10 h11 h00 (fun z => absurd z (by omega)) (fun z => absurd z (by omega)) (fun z => absurd z (by omega)) (fun _ ha va rn2 rc2 rr2 j2 => ?_)
      exact hY 0 xLO ex vh yv oc ylv yls ysz ha va rn2 rc2 rr2 ys (upd yon c 0) (vp_updL xrs c oc) ywa ⟨⟨B, L, ls, _, _, _, _, hA', k2, j2⟩, hS0 _ _, ⟨rfl, rfl, rfl, rfl, rfl, hon⟩, hD, hT⟩
  dsimp only at r1 r2
  refine And.intro (by rw [ar_5]; exact vp_in_nI (by omega) (by omega)) (nm_r (e' := nI w) (by rw [ar_5, nI_clamp (by omega)]; exact ew) (nm_r (ar_18c w p c) (And.intro (vp_in_nI (by omega) (by omega)) (And.intro ic ?_))))
  rw [nI_clamp (n := 18 * w + 3 * p + c) (by omega), cc, r1]
  refine br_c (fun hfr => ?_) (fun hfr => ?_)
  · -- answered before
    have hN0 : N (3 * p + c) ≠ 0 := by rw [hfr]; exact hnum
    obtain ⟨cd, hcd, eC⟩ := hA.2.2.2 (3 * p + c) (by omega) hN0
    have K := hcore 0 cd (E key) (R (3 * p + c)) xEX xVT yVH xVV yVV xOC xrg yst xtg xst xrn xrc xrr (by omega) hcd (sd_same x4 rfl hfr eC rfl) (fun z => absurd z (by decide)) (fun z => absurd z (by decide)) (fun _ => ⟨rfl, hfr, eC, rfl⟩) (fun pY hYw => ?_)
    · rw [x2] at K; exact K
    · refine yq_send y3 hK hkey hkp hc s2 hf5 ekey (fun z => absurd z hne) (fun _ z => absurd z hf1) (fun w' hw' _ _ => ?_) (fun w' hw' _ z => absurd (n1.trans hfr) z)
      have eww : w' = w := Option.some.inj (hw'.symm.trans hx)
      rw [eww, n2, n3, eC]
      unfold wY_send_102
      exact br_t rfl hYw
  · -- a new request
    unfold wpX_perform
    refine xs_slot hw5 hkey x4.1 (fun q hq160 hq1 hq2 hqc => ?_)
    dsimp only at hqc
    rw [hkp, if_pos (li_Ht.mpr hwl)] at hqc
    have iq : vp_in (nI q) 160 := vp_in_nI hq160 (by omega)
    have cq : (nI q).toNatClampNeg = q := nI_clamp (by omega)
    have h35 : ∀ z : Int32, ((z = 0 ∧ E key = none) ∨ (z = 1 ∧ E key = some (xst q))) →
        wX_perform_35 (fun u => match u with | (xWC, xLV, xPF, xLO, xEX, xWS, xDR, xVT, xVV, xOC, xCH, xcp, xcc, xwi, xtg, xst, xrn, xrc, xrr, xnu, xrt, xra, xrk, xan, xrs, xdo, xdc, xhe, xfr, xta, xso, xsr, xsn, xsx, xsc, xsd, xse, xsk, xdp, xrg) => wX_send_90 pX (nI c) (nI f) (nI key) (nI p) (nI w) (nI (18 * w + 3 * p + c)) xWC xLV xPF xLO xEX xWS xDR xVT xVV xOC xCH xcp xcc xwi xtg xst xrn xrc xrr xnu xrt xra xrk xan xrs xdo xdc xhe xfr xta xso xsr xsn xsx xsc xsd xse xsk xdp xrg) (nI c) (nI w) (nI key) (nI (18 * w + 3 * p + c)) (nI q) (xrt c) 3 z xWC (nI L) 0 xLO xEX xWS xDR xVT xVV xOC xCH xcp xcc xwi xtg xst xrn xrc xrr xnu xrt xra xrk xan xrs xdo xdc xhe xfr xta xso xsr xsn xsx xsc xsd xse xsk xdp xrg := by
      intro z hz
      obtain ⟨cd, xt, xv, yt, yv, oc, rg, ys, hF, hXr, hYr⟩ := pf_run (xWC := xWC) (xLV := nI L) (xPF := 0) (xLO := xLO) (xEX := xEX) (xWS := xWS) (xDR := xDR) (xVT := xVT) (xVV := xVV) (xOC := xOC) (xCH := xCH) (xcp := xcp) (xcc := xcc) (xwi := xwi) (xtg := xtg) (xst := xst) (xrn := xrn) (xrc := xrc) (xrr := xrr) (xnu := xnu) (xrt := xrt) (xra := xra) (xrk := xrk) (xan := xan) (xrs := xrs) (xdo := xdo) (xdc := xdc) (xhe := xhe) (xfr := xfr) (xta := xta) (xrg := xrg)
        (yBK := yBK) (yFA := 0) (yLO := xLO) (yEX := xEX) (yVH := yVH) (yVV := yVV) (yOC := yrr (3 * p + c)) (ylv := ylv) (yls := yls) (ysz := ysz) (yha := yha) (yva := yva) (yrn := yrn) (yrc := yrc) (yrr := yrr) (ypa := ypa) (yst := yst) (ynu := xnu) (yqt := xrt) (yqk := xrk) (yqa := xra) (yon := yon) (ysh := xrs) (ywa := ywa)
        hT hc hkey hq160 rfl rfl hz (y4 key hkey)
      obtain ⟨hcd, hoc, hvw⟩ := hF
      refine hXr _ _ _ _ (xp_97 (e1 := if cd = 0 then (if xt = 0 then none else some xv) else E key) hkey hkp hc hp hw5 hwl hcd hoc (fun e => by rw [if_pos e]) (fun e => by rw [if_neg e]) x4 (fun tg st rn rc rr hS => ?_))
      have K := hcore 1 cd _ oc (xEX + 1) xt yt xv yv oc rg ys tg st rn rc rr (by omega) hcd hS (fun _ e => ?_) (fun _ e => by rw [if_neg e]) (fun z => absurd z (by decide)) (fun pY hYw => ?_)
      · rw [x2] at K; exact K
      · rw [if_pos e]
        obtain ⟨v1, v2, v3⟩ := hvw e
        rcases v2 with v2 | v2
        · rw [← v1, v2]; exact Or.inl ⟨rfl, if_pos rfl⟩
        · rw [← v1, v2, if_neg (by decide), v3 (by rw [v2]; decide)]; exact Or.inr ⟨rfl, rfl⟩
      · refine yq_send y3 hK hkey hkp hc s2 hf5 ekey (fun z => absurd z hne) (fun _ z => absurd z hf1) (fun w' hw' _ z => absurd (n1.symm.trans z) hfr) (fun w' hw' _ _ => ?_)
        have eww : w' = w := Option.some.inj (hw'.symm.trans hx)
        rw [eww]
        exact hYr pY _ _ _ _ hYw
    rw [cc, cq]
    refine And.intro ic (nm_e (And.intro iq (br_c (fun z => h35 0 ?_) (fun z => h35 1 ?_))))
    · rcases hqc with y | y
      · exact Or.inl ⟨rfl, y.2⟩
      · exact absurd z y.1
    · rcases hqc with y | y
      · exact absurd y.1 z
      · exact Or.inr ⟨rfl, y.2⟩
end
end
section
/-! the owed names, the smaller ones -/
theorem rl_up {k : Nat} (xWC : Int32) (xLV : Int32) (xPF : Int32) (xLO : Int32) (xEX : Int32) (xWS : Int32) (xDR : Int32) (xVT : Int32) (xVV : Int64) (xOC : Int64) (xCH : Int32) (xcp : Nat → Int32) (xcc : Nat → Int32) (xwi : Nat → Int32) (xtg : Nat → Int32) (xst : Nat → Int64) (xrn : Nat → Int32) (xrc : Nat → Int32) (xrr : Nat → Int64) (xnu : Nat → Int32) (xrt : Nat → Int32) (xra : Nat → Int32) (xrk : Nat → Int32) (xan : Nat → Int32) (xrs : Nat → Int64) (xdo : Nat → Int32) (xdc : Nat → Int64) (xhe : Nat → Int32) (xfr : Nat → Int32) (xta : Nat → Int32) (xso : Nat → Int32) (xsr : Nat → Int32) (xsn : Nat → Int32) (xsx : Nat → Int32) (xsc : Nat → Int32) (xsd : Nat → Int32) (xse : Nat → Int32) (xsk : Nat → Int64) (xdp : Nat → Int32) (xrg : Nat → Int64) (yBK : Int32) (yFA : Int32) (yLO : Int32) (yEX : Int32) (yVH : Int32) (yVV : Int64) (yOC : Int64) (ylv : Nat → Int32) (yls : Nat → Int32) (ysz : Nat → Int32) (yha : Nat → Int32) (yva : Nat → Int64) (yrn : Nat → Int32) (yrc : Nat → Int32) (yrr : Nat → Int64) (yop : Nat → Int32) (yar : Nat → Int64) (yle : Nat → Int32) (ypa : Nat → Int32) (yst : Nat → Int64) (ynu : Nat → Int32) (yqt : Nat → Int32) (yqk : Nat → Int32) (yqa : Nat → Int32) (yon : Nat → Int32) (ysh : Nat → Int64) (ywa : Nat → Int32) (h : rl_A k xWC xLV xPF xLO xEX xWS xDR xVT xVV xOC xCH xcp xcc xwi xtg xst xrn xrc xrr xnu xrt xra xrk xan xrs xdo xdc xhe xfr xta xso xsr xsn xsx xsc xsd xse xsk xdp xrg yBK yFA yLO yEX yVH yVV yOC ylv yls ysz yha yva yrn yrc yrr yop yar yle ypa yst ynu yqt yqk yqa yon ysh ywa) : rl_A (k + 5) xWC xLV xPF xLO xEX xWS xDR xVT xVV xOC xCH xcp xcc xwi xtg xst xrn xrc xrr xnu xrt xra xrk xan xrs xdo xdc xhe xfr xta xso xsr xsn xsx xsc xsd xse xsk xdp xrg yBK yFA yLO yEX yVH yVV yOC ylv yls ysz yha yva yrn yrc yrr yop yar yle ypa yst ynu yqt yqk yqa yon ysh ywa := by
  obtain ⟨h1, h2, ⟨q1, q2, q3, q4, q5, q6⟩, h4, h5⟩ := h
  refine ⟨h1, h2, ⟨q1, q2, q3, q4, q5, fun c hc => ?_⟩, h4, h5⟩
  obtain ⟨⟨m, hm, em⟩, a2, a3⟩ := q6 c hc
  exact ⟨⟨m, by omega, em⟩, a2, a3⟩
theorem i_up {k : Nat} {u : SX} {v : SY} (h : i_Rel k u v) : i_Rel (k + 5) u v :=
  rl_el (P := fun u v => i_Rel (k + 5) u v) (fun xWC xLV xPF xLO xEX xWS xDR xVT xVV xOC xCH xcp xcc xwi xtg xst xrn xrc xrr xnu xrt xra xrk xan xrs xdo xdc xhe xfr xta xso xsr xsn xsx xsc xsd xse xsk xdp xrg yBK yFA yLO yEX yVH yVV yOC ylv yls ysz yha yva yrn yrc yrr yop yar yle ypa yst ynu yqt yqk yqa yon ysh ywa I => rl_up xWC xLV xPF xLO xEX xWS xDR xVT xVV xOC xCH xcp xcc xwi xtg xst xrn xrc xrr xnu xrt xra xrk xan xrs xdo xdc xhe xfr xta xso xsr xsn xsx xsc xsd xse xsk xdp xrg yBK yFA yLO yEX yVH yVV yOC ylv yls ysz yha yva yrn yrc yrr yop yar yle ypa yst ynu yqt yqk yqa yon ysh ywa I) u v h
theorem ow_ix (x : Int32) (n : Nat) : x < 0 ∨ (¬ x < 0 ∧ ∃ j, n ≤ j ∧ j < 2 ^ 31 ∧ x = nI j) ∨ ∃ j, j < n ∧ j < 2 ^ 31 ∧ x = nI j := by
  by_cases h : x < 0
  · exact Or.inl h
  · obtain ⟨j, hj, e⟩ := nI_of h
    by_cases h2 : n ≤ j
    · exact Or.inr (Or.inl ⟨h, j, h2, hj, e⟩)
    · exact Or.inr (Or.inr ⟨j, by omega, hj, e⟩)
theorem xw_in {post : Int32 → Prop} {j n : Nat} (h : j < n) (hn : n < 2 ^ 31) (hp : post 1) : wpX_within post (nI j) (nI n) := by
  unfold wpX_within
  exact br_f (nI_pos (by omega)) (br_f (nI_ge h hn) hp)
theorem xw_hi {post : Int32 → Prop} {j n : Nat} (h : n ≤ j) (hj : j < 2 ^ 31) (hp : post 0) : wpX_within post (nI j) (nI n) := by
  unfold wpX_within
  exact br_f (nI_pos hj) (br_t (nI_le h hj) hp)
theorem xw_lo {post : Int32 → Prop} {x y : Int32} (h : x < 0) (hp : post 0) : wpX_within post x y := by
  unfold wpX_within
  exact br_t h hp
/-! the constructors -/
theorem tb_M0 : ∀ c : Nat → Nat → Option Int64, (∀ m k, c m k = none) → tb_M (fun _ => 0) (fun _ => 0) c := by
  intro c hc m hm
  refine ⟨fun _ => 0, fun _ _ => rfl, fun _ _ => Nat.zero_le _, fun _ _ h => absurd rfl h, fun k _ v hv => ?_, fun _ _ _ _ h => absurd rfl h, fun _ _ h => absurd rfl h⟩
  rw [hc] at hv
  exact absurd hv (by simp)
theorem rl_0 {B : Nat} (hB : B < 3) : i_Rel 1 (nI (B + 1), 0, 0, 0, 0, 0, 0, 0, 0, 0, 0, (fun _ => 0), (fun _ => 0), (fun _ => 0), (fun _ => 0), (fun _ => 0), (fun _ => 0), (fun _ => 0), (fun _ => 0), (fun _ => 0), (fun _ => 0), (fun _ => 0), (fun _ => 0), (fun _ => 0), (fun _ => 0), (fun _ => 0), (fun _ => 0), (fun _ => 0), (fun _ => 0), (fun _ => 0), (fun _ => 0), (fun _ => 0), (fun _ => 0), (fun _ => 0), (fun _ => 0), (fun _ => 0), (fun _ => 0), (fun _ => 0), (fun _ => 0), (fun _ => 0))
    (nI B, 0, 0, 0, 0, 0, 0, (fun _ => 0), (fun _ => 0), (fun _ => 0), (fun _ => 0), (fun _ => 0), (fun _ => 0), (fun _ => 0), (fun _ => 0), (fun _ => 0), (fun _ => 0), (fun _ => 0), (fun _ => 0), (fun _ => 0), (fun _ => 0), (fun _ => 0), (fun _ => 0), (fun _ => 0), (fun _ => 0), (fun _ => 0), (fun _ => 0)) := by
  refine ⟨⟨B, 0, fun _ => [], fun _ => none, fun _ => 0, fun _ => 0, fun _ => 0, ⟨hB, by omega, fun p _ => ⟨by simp, by simp, fun x hx => absurd hx (by simp), fun h => absurd rfl h, fun _ => ⟨fun _ _ _ => rfl, fun _ _ => rfl⟩⟩, fun _ _ h => absurd rfl h⟩, ⟨rfl, rfl, fun p _ => ⟨rfl, li_nil⟩, ?_, ?_⟩, ⟨rfl, fun x _ => ?_, fun p _ => ⟨rfl, li_nil⟩, fun _ _ => Or.inl ⟨rfl, rfl⟩, fun _ _ => ⟨rfl, rfl, rfl⟩⟩⟩,
    ⟨rfl, ⟨0, by omega, rfl⟩, rfl, rfl⟩, ⟨rfl, rfl, rfl, rfl, rfl, fun c _ => ⟨⟨0, by omega, rfl⟩, ⟨0, by omega, rfl⟩, ?_⟩⟩, ⟨0, by omega, rfl, rfl, fun _ => 0, fun j _ => ⟨Nat.succ_pos 23, rfl, rfl, rfl⟩⟩, fun t _ => Or.inl ⟨rfl, rfl⟩⟩
  · exact tb_M0 _ (fun m k => ite_self _)
  · intro m p c _ _ _
    exact ⟨fun _ => rfl, fun h => absurd (li_Ht.mp h) (by simp)⟩
  · rw [Nat.zero_testBit]; rfl
  · rw [if_pos rfl]
theorem i_vc0 (k0 : Int32) : wpX_init (fun u => wpY_init (fun v => i_Rel 1 u v) k0) k0 := by
  unfold wpX_init
  rcases ow_ix k0 3 with h | ⟨h, j, hj, hj2, e⟩ | ⟨j, hj, hj2, e⟩
  · have h0 : ¬ 0 ≤ k0 := Int32.not_le.mpr h
    exact br_f h0 (br_f h0 (rl_0 (B := 0) (by decide)))
  · have h0 : 0 ≤ k0 := Int32.not_lt.mp h
    have h2 : ¬ k0 ≤ 2 := by rw [e]; exact nI_ge (a := 2) (by omega) hj2
    exact br_t h0 (br_f h2 (br_t h0 (br_f h2 (rl_0 (B := 2) (by decide)))))
  · have h0 : 0 ≤ k0 := by rw [e]; exact nI_pos' hj2
    have h2 : k0 ≤ 2 := by rw [e]; exact nI_le (b := 2) (by omega) (by decide)
    refine br_t h0 (br_t h2 (nm_r (e' := nI (j + 1)) (by rw [e, nI_1]) (br_t h0 (br_t h2 ?_))))
    rw [e]
    exact rl_0 hj
/-! reading -/
theorem i_vc_result {k : Nat} {u : SX} {v : SY} (I : i_Rel k u v) (hk : k + 5 ≤ 2561) (v1 : Int32) : wpX_result (fun r => wpY_result (fun r' => r' = r ∧ i_Rel (k + 5) u v) v v1) u v1 := by
  refine rl_el (P := fun u v => wpX_result (fun r => wpY_result (fun r' => r' = r ∧ i_Rel (k + 5) u v) v v1) u v1) ?_ u v I
  intro xWC xLV xPF xLO xEX xWS xDR xVT xVV xOC xCH xcp xcc xwi xtg xst xrn xrc xrr xnu xrt xra xrk xan xrs xdo xdc xhe xfr xta xso xsr xsn xsx xsc xsd xse xsk xdp xrg yBK yFA yLO yEX yVH yVV yOC ylv yls ysz yha yva yrn yrc yrr yop yar yle ypa yst ynu yqt yqk yqa yon ysh ywa I
  have J := rl_up xWC xLV xPF xLO xEX xWS xDR xVT xVV xOC xCH xcp xcc xwi xtg xst xrn xrc xrr xnu xrt xra xrk xan xrs xdo xdc xhe xfr xta xso xsr xsn xsx xsc xsd xse xsk xdp xrg yBK yFA yLO yEX yVH yVV yOC ylv yls ysz yha yva yrn yrc yrr yop yar yle ypa yst ynu yqt yqk yqa yon ysh ywa I
  obtain ⟨_, _, ⟨_, _, _, _, q5, _⟩, _, _⟩ := I
  unfold wpX_result wpY_result
  rcases ow_ix v1 3 with h | ⟨h, j, hj, hj2, e⟩ | ⟨j, hj, hj2, e⟩
  · exact xw_lo h (br_t rfl (br_t h ⟨rfl, J⟩))
  · rw [e]
    exact xw_hi hj hj2 (br_t rfl (br_f (nI_pos hj2) (br_f (nI_ge (a := 2) (by omega) hj2) ⟨rfl, J⟩)))
  · rw [e]
    have i3 : vp_in (nI j) 3 := vp_in_nI hj (by omega)
    exact xw_in (n := 3) hj (by decide) (br_f (by decide) (And.intro i3 (br_f (nI_pos hj2) (br_t (nI_le (b := 2) (by omega) (by decide)) (And.intro i3 ⟨by rw [q5], J⟩)))))
theorem i_vc_lost {k : Nat} {u : SX} {v : SY} (I : i_Rel k u v) (hk : k + 5 ≤ 2561) : wpX_lost (fun r => wpY_lost (fun r' => r' = r ∧ i_Rel (k + 5) u v) v) u := by
  refine rl_el (P := fun u v => wpX_lost (fun r => wpY_lost (fun r' => r' = r ∧ i_Rel (k + 5) u v) v) u) ?_ u v I
  intro xWC xLV xPF xLO xEX xWS xDR xVT xVV xOC xCH xcp xcc xwi xtg xst xrn xrc xrr xnu xrt xra xrk xan xrs xdo xdc xhe xfr xta xso xsr xsn xsx xsc xsd xse xsk xdp xrg yBK yFA yLO yEX yVH yVV yOC ylv yls ysz yha yva yrn yrc yrr yop yar yle ypa yst ynu yqt yqk yqa yon ysh ywa I
  exact ⟨I.2.1.2.2.1.symm, rl_up xWC xLV xPF xLO xEX xWS xDR xVT xVV xOC xCH xcp xcc xwi xtg xst xrn xrc xrr xnu xrt xra xrk xan xrs xdo xdc xhe xfr xta xso xsr xsn xsx xsc xsd xse xsk xdp xrg yBK yFA yLO yEX yVH yVV yOC ylv yls ysz yha yva yrn yrc yrr yop yar yle ypa yst ynu yqt yqk yqa yon ysh ywa I⟩
theorem i_vc_executed {k : Nat} {u : SX} {v : SY} (I : i_Rel k u v) (hk : k + 5 ≤ 2561) : wpX_executed (fun r => wpY_executed (fun r' => r' = r ∧ i_Rel (k + 5) u v) v) u := by
  refine rl_el (P := fun u v => wpX_executed (fun r => wpY_executed (fun r' => r' = r ∧ i_Rel (k + 5) u v) v) u) ?_ u v I
  intro xWC xLV xPF xLO xEX xWS xDR xVT xVV xOC xCH xcp xcc xwi xtg xst xrn xrc xrr xnu xrt xra xrk xan xrs xdo xdc xhe xfr xta xso xsr xsn xsx xsc xsd xse xsk xdp xrg yBK yFA yLO yEX yVH yVV yOC ylv yls ysz yha yva yrn yrc yrr yop yar yle ypa yst ynu yqt yqk yqa yon ysh ywa I
  exact ⟨I.2.1.2.2.2.symm, rl_up xWC xLV xPF xLO xEX xWS xDR xVT xVV xOC xCH xcp xcc xwi xtg xst xrn xrc xrr xnu xrt xra xrk xan xrs xdo xdc xhe xfr xta xso xsr xsn xsx xsc xsd xse xsk xdp xrg yBK yFA yLO yEX yVH yVV yOC ylv yls ysz yha yva yrn yrc yrr yop yar yle ypa yst ynu yqt yqk yqa yon ysh ywa I⟩
theorem i_vc_owner {k : Nat} {u : SX} {v : SY} (I : i_Rel k u v) (hk : k + 5 ≤ 2561) (v1 : Int32) : wpX_owner (fun r => wpY_owner (fun r' => r' = r ∧ i_Rel (k + 5) u v) v v1) u v1 := by
  refine rl_el (P := fun u v => wpX_owner (fun r => wpY_owner (fun r' => r' = r ∧ i_Rel (k + 5) u v) v v1) u v1) ?_ u v I
  intro xWC xLV xPF xLO xEX xWS xDR xVT xVV xOC xCH xcp xcc xwi xtg xst xrn xrc xrr xnu xrt xra xrk xan xrs xdo xdc xhe xfr xta xso xsr xsn xsx xsc xsd xse xsk xdp xrg yBK yFA yLO yEX yVH yVV yOC ylv yls ysz yha yva yrn yrc yrr yop yar yle ypa yst ynu yqt yqk yqa yon ysh ywa I
  have J := rl_up xWC xLV xPF xLO xEX xWS xDR xVT xVV xOC xCH xcp xcc xwi xtg xst xrn xrc xrr xnu xrt xra xrk xan xrs xdo xdc xhe xfr xta xso xsr xsn xsx xsc xsd xse xsk xdp xrg yBK yFA yLO yEX yVH yVV yOC ylv yls ysz yha yva yrn yrc yrr yop yar yle ypa yst ynu yqt yqk yqa yon ysh ywa I
  obtain ⟨⟨B, L, ls, E, N, C, R, hA, ⟨_, _, x3, _⟩, ⟨_, _, y3, _, _⟩⟩, _⟩ := I
  unfold wpX_owner wpY_owner
  rcases ow_ix v1 6 with h | ⟨h, j, hj, hj2, e⟩ | ⟨j, hj, hj2, e⟩
  · exact xw_lo h (br_t rfl (br_t h ⟨rfl, J⟩))
  · rw [e]
    exact xw_hi hj hj2 (br_t rfl (br_f (nI_pos hj2) (br_t (nI_lt (a := 5) (by omega) hj2) ⟨rfl, J⟩)))
  · rw [e]
    have i6 : vp_in (nI j) 6 := vp_in_nI hj (by omega)
    obtain ⟨g1, g2⟩ := x3 j hj
    obtain ⟨g3, g4⟩ := y3 j hj
    have k1 := (ma_K hA j hj).1
    have i30 : vp_in (5 * nI j) 30 := by rw [ar_5]; exact vp_in_nI (by omega) (by omega)
    refine xw_in (n := 6) hj (by decide) (br_f (by decide) (And.intro i6 (pk_le (ls j).length 0 (fun h0 => ?_) (fun h0 => And.intro i30 ?_) (by rw [nI_clamp hj2, g1]))))
    · exact br_f (nI_pos hj2) (br_f (nI_nlt (a := 5) (by omega) (by decide)) (And.intro i6 (pk_eq (ls j).length 0 (fun _ => ⟨rfl, J⟩) (fun z => absurd (by omega) z) (by rw [nI_clamp hj2, g3]))))
    · refine br_f (nI_pos hj2) (br_f (nI_nlt (a := 5) (by omega) (by decide)) (And.intro i6 (pk_eq (ls j).length 0 (fun z => absurd z (by omega)) (fun _ => And.intro i30 ⟨?_, J⟩) (by rw [nI_clamp hj2, g3]))))
      have hx := List.getElem?_eq_getElem (l := ls j) (i := 0) h0
      have a1 := g2 0 _ hx
      have a2 := g4 0 _ hx
      rw [Nat.add_zero] at a1 a2
      rw [ar_5, nI_clamp (by omega), a1, a2]
theorem i_vc_copies {k : Nat} {u : SX} {v : SY} (I : i_Rel k u v) (hk : k + 5 ≤ 2561) (v1 : Int32) : wpX_copies (fun r => wpY_copies (fun r' => r' = r ∧ i_Rel (k + 5) u v) v v1) u v1 := by
  refine rl_el (P := fun u v => wpX_copies (fun r => wpY_copies (fun r' => r' = r ∧ i_Rel (k + 5) u v) v v1) u v1) ?_ u v I
  intro xWC xLV xPF xLO xEX xWS xDR xVT xVV xOC xCH xcp xcc xwi xtg xst xrn xrc xrr xnu xrt xra xrk xan xrs xdo xdc xhe xfr xta xso xsr xsn xsx xsc xsd xse xsk xdp xrg yBK yFA yLO yEX yVH yVV yOC ylv yls ysz yha yva yrn yrc yrr yop yar yle ypa yst ynu yqt yqk yqa yon ysh ywa I
  have J := rl_up xWC xLV xPF xLO xEX xWS xDR xVT xVV xOC xCH xcp xcc xwi xtg xst xrn xrc xrr xnu xrt xra xrk xan xrs xdo xdc xhe xfr xta xso xsr xsn xsx xsc xsd xse xsk xdp xrg yBK yFA yLO yEX yVH yVV yOC ylv yls ysz yha yva yrn yrc yrr yop yar yle ypa yst ynu yqt yqk yqa yon ysh ywa I
  obtain ⟨⟨B, L, ls, E, N, C, R, hA, ⟨_, _, x3, _⟩, ⟨_, _, y3, _, _⟩⟩, _⟩ := I
  rcases ow_ix v1 6 with h | ⟨h, j, hj, hj2, e⟩ | ⟨j, hj, hj2, e⟩
  · unfold wpX_copies wpY_copies
    exact xw_lo h (br_t rfl (br_t h ⟨rfl, J⟩))
  · rw [e]
    unfold wpX_copies wpY_copies
    exact xw_hi hj hj2 (br_t rfl (br_f (nI_pos hj2) (br_t (nI_le (a := 6) hj hj2) ⟨rfl, J⟩)))
  · rw [e]
    exact xl_copies hj x3 (ma_K hA) (yl_copies hj y3 (ma_K hA) ⟨rfl, J⟩)
/-- member m shows key k -/
def pr_P (ls : Nat → List Nat) (E : Nat → Option Int64) (p0 p1 : Int32) (m k : Nat) (v : Int64) : Prop := m < 5 ∧ k < 18 ∧ p0 = nI m ∧ p1 = nI k ∧ m ∈ ls (k % 6) ∧ E k = some v
section
variable {xWC xLV xPF xLO xEX xWS xDR xVT xCH : Int32} {xVV xOC : Int64} {xcp xcc xwi xtg xrn xrc xnu xrt xra xrk xan xdo xhe xfr xta xso xsr xsn xsx xsc xsd xse xdp : Nat → Int32} {xst xrr xrs xdc xsk xrg : Nat → Int64}
variable {post : Int32 → Prop} {ls : Nat → List Nat} {E : Nat → Option Int64} {N C : Nat → Int32} {R : Nat → Int64} {p0 p1 : Int32}
theorem xr_present (hD : da_D (li_H ls) E N C R xtg xst xrn xrc xrr) (h1 : ∀ m k v, pr_P ls E p0 p1 m k v → post 1) (h0 : (¬ ∃ m k v, pr_P ls E p0 p1 m k v) → post 0) : wpX_present post (xWC, xLV, xPF, xLO, xEX, xWS, xDR, xVT, xVV, xOC, xCH, xcp, xcc, xwi, xtg, xst, xrn, xrc, xrr, xnu, xrt, xra, xrk, xan, xrs, xdo, xdc, xhe, xfr, xta, xso, xsr, xsn, xsx, xsc, xsd, xse, xsk, xdp, xrg) p0 p1 := by
  unfold wpX_present
  rcases ow_ix p0 5 with h | ⟨h, m, hm, hm2, e⟩ | ⟨m, hm, hm2, e⟩
  · refine xw_lo h (br_t rfl (h0 ?_))
    rintro ⟨m, k, v, a1, _, a3, _⟩
    rw [a3] at h; exact nI_pos (by omega) h
  · rw [e] at h0 ⊢
    refine xw_hi hm hm2 (br_t rfl (h0 ?_))
    rintro ⟨m', k, v, a1, _, a3, _⟩
    rw [nI_eq hm2 (by omega)] at a3
    omega
  · rw [e]
    refine xw_in (n := 5) hm (by decide) (br_f (by decide) ?_)
    rcases ow_ix p1 18 with h | ⟨h, k, hk, hk2, e'⟩ | ⟨k, hk, hk2, e'⟩
    · refine xw_lo h (br_t rfl (h0 ?_))
      rintro ⟨m, k, v, _, a2, _, a3, _⟩
      rw [a3] at h; exact nI_pos (by omega) h
    · rw [e'] at h0 ⊢
      refine xw_hi hk hk2 (br_t rfl (h0 ?_))
      rintro ⟨m', k', v, _, a2, _, a3, _⟩
      rw [nI_eq hk2 (by omega)] at a3
      omega
    · rw [e']
      refine xw_in (n := 18) hk (by decide) (br_f (by decide) ?_)
      refine xs_slot hm hk hD.1 (fun q hq _ _ hc => And.intro (vp_in_nI hq (by omega)) ?_)
      rw [nI_clamp (by omega)]
      dsimp only at hc
      refine br_c (fun z => h0 ?_) (fun z => ?_)
      · rcases hc with c1 | c1
        · rintro ⟨m', k', v, a1, a2, a3, a4, a5, a6⟩
          rw [e, nI_eq hm2 (by omega)] at a3
          rw [e', nI_eq hk2 (by omega)] at a4
          subst a3 a4
          have c2 := c1.2
          rw [if_pos (li_Ht.mpr a5), a6] at c2
          exact absurd c2 (by simp)
        · exact absurd z c1.1
      · rcases hc with c1 | c1
        · exact absurd c1.1 z
        · have c2 := c1.2
          by_cases hH : li_H ls (k % 6) m = true
          · rw [if_pos hH] at c2
            exact h1 m k _ ⟨hm, hk, e, e', li_Ht.mp hH, c2⟩
          · rw [if_neg hH] at c2; exact absurd c2 (by simp)
end
section
variable {yBK yFA yLO yEX yVH : Int32} {yVV yOC : Int64} {ylv yls ysz yha yrn yrc yop yle ypa ynu yqt yqk yqa yon ywa : Nat → Int32} {yva yrr yar yst ysh : Nat → Int64}
variable {post : Int32 → Prop} {ls : Nat → List Nat} {E : Nat → Option Int64} {p0 p1 : Int32}
theorem yr_present (hR : li_R yls ysz ls) (hK : li_K ls) (hE : ye_E yha yva E) (h1 : ∀ m k v, pr_P ls E p0 p1 m k v → post 1) (h0 : (¬ ∃ m k v, pr_P ls E p0 p1 m k v) → post 0) : wpY_present post (yBK, yFA, yLO, yEX, yVH, yVV, yOC, ylv, yls, ysz, yha, yva, yrn, yrc, yrr, yop, yar, yle, ypa, yst, ynu, yqt, yqk, yqa, yon, ysh, ywa) p0 p1 := by
  unfold wpY_present
  rcases ow_ix p1 18 with h | ⟨h, k, hk, hk2, e'⟩ | ⟨k, hk, hk2, e'⟩
  · refine br_t h (h0 ?_)
    rintro ⟨m, k, v, _, a2, _, a3, _⟩
    rw [a3] at h; exact nI_pos (by omega) h
  · rw [e'] at h0 ⊢
    refine br_f (nI_pos hk2) (br_t (nI_le (a := 18) hk hk2) (h0 ?_))
    rintro ⟨m', k', v, _, a2, _, a3, _⟩
    rw [nI_eq hk2 (by omega)] at a3
    omega
  · have ik : vp_in (nI k) 18 := vp_in_nI hk (by omega)
    rw [e']
    refine br_f (nI_pos hk2) (br_f (nI_ge (b := 18) hk (by decide)) (And.intro ik ?_))
    rw [nI_clamp hk2]
    rcases hE k hk with ⟨b1, b2⟩ | ⟨b1, b2⟩
    · refine br_t b1 (h0 ?_)
      rintro ⟨m', k', v, _, a2, _, a3, _, a6⟩
      rw [e', nI_eq hk2 (by omega)] at a3
      subst a3
      rw [b2] at a6
      exact absurd a6 (by simp)
    · refine br_f (by rw [b1]; decide) ?_
      rcases ow_ix p0 5 with h | ⟨h, m, hm, hm2, e⟩ | ⟨m, hm, hm2, e⟩
      · refine br_t h (h0 ?_)
        rintro ⟨m, k, v, a1, _, a3, _⟩
        rw [a3] at h; exact nI_pos (by omega) h
      · rw [e] at h0 ⊢
        refine br_f (nI_pos hm2) (br_t (nI_le (a := 5) hm hm2) (h0 ?_))
        rintro ⟨m', k', v, a1, _, a3, _⟩
        rw [nI_eq hm2 (by omega)] at a3
        omega
      · rw [e]
        refine br_f (nI_pos hm2) (br_f (nI_ge (b := 5) hm (by decide)) (And.intro (by decide) ?_))
        rw [ar_r6 (by omega)]
        have hp : k % 6 < 6 := Nat.mod_lt _ (by decide)
        refine yl_copies hp hR hK ?_
        have hlt := li_mk_lt (hK _ hp).2
        refine br_c (fun z => h0 ?_) (fun z => h1 m k _ ⟨hm, hk, e, e', ?_, b2⟩)
        · rw [ar_bit0 _ hlt m hm] at z
          rintro ⟨m', k', v, a1, a2, a3, a4, a5, a6⟩
          rw [e, nI_eq hm2 (by omega)] at a3
          rw [e', nI_eq hk2 (by omega)] at a4
          subst a3 a4
          rw [li_mk_bit.mpr a5] at z
          exact absurd z (by decide)
        · rw [ar_bit0 _ hlt m hm] at z
          apply li_mk_bit.mp
          cases hb : (li_mk (ls (k % 6))).testBit m
          · exact absurd hb z
          · rfl
end
theorem i_vc_present {k : Nat} {u : SX} {v : SY} (I : i_Rel k u v) (hk : k + 5 ≤ 2561) (v1 : Int32) (v2 : Int32) : wpX_present (fun r => wpY_present (fun r' => r' = r ∧ i_Rel (k + 5) u v) v v1 v2) u v1 v2 := by
  refine rl_el (P := fun u v => wpX_present (fun r => wpY_present (fun r' => r' = r ∧ i_Rel (k + 5) u v) v v1 v2) u v1 v2) ?_ u v I
  intro xWC xLV xPF xLO xEX xWS xDR xVT xVV xOC xCH xcp xcc xwi xtg xst xrn xrc xrr xnu xrt xra xrk xan xrs xdo xdc xhe xfr xta xso xsr xsn xsx xsc xsd xse xsk xdp xrg yBK yFA yLO yEX yVH yVV yOC ylv yls ysz yha yva yrn yrc yrr yop yar yle ypa yst ynu yqt yqk yqa yon ysh ywa I
  have J := rl_up xWC xLV xPF xLO xEX xWS xDR xVT xVV xOC xCH xcp xcc xwi xtg xst xrn xrc xrr xnu xrt xra xrk xan xrs xdo xdc xhe xfr xta xso xsr xsn xsx xsc xsd xse xsk xdp xrg yBK yFA yLO yEX yVH yVV yOC ylv yls ysz yha yva yrn yrc yrr yop yar yle ypa yst ynu yqt yqk yqa yon ysh ywa I
  obtain ⟨⟨B, L, ls, E, N, C, R, hA, ⟨_, _, _, x4⟩, ⟨_, _, y3, y4, _⟩⟩, _⟩ := I
  refine xr_present x4 (fun m k v h => yr_present y3 (ma_K hA) y4 (fun _ _ _ _ => ⟨rfl, J⟩) (fun z => absurd ⟨m, k, v, h⟩ z)) (fun h => yr_present y3 (ma_K hA) y4 (fun m k v z => absurd ⟨m, k, v, z⟩ h) (fun _ => ⟨rfl, J⟩))
theorem i_vc_value {k : Nat} {u : SX} {v : SY} (I : i_Rel k u v) (hk : k + 5 ≤ 2561) (v1 : Int32) (v2 : Int32) : wpX_value (fun r => wpY_value (fun r' => r' = r ∧ i_Rel (k + 5) u v) v v1 v2) u v1 v2 := by
  refine rl_el (P := fun u v => wpX_value (fun r => wpY_value (fun r' => r' = r ∧ i_Rel (k + 5) u v) v v1 v2) u v1 v2) ?_ u v I
  intro xWC xLV xPF xLO xEX xWS xDR xVT xVV xOC xCH xcp xcc xwi xtg xst xrn xrc xrr xnu xrt xra xrk xan xrs xdo xdc xhe xfr xta xso xsr xsn xsx xsc xsd xse xsk xdp xrg yBK yFA yLO yEX yVH yVV yOC ylv yls ysz yha yva yrn yrc yrr yop yar yle ypa yst ynu yqt yqk yqa yon ysh ywa I
  have J := rl_up xWC xLV xPF xLO xEX xWS xDR xVT xVV xOC xCH xcp xcc xwi xtg xst xrn xrc xrr xnu xrt xra xrk xan xrs xdo xdc xhe xfr xta xso xsr xsn xsx xsc xsd xse xsk xdp xrg yBK yFA yLO yEX yVH yVV yOC ylv yls ysz yha yva yrn yrc yrr yop yar yle ypa yst ynu yqt yqk yqa yon ysh ywa I
  obtain ⟨⟨B, L, ls, E, N, C, R, hA, ⟨_, _, _, x4⟩, ⟨_, _, y3, y4, _⟩⟩, _⟩ := I
  unfold wpX_value wpY_value
  refine xr_present x4 (fun m k v h => br_f (by decide) ?_) (fun h => br_t rfl (yr_present y3 (ma_K hA) y4 (fun m k v z => absurd ⟨m, k, v, z⟩ h) (fun _ => br_t rfl ⟨rfl, J⟩)))
  obtain ⟨a1, a2, a3, a4, a5, a6⟩ := id h
  rw [a3, a4]
  refine xs_slot a1 a2 x4.1 (fun q hq _ _ hc => And.intro (vp_in_nI hq (by omega)) ?_)
  rw [nI_clamp (by omega), ← a3, ← a4]
  dsimp only at hc
  rw [if_pos (li_Ht.mpr a5), a6] at hc
  have hv : v = xst q := by
    rcases hc with c1 | c1
    · exact absurd c1.2 (by simp)
    · exact Option.some.inj c1.2
  refine yr_present y3 (ma_K hA) y4 (fun _ _ _ _ => br_f (by decide) ?_) (fun z => absurd ⟨m, k, v, h⟩ z)
  rw [a4, nI_clamp (by omega)]
  refine And.intro (vp_in_nI a2 (by omega)) ⟨?_, J⟩
  rcases y4 k a2 with b | b
  · rw [a6] at b; exact absurd b.2 (by simp)
  · rw [a6] at b
    rw [← hv]
    exact (Option.some.inj b.2).symm
end
section
/-! the owed names, the storing ones -/
theorem rl_t_congr {t : Nat} {yop yop' : Nat → Int32} {yar yar' : Nat → Int64} {yle yle' xdp xdp' so sr sn sx sc sd se so' sr' sn' sx' sc' sd' se' : Nat → Int32} {sk sk' : Nat → Int64} (h : rl_t t yop yar yle xdp so sr sn sx sc sd se sk)
    (e1 : ∀ i, i < 16 → yop' (16 * t + i) = yop (16 * t + i) ∧ yar' (16 * t + i) = yar (16 * t + i)) (e2 : yle' t = yle t) (e3 : xdp' t = xdp t) (e4 : ∀ i, i < 16 → tr_E (16 * t + i) so' sr' sn' sx' sc' sd' se' sk' so sr sn sx sc sd se sk) :
    rl_t t yop' yar' yle' xdp' so' sr' sn' sx' sc' sd' se' sk' := by
  unfold rl_t
  rw [e2, e3]
  rcases h with h | ⟨h1, n, o, a, S, n0, n16, el, hoa, hE⟩
  · exact Or.inl h
  · refine Or.inr ⟨h1, n, o, a, S, n0, n16, el, fun i hi => ?_, ex_T_congr hE e4⟩
    obtain ⟨f1, f2⟩ := e1 i (by omega)
    rw [f1, f2]
    exact hoa i hi
theorem tr_E0 {q : Nat} {so sr sn sx sc sd se : Nat → Int32} {sk : Nat → Int64} : tr_E q so sr sn sx sc sd se sk so sr sn sx sc sd se sk := ⟨rfl, rfl, rfl, rfl, rfl, rfl, rfl, rfl⟩
theorem i_vc_code {k : Nat} {u : SX} {v : SY} (I : i_Rel k u v) (hk : k + 5 ≤ 2561) (v1 : Int32) (a1 : Int64) : wpX_code (fun r u' => wpY_code (fun r' v' => r' = r ∧ i_Rel (k + 5) u' v') v v1 a1) u v1 a1 := by
  refine rl_el (P := fun u v => wpX_code (fun r u' => wpY_code (fun r' v' => r' = r ∧ i_Rel (k + 5) u' v') v v1 a1) u v1 a1) ?_ u v I
  intro xWC xLV xPF xLO xEX xWS xDR xVT xVV xOC xCH xcp xcc xwi xtg xst xrn xrc xrr xnu xrt xra xrk xan xrs xdo xdc xhe xfr xta xso xsr xsn xsx xsc xsd xse xsk xdp xrg yBK yFA yLO yEX yVH yVV yOC ylv yls ysz yha yva yrn yrc yrr yop yar yle ypa yst ynu yqt yqk yqa yon ysh ywa I
  have J := rl_up xWC xLV xPF xLO xEX xWS xDR xVT xVV xOC xCH xcp xcc xwi xtg xst xrn xrc xrr xnu xrt xra xrk xan xrs xdo xdc xhe xfr xta xso xsr xsn xsx xsc xsd xse xsk xdp xrg yBK yFA yLO yEX yVH yVV yOC ylv yls ysz yha yva yrn yrc yrr yop yar yle ypa yst ynu yqt yqk yqa yon ysh ywa I
  obtain ⟨hM, hS, hQ, ⟨n, hn, d1, d2, o, hd⟩, hT⟩ := id J
  unfold wpX_code wpY_code
  rcases ow_ix v1 24 with h | ⟨h, j, hj, hj2, e⟩ | ⟨j, hj, hj2, e⟩
  · exact xw_lo h (br_t rfl (br_t h ⟨rfl, J⟩))
  · rw [e]
    exact xw_hi hj hj2 (br_t rfl (br_f (nI_pos hj2) (br_t (nI_lt (a := 23) (by omega) hj2) ⟨rfl, J⟩)))
  · rw [e]
    have n23 : ¬ 23 < nI j := nI_nlt (a := 23) (by omega) (by decide)
    refine xw_in (n := 24) hj (by decide) (br_f (by decide) (pk_eq n 16 (fun e16 => br_f (nI_pos hj2) (br_f n23 (br_t (by rw [d2, e16]; rfl) ⟨rfl, J⟩))) (fun e16 => ?_) d1))
    have i16 : vp_in xDR 16 := by rw [d1]; exact vp_in_nI (by omega) (by omega)
    have c16 : xDR.toNatClampNeg = n := by rw [d1, nI_clamp (by omega)]
    have i80 : vp_in (64 + yle 4) 80 := by rw [d2, ar_64]; exact vp_in_nI (by omega) (by omega)
    have c80 : (64 + yle 4).toNatClampNeg = 64 + n := by rw [d2, ar_64, nI_clamp (by omega)]
    refine And.intro i16 (nm_r (e' := upd xdo n (nI j)) (by rw [c16, ar_nbb (by omega)]) (nm_r (e' := nI (n + 1)) (by rw [d1, nI_1]) (And.intro i16 (nm_r (e' := vp_updL xdc n a1) (by rw [c16]) ?_))))
    refine br_f (nI_pos hj2) (br_f n23 (br_f (by rw [d2]; exact fun z => e16 ((nI_eq (b := 16) (by omega) (by decide)).mp z)) (And.intro i80 (nm_r (e' := upd yop (64 + n) (nI j)) (by rw [c80, ar_nbb (by omega)]) (nm_r (e' := upd yle 4 (nI (n + 1))) (by rw [d2, nI_1, ar_nbb (by omega)]) (And.intro i80 (nm_r (e' := vp_updL yar (64 + n) a1) (by rw [c80]) ⟨rfl, ?_⟩)))))))
    refine ⟨hM, hS, hQ, ⟨n + 1, by omega, rfl, pk_us, tb_up o n j, fun q hq => ?_⟩, fun t ht => ?_⟩
    · by_cases eq : q = n
      · rw [eq, tb_us, pk_us, pk_us, pk_uLs, pk_uLs]; exact ⟨hj, rfl, rfl, rfl⟩
      · rw [tb_un eq, pk_un eq, pk_un (by omega), pk_uLn (by omega), pk_uLn eq]; exact hd q hq
    · exact rl_t_congr (hT t ht) (fun i hi => ⟨pk_un (by omega), pk_uLn (by omega)⟩) (pk_un (by omega)) rfl (fun _ _ => tr_E0)
theorem i_vc_fault {k : Nat} {u : SX} {v : SY} (I : i_Rel k u v) (hk : k + 5 ≤ 2561) (v1 : Int32) : wpX_fault (fun r u' => wpY_fault (fun r' v' => r' = r ∧ i_Rel (k + 5) u' v') v v1) u v1 := by
  refine rl_el (P := fun u v => wpX_fault (fun r u' => wpY_fault (fun r' v' => r' = r ∧ i_Rel (k + 5) u' v') v v1) u v1) ?_ u v I
  intro xWC xLV xPF xLO xEX xWS xDR xVT xVV xOC xCH xcp xcc xwi xtg xst xrn xrc xrr xnu xrt xra xrk xan xrs xdo xdc xhe xfr xta xso xsr xsn xsx xsc xsd xse xsk xdp xrg yBK yFA yLO yEX yVH yVV yOC ylv yls ysz yha yva yrn yrc yrr yop yar yle ypa yst ynu yqt yqk yqa yon ysh ywa I
  have J := rl_up xWC xLV xPF xLO xEX xWS xDR xVT xVV xOC xCH xcp xcc xwi xtg xst xrn xrc xrr xnu xrt xra xrk xan xrs xdo xdc xhe xfr xta xso xsr xsn xsx xsc xsd xse xsk xdp xrg yBK yFA yLO yEX yVH yVV yOC ylv yls ysz yha yva yrn yrc yrr yop yar yle ypa yst ynu yqt yqk yqa yon ysh ywa I
  obtain ⟨hM, ⟨s1, s2, s3, s4⟩, hQ, hD, hT⟩ := id J
  unfold wpX_fault wpY_fault
  rcases ow_ix v1 5 with h | ⟨h, j, hj, hj2, e⟩ | ⟨j, hj, hj2, e⟩
  · exact xw_lo h (br_t rfl (br_t h ⟨rfl, J⟩))
  · rw [e]
    exact xw_hi hj hj2 (br_t rfl (br_f (nI_pos hj2) (br_f (nI_ge (a := 4) (by omega) hj2) ⟨rfl, J⟩)))
  · rw [e]
    exact xw_in (n := 5) hj (by decide) (br_f (by decide) (br_f (nI_pos hj2) (br_t (nI_le (b := 4) (by omega) (by decide)) ⟨rfl, hM, ⟨rfl, ⟨j, hj, rfl⟩, s3, s4⟩, hQ, hD, hT⟩)))
theorem i_vc_join {k : Nat} {u : SX} {v : SY} (I : i_Rel k u v) (hk : k + 5 ≤ 2561) (v1 : Int32) : wpX_join (fun r u' => wpY_join (fun r' v' => r' = r ∧ i_Rel (k + 5) u' v') v v1) u v1 := by
  refine rl_el (P := fun u v => wpX_join (fun r u' => wpY_join (fun r' v' => r' = r ∧ i_Rel (k + 5) u' v') v v1) u v1) ?_ u v I
  intro xWC xLV xPF xLO xEX xWS xDR xVT xVV xOC xCH xcp xcc xwi xtg xst xrn xrc xrr xnu xrt xra xrk xan xrs xdo xdc xhe xfr xta xso xsr xsn xsx xsc xsd xse xsk xdp xrg yBK yFA yLO yEX yVH yVV yOC ylv yls ysz yha yva yrn yrc yrr yop yar yle ypa yst ynu yqt yqk yqa yon ysh ywa I
  have J := rl_up xWC xLV xPF xLO xEX xWS xDR xVT xVV xOC xCH xcp xcc xwi xtg xst xrn xrc xrr xnu xrt xra xrk xan xrs xdo xdc xhe xfr xta xso xsr xsn xsx xsc xsd xse xsk xdp xrg yBK yFA yLO yEX yVH yVV yOC ylv yls ysz yha yva yrn yrc yrr yop yar yle ypa yst ynu yqt yqk yqa yon ysh ywa I
  obtain ⟨⟨B, L, ls, E, N, C, R, hA, ⟨x1, x2, x3, x4⟩, ⟨y1, y2, y3, y4, y5⟩⟩, hS, hQ, hD, hT⟩ := id J
  unfold wpX_join wpY_join
  rcases ow_ix v1 5 with h | ⟨h, m, hm, hm2, e⟩ | ⟨m, hm, hm2, e⟩
  · exact xw_lo h (br_t rfl (br_t h ⟨rfl, J⟩))
  · rw [e]
    exact xw_hi hm hm2 (br_t rfl (br_f (nI_pos hm2) (br_t (nI_lt (a := 4) (by omega) hm2) ⟨rfl, J⟩)))
  · rw [e]
    have n4 : ¬ 4 < nI m := nI_nlt (a := 4) (by omega) (by decide)
    have i5 : vp_in (nI m) 5 := vp_in_nI hm (by omega)
    have c5 : (nI m).toNatClampNeg = m := nI_clamp hm2
    have hL := hA.2.1
    refine xw_in (n := 5) hm (by decide) (br_f (by decide) ?_)
    rw [x2]
    cases hb : L.testBit m
    · refine br_f (fun z => by rw [ar_bit1 L hL m hm, hb] at z; exact absurd z (by decide)) (nm_r (ar_or L hL m hm) ⟨7, ?_⟩)
      refine xj_36 hm (ma_K hA) 7 0 xcp xcc (by omega) (by omega) (by rw [jn_0]; exact x3) (fun cp cc hR => ?_)
      refine br_f (nI_pos hm2) (br_f n4 (And.intro i5 (br_t (by rw [c5, y2 m hm, hb]; rfl) (And.intro i5 (nm_r (e' := upd ylv m 1) (by rw [c5, bo_1]) ⟨7, ?_⟩)))))
      refine yj_29 hm (ma_K hA) 7 0 yls ysz (by omega) (by omega) (by rw [jn_0]; exact y3) (fun li sz hR' => ⟨rfl, ?_⟩)
      refine ⟨⟨B, L ||| 2 ^ m, jn_ls ls m 6, E, N, C, R, ma_join hA hm, ⟨x1, rfl, hR, da_join hA x4⟩, ⟨y1, fun x hx => ?_, hR', y4, y5⟩⟩, hS, hQ, hD, hT⟩
      rw [li_or_tb L hL m hm x hx]
      by_cases ex : x = m
      · rw [ex, pk_us]; simp
      · rw [pk_un ex, y2 x hx]
        have : (x == m) = false := by simp [ex]
        rw [this, Bool.or_false]
    · have J' := J
      rw [x2] at J'
      exact br_t ((ar_bit1 L hL m hm).mpr hb) (br_f (nI_pos hm2) (br_f n4 (And.intro i5 (br_f (by rw [c5, y2 m hm, hb]; decide) ⟨rfl, J'⟩))))
theorem i_vc_crash {k : Nat} {u : SX} {v : SY} (I : i_Rel k u v) (hk : k + 5 ≤ 2561) (v1 : Int32) : wpX_crash (fun r u' => wpY_crash (fun r' v' => r' = r ∧ i_Rel (k + 5) u' v') v v1) u v1 := by
  refine rl_el (P := fun u v => wpX_crash (fun r u' => wpY_crash (fun r' v' => r' = r ∧ i_Rel (k + 5) u' v') v v1) u v1) ?_ u v I
  intro xWC xLV xPF xLO xEX xWS xDR xVT xVV xOC xCH xcp xcc xwi xtg xst xrn xrc xrr xnu xrt xra xrk xan xrs xdo xdc xhe xfr xta xso xsr xsn xsx xsc xsd xse xsk xdp xrg yBK yFA yLO yEX yVH yVV yOC ylv yls ysz yha yva yrn yrc yrr yop yar yle ypa yst ynu yqt yqk yqa yon ysh ywa I
  have J := rl_up xWC xLV xPF xLO xEX xWS xDR xVT xVV xOC xCH xcp xcc xwi xtg xst xrn xrc xrr xnu xrt xra xrk xan xrs xdo xdc xhe xfr xta xso xsr xsn xsx xsc xsd xse xsk xdp xrg yBK yFA yLO yEX yVH yVV yOC ylv yls ysz yha yva yrn yrc yrr yop yar yle ypa yst ynu yqt yqk yqa yon ysh ywa I
  obtain ⟨⟨B, L, ls, E, N, C, R, hA, hX, hY⟩, ⟨s1, s2, s3, s4⟩, hQ, hD, hT⟩ := id J
  have x2 := hX.2.1
  have y2 := hY.2.1
  unfold wpX_crash wpY_crash
  rcases ow_ix v1 5 with h | ⟨h, m, hm, hm2, e⟩ | ⟨m, hm, hm2, e⟩
  · exact xw_lo h (br_t rfl (br_t h ⟨rfl, J⟩))
  · rw [e]
    exact xw_hi hm hm2 (br_t rfl (br_f (nI_pos hm2) (br_t (nI_lt (a := 4) (by omega) hm2) ⟨rfl, J⟩)))
  · rw [e]
    have n4 : ¬ 4 < nI m := nI_nlt (a := 4) (by omega) (by decide)
    have i5 : vp_in (nI m) 5 := vp_in_nI hm (by omega)
    have c5 : (nI m).toNatClampNeg = m := nI_clamp hm2
    have hL := hA.2.1
    refine xw_in (n := 5) hm (by decide) (br_f (by decide) ?_)
    cases hb : L.testBit m
    · exact br_t (by rw [x2]; exact (ar_bit0 L hL m hm).mpr hb) (br_f (nI_pos hm2) (br_f n4 (And.intro i5 (br_t (by rw [c5, y2 m hm, hb]; rfl) ⟨rfl, J⟩))))
    · refine br_f (fun z => by rw [x2, ar_bit0 L hL m hm, hb] at z; exact absurd z (by decide)) ?_
      refine xd_dropM hA hm hb hX (fun lo ws cp cc wi tg st rn q1 q2 => ?_)
      refine br_f (nI_pos hm2) (br_f n4 (And.intro i5 (br_f (by rw [c5, y2 m hm, hb]; decide) ?_)))
      refine yd_dropM hA hm hY (fun lv lo' ha rn' li sz wn j1 j2 => ⟨rfl, ?_⟩)
      rw [← s3] at j1 j2
      exact ⟨⟨B, _, _, _, _, C, R, ma_drop hA hm, q2, j2⟩, ⟨s1, s2, q1.trans j1.symm, s4⟩, hQ, hD, hT⟩
theorem i_vc_leave {k : Nat} {u : SX} {v : SY} (I : i_Rel k u v) (hk : k + 5 ≤ 2561) (v1 : Int32) : wpX_leave (fun r u' => wpY_leave (fun r' v' => r' = r ∧ i_Rel (k + 5) u' v') v v1) u v1 := by
  refine rl_el (P := fun u v => wpX_leave (fun r u' => wpY_leave (fun r' v' => r' = r ∧ i_Rel (k + 5) u' v') v v1) u v1) ?_ u v I
  intro xWC xLV xPF xLO xEX xWS xDR xVT xVV xOC xCH xcp xcc xwi xtg xst xrn xrc xrr xnu xrt xra xrk xan xrs xdo xdc xhe xfr xta xso xsr xsn xsx xsc xsd xse xsk xdp xrg yBK yFA yLO yEX yVH yVV yOC ylv yls ysz yha yva yrn yrc yrr yop yar yle ypa yst ynu yqt yqk yqa yon ysh ywa I
  have J := rl_up xWC xLV xPF xLO xEX xWS xDR xVT xVV xOC xCH xcp xcc xwi xtg xst xrn xrc xrr xnu xrt xra xrk xan xrs xdo xdc xhe xfr xta xso xsr xsn xsx xsc xsd xse xsk xdp xrg yBK yFA yLO yEX yVH yVV yOC ylv yls ysz yha yva yrn yrc yrr yop yar yle ypa yst ynu yqt yqk yqa yon ysh ywa I
  obtain ⟨⟨B, L, ls, E, N, C, R, hA, ⟨x1, x2, x3, x4⟩, ⟨y1, y2, y3, y4, y5⟩⟩, ⟨s1, s2, s3, s4⟩, hQ, hD, hT⟩ := id J
  unfold wpX_leave wpY_leave
  rcases ow_ix v1 5 with h | ⟨h, m, hm, hm2, e⟩ | ⟨m, hm, hm2, e⟩
  · exact xw_lo h (br_t rfl (br_t h ⟨rfl, J⟩))
  · rw [e]
    exact xw_hi hm hm2 (br_t rfl (br_f (nI_pos hm2) (br_t (nI_lt (a := 4) (by omega) hm2) ⟨rfl, J⟩)))
  · rw [e]
    have n4 : ¬ 4 < nI m := nI_nlt (a := 4) (by omega) (by decide)
    have i5 : vp_in (nI m) 5 := vp_in_nI hm (by omega)
    have c5 : (nI m).toNatClampNeg = m := nI_clamp hm2
    have hL := hA.2.1
    refine xw_in (n := 5) hm (by decide) (br_f (by decide) ?_)
    cases hb : L.testBit m
    · exact br_t (by rw [x2]; exact (ar_bit0 L hL m hm).mpr hb) (br_f (nI_pos hm2) (br_f n4 (And.intro i5 (br_t (by rw [c5, y2 m hm, hb]; rfl) ⟨rfl, J⟩))))
    · refine br_f (fun z => by rw [x2, ar_bit0 L hL m hm, hb] at z; exact absurd z (by decide)) ⟨7, ?_⟩
      refine xv_23 hA hm hb x1 x2 (fun lo ws cp cc wi tg st rn rc rr q1 q2 => ?_) 7 0 xWS xcp xcc xwi xtg xst xrn xrc xrr (by omega) (by omega) (by rw [lz_0]; exact x3) (by rw [lz_0]; exact x4)
      refine br_f (nI_pos hm2) (br_f n4 (And.intro i5 (br_f (by rw [c5, y2 m hm, hb]; decide) ⟨7, ?_⟩)))
      refine yv_22 hA hm y1 y2 y4 y5 (fun lv lo' ha rn' li sz wn j1 j2 => ⟨rfl, ?_⟩) 7 0 yls ywa (by omega) (by omega) (by rw [lz_0]; exact y3)
      rw [← s3] at j1 j2
      exact ⟨⟨B, _, _, _, _, C, R, ma_drop (ma_leave hA hm 6) hm, q2, j2⟩, ⟨s1, s2, q1.trans j1.symm, s4⟩, hQ, hD, hT⟩
theorem i_vc_migrate {k : Nat} {u : SX} {v : SY} (I : i_Rel k u v) (hk : k + 5 ≤ 2561) : wpX_migrate (fun r u' => wpY_migrate (fun r' v' => r' = r ∧ i_Rel (k + 5) u' v') v) u := by
  refine rl_el (P := fun u v => wpX_migrate (fun r u' => wpY_migrate (fun r' v' => r' = r ∧ i_Rel (k + 5) u' v') v) u) ?_ u v I
  intro xWC xLV xPF xLO xEX xWS xDR xVT xVV xOC xCH xcp xcc xwi xtg xst xrn xrc xrr xnu xrt xra xrk xan xrs xdo xdc xhe xfr xta xso xsr xsn xsx xsc xsd xse xsk xdp xrg yBK yFA yLO yEX yVH yVV yOC ylv yls ysz yha yva yrn yrc yrr yop yar yle ypa yst ynu yqt yqk yqa yon ysh ywa I
  have J := rl_up xWC xLV xPF xLO xEX xWS xDR xVT xVV xOC xCH xcp xcc xwi xtg xst xrn xrc xrr xnu xrt xra xrk xan xrs xdo xdc xhe xfr xta xso xsr xsn xsx xsc xsd xse xsk xdp xrg yBK yFA yLO yEX yVH yVV yOC ylv yls ysz yha yva yrn yrc yrr yop yar yle ypa yst ynu yqt yqk yqa yon ysh ywa I
  obtain ⟨⟨B, L, ls, E, N, C, R, hA, ⟨x1, x2, x3, x4⟩, ⟨y1, y2, y3, y4, y5⟩⟩, hS, hQ, hD, hT⟩ := id J
  unfold wpX_migrate wpY_migrate
  refine ⟨7, xm_2 hA x1 x2 x3 x4 (fun ws cp cc wi tg st rn rc rr q1 q2 => ⟨7, ?_⟩) 7 6 xWS xwi (by omega) (by omega) rfl⟩
  exact ym_2 hA y1 y2 y3 (fun li sz wn j1 => ⟨rfl, ⟨B, L, _, E, N, C, R, ma_mig hA 6 (by omega), ⟨x1, x2, q1, q2⟩, ⟨y1, y2, j1, y4, y5⟩⟩, hS, hQ, hD, hT⟩) 7 6 ywa (by omega) (by omega) rfl
end
section
theorem i_vc_retry {k : Nat} {u : SX} {v : SY} (I : i_Rel k u v) (hk : k + 5 ≤ 2561) (v1 : Int32) : wpX_retry (fun r u' => wpY_retry (fun r' v' => r' = r ∧ i_Rel (k + 5) u' v') v v1) u v1 := by
  refine rl_el (P := fun u v => wpX_retry (fun r u' => wpY_retry (fun r' v' => r' = r ∧ i_Rel (k + 5) u' v') v v1) u v1) ?_ u v I
  intro xWC xLV xPF xLO xEX xWS xDR xVT xVV xOC xCH xcp xcc xwi xtg xst xrn xrc xrr xnu xrt xra xrk xan xrs xdo xdc xhe xfr xta xso xsr xsn xsx xsc xsd xse xsk xdp xrg yBK yFA yLO yEX yVH yVV yOC ylv yls ysz yha yva yrn yrc yrr yop yar yle ypa yst ynu yqt yqk yqa yon ysh ywa I
  have J := rl_up xWC xLV xPF xLO xEX xWS xDR xVT xVV xOC xCH xcp xcc xwi xtg xst xrn xrc xrr xnu xrt xra xrk xan xrs xdo xdc xhe xfr xta xso xsr xsn xsx xsc xsd xse xsk xdp xrg yBK yFA yLO yEX yVH yVV yOC ylv yls ysz yha yva yrn yrc yrr yop yar yle ypa yst ynu yqt yqk yqa yon ysh ywa I
  obtain ⟨hM, hS, ⟨q1, q2, q3, q4, q5, q6⟩, hD, hT⟩ := id J
  unfold wpX_retry
  rcases ow_ix v1 3 with h | ⟨h, c, hc, hc2, e⟩ | ⟨c, hc, hc2, e⟩
  · exact xw_lo h (br_t rfl (by unfold wpY_retry; exact br_t h ⟨rfl, J⟩))
  · rw [e]
    exact xw_hi hc hc2 (br_t rfl (by unfold wpY_retry; exact br_f (nI_pos hc2) (br_t (nI_lt (a := 2) (by omega) hc2) ⟨rfl, J⟩)))
  · rw [e]
    have n2 : ¬ 2 < nI c := nI_nlt (a := 2) (by omega) (by decide)
    have i3 : vp_in (nI c) 3 := vp_in_nI hc (by omega)
    have c3 : (nI c).toNatClampNeg = c := nI_clamp hc2
    obtain ⟨_, _, eon⟩ := q6 c hc
    refine xw_in (n := 3) hc (by decide) (br_f (by decide) (And.intro i3 ?_))
    rw [c3]
    refine br_c (fun h0 => ?_) (fun h0 => And.intro i3 (br_c (fun ha => ?_) (fun ha => ?_)))
    · rw [if_pos h0] at eon
      unfold wpY_retry
      exact br_f (nI_pos hc2) (br_f n2 (And.intro i3 (br_t (by rw [c3]; exact eon) ⟨rfl, J⟩)))
    · rw [if_neg h0, if_pos ha] at eon
      refine sn_send J hc h0 _ (fun r lv pf lo ex ws vt vv oc cp cc wi tg st rn rc rr an rs rg hY => ?_)
      dsimp only
      unfold wpY_retry
      refine br_f (nI_pos hc2) (br_f n2 (And.intro i3 (br_f (by rw [c3, eon]; decide) ?_)))
      exact hY _ (fun fa lo' ex' vh vv' oc' lv' li sz ha va rn' rc' rr' ys op sh wn hR => ⟨rfl, hR⟩)
    · rw [if_neg h0, if_neg ha] at eon
      unfold wpY_retry
      exact br_f (nI_pos hc2) (br_f n2 (And.intro i3 (br_t (by rw [c3]; exact eon) ⟨rfl, J⟩)))
theorem i_vc_submit {k : Nat} {u : SX} {v : SY} (I : i_Rel k u v) (hk : k + 5 ≤ 2561) (v1 : Int32) (v2 : Int32) (v3 : Int32) (v4 : Int32) : wpX_submit (fun r u' => wpY_submit (fun r' v' => r' = r ∧ i_Rel (k + 5) u' v') v v1 v2 v3 v4) u v1 v2 v3 v4 := by
  refine rl_el (P := fun u v => wpX_submit (fun r u' => wpY_submit (fun r' v' => r' = r ∧ i_Rel (k + 5) u' v') v v1 v2 v3 v4) u v1 v2 v3 v4) ?_ u v I
  intro xWC xLV xPF xLO xEX xWS xDR xVT xVV xOC xCH xcp xcc xwi xtg xst xrn xrc xrr xnu xrt xra xrk xan xrs xdo xdc xhe xfr xta xso xsr xsn xsx xsc xsd xse xsk xdp xrg yBK yFA yLO yEX yVH yVV yOC ylv yls ysz yha yva yrn yrc yrr yop yar yle ypa yst ynu yqt yqk yqa yon ysh ywa I
  have J := rl_up xWC xLV xPF xLO xEX xWS xDR xVT xVV xOC xCH xcp xcc xwi xtg xst xrn xrc xrr xnu xrt xra xrk xan xrs xdo xdc xhe xfr xta xso xsr xsn xsx xsc xsd xse xsk xdp xrg yBK yFA yLO yEX yVH yVV yOC ylv yls ysz yha yva yrn yrc yrr yop yar yle ypa yst ynu yqt yqk yqa yon ysh ywa I
  obtain ⟨hM, hS, ⟨q1, q2, q3, q4, q5, q6⟩, hD, hT⟩ := I
  unfold wpX_submit
  rcases ow_ix v1 3 with h | ⟨h, c, hc, hc2, e⟩ | ⟨c, hc, hc2, e⟩
  · exact xw_lo h (br_t rfl (by unfold wpY_submit; exact br_t h ⟨rfl, J⟩))
  · rw [e]
    exact xw_hi hc hc2 (br_t rfl (by unfold wpY_submit; exact br_f (nI_pos hc2) (br_t (nI_lt (a := 2) (by omega) hc2) ⟨rfl, J⟩)))
  · rw [e]
    have n2 : ¬ 2 < nI c := nI_nlt (a := 2) (by omega) (by decide)
    have i3 : vp_in (nI c) 3 := vp_in_nI hc (by omega)
    have c3 : (nI c).toNatClampNeg = c := nI_clamp hc2
    refine xw_in (n := 3) hc (by decide) (br_f (by decide) ?_)
    rcases ow_ix v3 18 with h | ⟨h, y, hy, hy2, e'⟩ | ⟨y, hy, hy2, e'⟩
    · exact xw_lo h (br_t rfl (by unfold wpY_submit; exact br_f (nI_pos hc2) (br_f n2 (br_t h ⟨rfl, J⟩))))
    · rw [e']
      exact xw_hi hy hy2 (br_t rfl (by unfold wpY_submit; exact br_f (nI_pos hc2) (br_f n2 (br_f (nI_pos hy2) (br_f (nI_ge (a := 17) (by omega) hy2) ⟨rfl, J⟩)))))
    · rw [e']
      refine xw_in (n := 18) hy (by decide) (br_f (by decide) ?_)
      obtain ⟨⟨m, hm, em⟩, _, _⟩ := q6 c hc
      have en : xnu c + 1 = nI (m + 1) := by rw [em, nI_1]
      refine And.intro i3 (And.intro i3 (nm_r (e' := upd xnu c (nI (m + 1))) (by rw [c3, en]) (And.intro i3 (nm_r (e' := upd xrt c v2) (by rw [c3]) (And.intro i3 (nm_r (e' := upd xrk c (nI y)) (by rw [c3, ar_nbb (by omega)]) (And.intro i3 (nm_r (e' := upd xra c v4) (by rw [c3]) (And.intro i3 (nm_r (e' := upd xan c 0) (by rw [c3, bo_0]) ?_))))))))))
      have K : rl_A (k + 5) xWC xLV xPF xLO xEX xWS xDR xVT xVV xOC xCH xcp xcc xwi xtg xst xrn xrc xrr (upd xnu c (nI (m + 1))) (upd xrt c v2) (upd xra c v4) (upd xrk c (nI y)) (upd xan c 0) xrs xdo xdc xhe xfr xta xso xsr xsn xsx xsc xsd xse xsk xdp xrg yBK yFA yLO yEX yVH yVV yOC ylv yls ysz yha yva yrn yrc yrr yop yar yle ypa yst (upd ynu c (nI (m + 1))) (upd yqt c v2) (upd yqk c (nI y)) (upd yqa c v4) (upd yon c 1) ysh ywa := by
        refine ⟨hM, hS, ⟨by rw [q1], by rw [q2], by rw [q3], by rw [q4], q5, fun c' hc' => ?_⟩, hD, hT⟩
        by_cases ec : c' = c
        · rw [ec]
          refine ⟨⟨m + 1, by omega, pk_us⟩, ⟨y, hy, pk_us⟩, ?_⟩
          rw [pk_us, pk_us, pk_us, if_neg (nI_ne0 (by omega) (by omega)), if_pos rfl]
        · obtain ⟨⟨m', hm', em'⟩, a2, a3⟩ := q6 c' hc'
          unfold rl_q
          rw [pk_un ec, pk_un ec, pk_un ec, pk_un ec]
          exact ⟨⟨m', by omega, em'⟩, a2, a3⟩
      refine sn_send K hc (by rw [pk_us]; exact nI_ne0 (by omega) (by omega)) _ (fun r lv pf lo ex ws vt vv oc cp cc wi tg st rn rc rr an rs rg hY => ?_)
      dsimp only
      unfold wpY_submit
      have en' : ynu c + 1 = nI (m + 1) := by rw [← q1]; exact en
      refine br_f (nI_pos hc2) (br_f n2 (br_f (nI_pos hy2) (br_t (nI_le (b := 17) (by omega) (by decide)) (And.intro i3 (And.intro i3 (nm_r (e' := upd ynu c (nI (m + 1))) (by rw [c3, en']) (And.intro i3 (nm_r (e' := upd yqt c v2) (by rw [c3]) (And.intro i3 (nm_r (e' := upd yqk c (nI y)) (by rw [c3]) (And.intro i3 (nm_r (e' := upd yqa c v4) (by rw [c3]) (And.intro i3 (nm_r (e' := upd yon c 1) (by rw [c3, bo_1]) ?_))))))))))))))
      exact hY _ (fun fa lo' ex' vh vv' oc' lv' li sz ha va rn' rc' rr' ys op sh wn hR => ⟨rfl, hR⟩)
theorem i_vc_deploy {k : Nat} {u : SX} {v : SY} (I : i_Rel k u v) (hk : k + 5 ≤ 2561) (v1 : Int32) : wpX_deploy (fun r u' => wpY_deploy (fun r' v' => r' = r ∧ i_Rel (k + 5) u' v') v v1) u v1 := by
  refine rl_el (P := fun u v => wpX_deploy (fun r u' => wpY_deploy (fun r' v' => r' = r ∧ i_Rel (k + 5) u' v') v v1) u v1) ?_ u v I
  intro xWC xLV xPF xLO xEX xWS xDR xVT xVV xOC xCH xcp xcc xwi xtg xst xrn xrc xrr xnu xrt xra xrk xan xrs xdo xdc xhe xfr xta xso xsr xsn xsx xsc xsd xse xsk xdp xrg yBK yFA yLO yEX yVH yVV yOC ylv yls ysz yha yva yrn yrc yrr yop yar yle ypa yst ynu yqt yqk yqa yon ysh ywa I
  have J := rl_up xWC xLV xPF xLO xEX xWS xDR xVT xVV xOC xCH xcp xcc xwi xtg xst xrn xrc xrr xnu xrt xra xrk xan xrs xdo xdc xhe xfr xta xso xsr xsn xsx xsc xsd xse xsk xdp xrg yBK yFA yLO yEX yVH yVV yOC ylv yls ysz yha yva yrn yrc yrr yop yar yle ypa yst ynu yqt yqk yqa yon ysh ywa I
  obtain ⟨hM, hS, hQ, ⟨n, hn, d1, d2, o, hd⟩, hT⟩ := J
  -- refused, or faulty: the draft alone is emptied
  have hbad : ∀ (he fr ta pa : Nat → Int32), rl_A (k + 5) xWC xLV xPF xLO xEX xWS 0 xVT xVV xOC xCH xcp xcc xwi xtg xst xrn xrc xrr xnu xrt xra xrk xan xrs xdo xdc he fr ta xso xsr xsn xsx xsc xsd xse xsk xdp xrg yBK yFA yLO yEX yVH yVV yOC ylv yls ysz yha yva yrn yrc yrr yop yar (upd yle 4 (nI 0)) pa yst ynu yqt yqk yqa yon ysh ywa := by
    intro he fr ta pa
    refine ⟨hM, hS, hQ, ⟨0, by omega, rfl, pk_us, o, hd⟩, fun t ht => ?_⟩
    exact rl_t_congr (hT t ht) (fun i hi => ⟨rfl, rfl⟩) (pk_un (by omega)) rfl (fun _ _ => tr_E0)
  have hJ := hbad xhe xfr xta ypa
  rcases ow_ix v1 4 with h | ⟨h, t, ht, ht2, e⟩ | ⟨t, ht, ht2, e⟩
  · unfold wpX_deploy wpY_deploy
    exact xw_lo h (br_t rfl (nm_r (e' := nI n) d2 (br_t h (yt_20 hn ⟨rfl, hJ⟩))))
  · rw [e]
    unfold wpX_deploy wpY_deploy
    exact xw_hi ht ht2 (br_t rfl (nm_r (e' := nI n) d2 (br_f (nI_pos ht2) (br_t (nI_lt (a := 3) (by omega) ht2) (yt_20 hn ⟨rfl, hJ⟩)))))
  · rw [e]
    have n3 : ¬ 3 < nI t := nI_nlt (a := 3) (by omega) (by decide)
    by_cases hn0 : n = 0
    · unfold wpX_deploy wpY_deploy
      refine xw_in (n := 4) ht (by decide) (br_f (by decide) (br_t (by rw [d1, hn0]; rfl) (nm_r (e' := nI n) d2 (br_f (nI_pos ht2) (br_f n3 (br_t (by rw [hn0]; rfl) (yt_20 hn ⟨rfl, hJ⟩)))))))
    · have hoX : ∀ i, i < 16 → xdo i = nI (o i) ∧ o i < 24 := fun i hi => ⟨(hd i hi).2.1, (hd i hi).1⟩
      have hoY : ∀ i, i < 16 → yop (64 + i) = nI (o i) ∧ o i < 24 := fun i hi => ⟨(hd i hi).2.2.1, (hd i hi).1⟩
      have haY : ∀ i, i < 16 → yar (64 + i) = xdc i := fun i hi => (hd i hi).2.2.2
      refine xt_deploy (o := o) (a := xdc) hn (by omega) ht d1 hoX (fun _ _ => rfl) (fun H he fr ta i hH hi hb hno => ?_) (fun H he fr ta ch so sr sn sx sc sd se sk hH hg hL hF => ?_)
      · refine yt_deploy (H := H) hn (by omega) ht d2 hoY haY hH (fun pa j hj hbj hnj => ?_) (fun pa op ar hgj => absurd hb (hgj i hi))
        have eij : j = i := by
          rcases Nat.lt_trichotomy j i with z | z | z
          · exact absurd hbj (hno j z)
          · exact z
          · exact absurd hb (hnj i z)
        rw [eij]
        exact ⟨rfl, hbad he fr ta pa⟩
      · refine yt_deploy (H := H) hn (by omega) ht d2 hoY haY hH (fun pa j hj hbj => absurd hbj (hg j hj)) (fun pa op ar _ k1 k2 => ⟨rfl, ?_⟩)
        refine ⟨hM, hS, hQ, ⟨0, by omega, rfl, ?_, o, fun j hj => ?_⟩, fun t' ht' => ?_⟩
        · rw [pk_un (by omega), pk_us]
        · obtain ⟨f1, f2⟩ := k2 (64 + j) (by omega)
          rw [f1, f2]
          exact hd j hj
        · by_cases et : t' = t
          · rw [et]
            refine Or.inr ⟨pk_us, n, o, xdc, rc_R o xdc n, by omega, hn, pk_us, fun i hi => ?_, tr_T hn (by omega) (fun i hi => (hd i (by omega)).1) hH hg hL⟩
            obtain ⟨f1, f2⟩ := k1 i hi
            rw [f1, f2]
            exact ⟨(hoY i (by omega)).1, haY i (by omega)⟩
          · refine rl_t_congr (hT t' ht') (fun i hi => k2 _ (by omega)) (by rw [pk_un et, pk_un (by omega)]) (pk_un et) (fun i hi => hF _ (by omega))
end
